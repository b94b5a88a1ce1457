/-! walks, printed by mk.py -/
def X_spread0_b97 (Z : xF → xF → Prop) (k2 : Int32 → xF → xF → Prop) (E : xF) (N : xF) (x1 : Int32) (s1 : Int32) (s2 : Int32) : Prop := vp_in s1 60 ∧ (∀ E_97 : xF, E_97 = xs E 15 s1.toNatClampNeg s2 → (∀ x1_98 : Int32, x1_98 = x1 + (1 : Int32) → (k2 x1_98 E_97 N)))
set_option maxRecDepth 10000 in
theorem wk_X_spread0_b97 {κ : Cx} {τ : xT} {Z : xF → xF → Prop} {k2 : Int32 → xF → xF → Prop} {E : xF} {N : xF} {x1 : Int32} {s1 : Int32} {s2 : Int32} (o : OKc κ (wdX τ) 3 b_X_spread0 "StateExplorer" none (xR 22)) (hk2 : ∀ (x1 : Int32) (E : xF) (N : xF), k2 x1 E N → GW κ (wdX τ) 3 (0, 0) (xMQ κ (wdX τ) (xR 22) (z12_v Z)) (E, N) 2 [(0, .ref (τ.2.2 30)), (1, .int x1)] []) (h : X_spread0_b97 Z k2 E N x1 s1 s2) : GW κ (wdX τ) 3 (0, 0) (xMQ κ (wdX τ) (xR 22) (z12_v Z)) (E, N) 97 [(0, .ref (τ.2.2 30)), (1, .int x1)] [.int s2, .int s1, .ref (τ.2.2 15)] := by
  unfold X_spread0_b97 at h
  have hi := h.1
  have h := h.2
  refine gE_ast_zeros (pc := 97) o hi d_X_spread0_97 (fun E_97 eE_97 => ?_)
  have h := h E_97 eE_97
  refine gw_iincN (pc := 98) (c := (1 : Int32)) (lw := fun x1_98 => [(1, .int x1_98), (0, .ref (τ.2.2 30))]) o d_X_spread0_98 (by decide) 1 rfl (by decide) (fun _ => rfl) (fun x1_98 ex1_98 => ?_)
  have h := h x1_98 ex1_98
  refine gw_goto (pc := 101) (tgt := 2) o d_X_spread0_101 (by decide) ?_
  exact gw_sub (lv' := [(0, .ref (τ.2.2 30)), (1, .int x1_98)]) [1, 0] rfl (hk2 _ _ _ h)
def X_spread0_b73 (Z : xF → xF → Prop) (k2 : Int32 → xF → xF → Prop) (E : xF) (N : xF) (x1 : Int32) (x2 : Int32) (s1 : Int32) (s2 : Int32) : Prop := vp_in s1 60 ∧ (∀ E_73 : xF, E_73 = xs E 14 s1.toNatClampNeg s2 → (((x2 = 0) → (X_spread0_b97 Z k2 E_73 N x1 x1 (0 : Int32))) ∧ (¬ (x2 = 0) → (vp_in x1 60 ∧ (w_X_not E_73 N (E_73 14 x1.toNatClampNeg) (fun r90 E_90 N_90 => X_spread0_b97 Z k2 E_90 N_90 x1 x1 r90))))))
set_option maxRecDepth 10000 in
theorem wk_X_spread0_b73 {κ : Cx} {τ : xT} {Z : xF → xF → Prop} {k2 : Int32 → xF → xF → Prop} {E : xF} {N : xF} {x1 : Int32} {x2 : Int32} {s1 : Int32} {s2 : Int32} (o : OKc κ (wdX τ) 3 b_X_spread0 "StateExplorer" none (xR 22)) (hk2 : ∀ (x1 : Int32) (E : xF) (N : xF), k2 x1 E N → GW κ (wdX τ) 3 (0, 0) (xMQ κ (wdX τ) (xR 22) (z12_v Z)) (E, N) 2 [(0, .ref (τ.2.2 30)), (1, .int x1)] []) (h : X_spread0_b73 Z k2 E N x1 x2 s1 s2) : GW κ (wdX τ) 3 (0, 0) (xMQ κ (wdX τ) (xR 22) (z12_v Z)) (E, N) 73 [(0, .ref (τ.2.2 30)), (1, .int x1), (2, .int x2)] [.int s2, .int s1, .ref (τ.2.2 14)] := by
  unfold X_spread0_b73 at h
  have hi := h.1
  have h := h.2
  refine gE_ast_ones (pc := 73) o hi d_X_spread0_73 (fun E_73 eE_73 => ?_)
  have h := h E_73 eE_73
  refine gw_aload_n (pc := 74) o d_X_spread0_74 rfl 0 rfl ?_
  refine gE_get_zeros (pc := 75) o q_95 d_X_spread0_75 ?_
  refine gw_iload_n (pc := 78) o d_X_spread0_78 rfl 1 rfl ?_
  refine gw_iload_n (pc := 79) o d_X_spread0_79 rfl 2 rfl ?_
  refine gw_if_eq (pc := 80) (tgt := 96) o d_X_spread0_80 (by decide) (fun hc => ?_) (fun hc => ?_)
  · have h := h.1 hc
    refine gw_iconst (pc := 96) (v := (0 : Int32)) o d_X_spread0_96 (by decide) ?_
    exact gw_sub (lv' := [(0, .ref (τ.2.2 30)), (1, .int x1)]) [0, 1] rfl (wk_X_spread0_b97 o hk2 h)
  · have h := h.2 hc
    refine gw_aload_n (pc := 83) o d_X_spread0_83 rfl 0 rfl ?_
    refine gw_aload_n (pc := 84) o d_X_spread0_84 rfl 0 rfl ?_
    refine gE_get_ones (pc := 85) o q_94 d_X_spread0_85 ?_
    refine gw_iload_n (pc := 88) o d_X_spread0_88 rfl 1 rfl ?_
    have hi := h.1
    have h := h.2
    refine gE_ald_ones (pc := 89) o hi d_X_spread0_89 ?_
    refine gw_callV (pc := 90) (b := τ.2.2 30) (As := [.int (E_73 14 x1.toNatClampNeg)]) (st := [.int x1, .ref (τ.2.2 15)]) o (ct_X_not o.hD h) mi_X_not q_236 q_238 qs_7 0 rfl rfl (xRo_of (by omega) (by decide)) rfl rfl (Nat.le_of_ble_eq_true rfl) d_X_spread0_90 (kk_12_i rfl (fun r90 E_90 N_90 h => ?_))
    refine gw_goto (pc := 93) (tgt := 97) o d_X_spread0_93 (by decide) ?_
    exact gw_sub (lv' := [(0, .ref (τ.2.2 30)), (1, .int x1)]) [0, 1] rfl (wk_X_spread0_b97 o hk2 h)
def X_spread0_b70 (Z : xF → xF → Prop) (k2 : Int32 → xF → xF → Prop) (E : xF) (N : xF) (x1 : Int32) (x2 : Int32) (s1 : Int32) (s3 : Int32) : Prop := w_X_variable E N s3 (fun r70 N_70 => X_spread0_b73 Z k2 E N_70 x1 x2 s1 r70)
set_option maxRecDepth 10000 in
theorem wk_X_spread0_b70 {κ : Cx} {τ : xT} {Z : xF → xF → Prop} {k2 : Int32 → xF → xF → Prop} {E : xF} {N : xF} {x1 : Int32} {x2 : Int32} {s1 : Int32} {s3 : Int32} (o : OKc κ (wdX τ) 3 b_X_spread0 "StateExplorer" none (xR 22)) (hk2 : ∀ (x1 : Int32) (E : xF) (N : xF), k2 x1 E N → GW κ (wdX τ) 3 (0, 0) (xMQ κ (wdX τ) (xR 22) (z12_v Z)) (E, N) 2 [(0, .ref (τ.2.2 30)), (1, .int x1)] []) (h : X_spread0_b70 Z k2 E N x1 x2 s1 s3) : GW κ (wdX τ) 3 (0, 0) (xMQ κ (wdX τ) (xR 22) (z12_v Z)) (E, N) 70 [(0, .ref (τ.2.2 30)), (1, .int x1), (2, .int x2)] [.int s3, .ref (τ.2.2 30), .int s1, .ref (τ.2.2 14)] := by
  unfold X_spread0_b70 at h
  refine gw_callV (pc := 70) (b := τ.2.2 30) (As := [.int s3]) (st := [.int s1, .ref (τ.2.2 14)]) o (ct_X_variable o.hD h) mi_X_variable q_189 q_191 qs_2 0 rfl rfl (xRo_of (by omega) (by decide)) rfl rfl (Nat.le_of_ble_eq_true rfl) d_X_spread0_70 (kk_2_i rfl (fun r70 N_70 h => ?_))
  exact gw_sub (lv' := [(0, .ref (τ.2.2 30)), (1, .int x1), (2, .int x2)]) [0, 1, 2] rfl (wk_X_spread0_b73 o hk2 h)
def X_spread0_b25 (Z : xF → xF → Prop) (k2 : Int32 → xF → xF → Prop) (E : xF) (N : xF) (x1 : Int32) (s0 : Int32) : Prop := ((s0 = 0) → (X_spread0_b73 Z k2 E N x1 s0 x1 (0 : Int32))) ∧ (¬ (s0 = 0) → (vp_in x1 60 ∧ ((((E 6 x1.toNatClampNeg) = 0) → (vp_in x1 60 ∧ (w_X_inputVariable (E 7 x1.toNatClampNeg) (fun r55 => X_spread0_b70 Z k2 E N x1 s0 x1 r55)))) ∧ (¬ ((E 6 x1.toNatClampNeg) = 0) → (vp_in x1 60 ∧ (w_X_variableOf (E 7 x1.toNatClampNeg) (fun r67 => X_spread0_b70 Z k2 E N x1 s0 x1 r67)))))))
set_option maxRecDepth 10000 in
theorem wk_X_spread0_b25 {κ : Cx} {τ : xT} {Z : xF → xF → Prop} {k2 : Int32 → xF → xF → Prop} {E : xF} {N : xF} {x1 : Int32} {s0 : Int32} (o : OKc κ (wdX τ) 3 b_X_spread0 "StateExplorer" none (xR 22)) (hk2 : ∀ (x1 : Int32) (E : xF) (N : xF), k2 x1 E N → GW κ (wdX τ) 3 (0, 0) (xMQ κ (wdX τ) (xR 22) (z12_v Z)) (E, N) 2 [(0, .ref (τ.2.2 30)), (1, .int x1)] []) (h : X_spread0_b25 Z k2 E N x1 s0) : GW κ (wdX τ) 3 (0, 0) (xMQ κ (wdX τ) (xR 22) (z12_v Z)) (E, N) 25 [(0, .ref (τ.2.2 30)), (1, .int x1)] [.int s0] := by
  unfold X_spread0_b25 at h
  refine gw_istore_n (pc := 25) (lv' := [(2, .int s0), (0, .ref (τ.2.2 30)), (1, .int x1)]) o d_X_spread0_25 rfl (by decide) rfl ?_
  refine gw_aload_n (pc := 26) o d_X_spread0_26 rfl 1 rfl ?_
  refine gE_get_ones (pc := 27) o q_94 d_X_spread0_27 ?_
  refine gw_iload_n (pc := 30) o d_X_spread0_30 rfl 2 rfl ?_
  refine gw_iload_n (pc := 31) o d_X_spread0_31 rfl 0 rfl ?_
  refine gw_if_ne (pc := 32) (tgt := 39) o d_X_spread0_32 (by decide) (fun hc => ?_) (fun hc => ?_)
  · have h := h.2 hc
    refine gw_aload_n (pc := 39) o d_X_spread0_39 rfl 1 rfl ?_
    refine gw_aload_n (pc := 40) o d_X_spread0_40 rfl 1 rfl ?_
    refine gE_get_sorts (pc := 41) o q_86 d_X_spread0_41 ?_
    refine gw_iload_n (pc := 44) o d_X_spread0_44 rfl 2 rfl ?_
    have hi := h.1
    have h := h.2
    refine gE_ald_sorts (pc := 45) o hi d_X_spread0_45 ?_
    refine gw_if_ne (pc := 46) (tgt := 61) o d_X_spread0_46 (by decide) (fun hc => ?_) (fun hc => ?_)
    · have h := h.2 hc
      refine gw_aload_n (pc := 61) o d_X_spread0_61 rfl 1 rfl ?_
      refine gE_get_numbers (pc := 62) o q_87 d_X_spread0_62 ?_
      refine gw_iload_n (pc := 65) o d_X_spread0_65 rfl 2 rfl ?_
      have hi := h.1
      have h := h.2
      refine gE_ald_numbers (pc := 66) o hi d_X_spread0_66 ?_
      refine gw_callS (pc := 67) (As := [.int (E 7 x1.toNatClampNeg)]) (st := [.ref (τ.2.2 30), .int x1, .ref (τ.2.2 14)]) o (ct_X_variableOf o.hD h) mi_X_variableOf q_186 q_187 (xRo_of (by omega) (by decide)) rfl rfl (Nat.le_of_ble_eq_true rfl) d_X_spread0_67 (kk_p_i rfl (fun r67 h => ?_))
      exact gw_sub (lv' := [(0, .ref (τ.2.2 30)), (1, .int x1), (2, .int s0)]) [1, 2, 0] rfl (wk_X_spread0_b70 o hk2 h)
    · have h := h.1 hc
      refine gw_aload_n (pc := 49) o d_X_spread0_49 rfl 1 rfl ?_
      refine gE_get_numbers (pc := 50) o q_87 d_X_spread0_50 ?_
      refine gw_iload_n (pc := 53) o d_X_spread0_53 rfl 2 rfl ?_
      have hi := h.1
      have h := h.2
      refine gE_ald_numbers (pc := 54) o hi d_X_spread0_54 ?_
      refine gw_callS (pc := 55) (As := [.int (E 7 x1.toNatClampNeg)]) (st := [.ref (τ.2.2 30), .int x1, .ref (τ.2.2 14)]) o (ct_X_inputVariable o.hD h) mi_X_inputVariable q_183 q_184 (xRo_of (by omega) (by decide)) rfl rfl (Nat.le_of_ble_eq_true rfl) d_X_spread0_55 (kk_p_i rfl (fun r55 h => ?_))
      refine gw_goto (pc := 58) (tgt := 70) o d_X_spread0_58 (by decide) ?_
      exact gw_sub (lv' := [(0, .ref (τ.2.2 30)), (1, .int x1), (2, .int s0)]) [1, 2, 0] rfl (wk_X_spread0_b70 o hk2 h)
  · have h := h.1 hc
    refine gw_iconst (pc := 35) (v := (0 : Int32)) o d_X_spread0_35 (by decide) ?_
    refine gw_goto (pc := 36) (tgt := 73) o d_X_spread0_36 (by decide) ?_
    exact gw_sub (lv' := [(0, .ref (τ.2.2 30)), (1, .int x1), (2, .int s0)]) [1, 2, 0] rfl (wk_X_spread0_b73 o hk2 h)
def X_spread0_b149 (Z : xF → xF → Prop) (k106 : Int32 → xF → xF → Prop) (k114 : Int32 → Int32 → xF → xF → Prop) (E : xF) (N : xF) (x2 : Int32) (s0 : Int32) : Prop := ∀ x2_150 : Int32, x2_150 = x2 + (1 : Int32) → (k114 s0 x2_150 E N)
set_option maxRecDepth 10000 in
theorem wk_X_spread0_b149 {κ : Cx} {τ : xT} {Z : xF → xF → Prop} {k106 : Int32 → xF → xF → Prop} {k114 : Int32 → Int32 → xF → xF → Prop} {E : xF} {N : xF} {x2 : Int32} {s0 : Int32} (o : OKc κ (wdX τ) 3 b_X_spread0 "StateExplorer" none (xR 22)) (hk106 : ∀ (x1 : Int32) (E : xF) (N : xF), k106 x1 E N → GW κ (wdX τ) 3 (0, 0) (xMQ κ (wdX τ) (xR 22) (z12_v Z)) (E, N) 106 [(0, .ref (τ.2.2 30)), (1, .int x1)] []) (hk114 : ∀ (x1 : Int32) (x2 : Int32) (E : xF) (N : xF), k114 x1 x2 E N → GW κ (wdX τ) 3 (0, 0) (xMQ κ (wdX τ) (xR 22) (z12_v Z)) (E, N) 114 [(0, .ref (τ.2.2 30)), (1, .int x1), (2, .int x2)] []) (h : X_spread0_b149 Z k106 k114 E N x2 s0) : GW κ (wdX τ) 3 (0, 0) (xMQ κ (wdX τ) (xR 22) (z12_v Z)) (E, N) 149 [(0, .ref (τ.2.2 30)), (2, .int x2)] [.int s0] := by
  unfold X_spread0_b149 at h
  refine gw_istore_n (pc := 149) (lv' := [(1, .int s0), (0, .ref (τ.2.2 30)), (2, .int x2)]) o d_X_spread0_149 rfl (by decide) rfl ?_
  refine gw_iincN (pc := 150) (c := (1 : Int32)) (lw := fun x2_150 => [(2, .int x2_150), (1, .int s0), (0, .ref (τ.2.2 30))]) o d_X_spread0_150 (by decide) 2 rfl (by decide) (fun _ => rfl) (fun x2_150 ex2_150 => ?_)
  have h := h x2_150 ex2_150
  refine gw_goto (pc := 153) (tgt := 114) o d_X_spread0_153 (by decide) ?_
  exact gw_sub (lv' := [(0, .ref (τ.2.2 30)), (1, .int s0), (2, .int x2_150)]) [2, 1, 0] rfl (hk114 _ _ _ _ h)
def X_spread0_b140 (Z : xF → xF → Prop) (k106 : Int32 → xF → xF → Prop) (k114 : Int32 → Int32 → xF → xF → Prop) (E : xF) (N : xF) (x1 : Int32) (x2 : Int32) : Prop := ((x1 = 0) → (X_spread0_b149 Z k106 k114 E N x2 (0 : Int32))) ∧ (¬ (x1 = 0) → (X_spread0_b149 Z k106 k114 E N x2 (1 : Int32)))
set_option maxRecDepth 10000 in
theorem wk_X_spread0_b140 {κ : Cx} {τ : xT} {Z : xF → xF → Prop} {k106 : Int32 → xF → xF → Prop} {k114 : Int32 → Int32 → xF → xF → Prop} {E : xF} {N : xF} {x1 : Int32} {x2 : Int32} (o : OKc κ (wdX τ) 3 b_X_spread0 "StateExplorer" none (xR 22)) (hk106 : ∀ (x1 : Int32) (E : xF) (N : xF), k106 x1 E N → GW κ (wdX τ) 3 (0, 0) (xMQ κ (wdX τ) (xR 22) (z12_v Z)) (E, N) 106 [(0, .ref (τ.2.2 30)), (1, .int x1)] []) (hk114 : ∀ (x1 : Int32) (x2 : Int32) (E : xF) (N : xF), k114 x1 x2 E N → GW κ (wdX τ) 3 (0, 0) (xMQ κ (wdX τ) (xR 22) (z12_v Z)) (E, N) 114 [(0, .ref (τ.2.2 30)), (1, .int x1), (2, .int x2)] []) (h : X_spread0_b140 Z k106 k114 E N x1 x2) : GW κ (wdX τ) 3 (0, 0) (xMQ κ (wdX τ) (xR 22) (z12_v Z)) (E, N) 140 [(0, .ref (τ.2.2 30)), (1, .int x1), (2, .int x2)] [] := by
  unfold X_spread0_b140 at h
  refine gw_iload_n (pc := 140) o d_X_spread0_140 rfl 1 rfl ?_
  refine gw_if_eq (pc := 141) (tgt := 148) o d_X_spread0_141 (by decide) (fun hc => ?_) (fun hc => ?_)
  · have h := h.1 hc
    refine gw_iconst (pc := 148) (v := (0 : Int32)) o d_X_spread0_148 (by decide) ?_
    exact gw_sub (lv' := [(0, .ref (τ.2.2 30)), (2, .int x2)]) [0, 2] rfl (wk_X_spread0_b149 o hk106 hk114 h)
  · have h := h.2 hc
    refine gw_iconst (pc := 144) (v := (1 : Int32)) o d_X_spread0_144 (by decide) ?_
    refine gw_goto (pc := 145) (tgt := 149) o d_X_spread0_145 (by decide) ?_
    exact gw_sub (lv' := [(0, .ref (τ.2.2 30)), (2, .int x2)]) [0, 2] rfl (wk_X_spread0_b149 o hk106 hk114 h)
def X_spread0_b114 (Z : xF → xF → Prop) (k106 : Int32 → xF → xF → Prop) (k114 : Int32 → Int32 → xF → xF → Prop) (E : xF) (N : xF) (x1 : Int32) (x2 : Int32) : Prop := (((E 30 1) ≤ x2) → (k106 x1 E N)) ∧ (¬ ((E 30 1) ≤ x2) → (vp_in x2 60 ∧ ((((E 6 x2.toNatClampNeg) < (2 : Int32)) → (X_spread0_b140 Z k106 k114 E N x1 x2)) ∧ (¬ ((E 6 x2.toNatClampNeg) < (2 : Int32)) → (w_X_spread1 E N x2 (fun r134 E_134 N_134 => ((r134 = 0) → (X_spread0_b140 Z k106 k114 E_134 N_134 x1 x2)) ∧ (¬ (r134 = 0) → (X_spread0_b149 Z k106 k114 E_134 N_134 x2 (1 : Int32)))))))))
set_option maxRecDepth 10000 in
theorem wk_X_spread0_b114 {κ : Cx} {τ : xT} {Z : xF → xF → Prop} {k106 : Int32 → xF → xF → Prop} {k114 : Int32 → Int32 → xF → xF → Prop} {E : xF} {N : xF} {x1 : Int32} {x2 : Int32} (o : OKc κ (wdX τ) 3 b_X_spread0 "StateExplorer" none (xR 22)) (hk106 : ∀ (x1 : Int32) (E : xF) (N : xF), k106 x1 E N → GW κ (wdX τ) 3 (0, 0) (xMQ κ (wdX τ) (xR 22) (z12_v Z)) (E, N) 106 [(0, .ref (τ.2.2 30)), (1, .int x1)] []) (hk114 : ∀ (x1 : Int32) (x2 : Int32) (E : xF) (N : xF), k114 x1 x2 E N → GW κ (wdX τ) 3 (0, 0) (xMQ κ (wdX τ) (xR 22) (z12_v Z)) (E, N) 114 [(0, .ref (τ.2.2 30)), (1, .int x1), (2, .int x2)] []) (h : X_spread0_b114 Z k106 k114 E N x1 x2) : GW κ (wdX τ) 3 (0, 0) (xMQ κ (wdX τ) (xR 22) (z12_v Z)) (E, N) 114 [(0, .ref (τ.2.2 30)), (1, .int x1), (2, .int x2)] [] := by
  unfold X_spread0_b114 at h
  refine gw_iload_n (pc := 114) o d_X_spread0_114 rfl 2 rfl ?_
  refine gw_aload_n (pc := 115) o d_X_spread0_115 rfl 0 rfl ?_
  refine gE_get_gates (pc := 116) o q_81 d_X_spread0_116 ?_
  refine gw_icmp_ge (pc := 119) (tgt := 156) o d_X_spread0_119 (by decide) (fun hc => ?_) (fun hc => ?_)
  · have h := h.1 hc
    refine gw_goto (pc := 156) (tgt := 106) o d_X_spread0_156 (by decide) ?_
    exact gw_sub (lv' := [(0, .ref (τ.2.2 30)), (1, .int x1)]) [0, 1] rfl (hk106 _ _ _ h)
  · have h := h.2 hc
    refine gw_aload_n (pc := 122) o d_X_spread0_122 rfl 0 rfl ?_
    refine gE_get_sorts (pc := 123) o q_86 d_X_spread0_123 ?_
    refine gw_iload_n (pc := 126) o d_X_spread0_126 rfl 2 rfl ?_
    have hi := h.1
    have h := h.2
    refine gE_ald_sorts (pc := 127) o hi d_X_spread0_127 ?_
    refine gw_iconst (pc := 128) (v := (2 : Int32)) o d_X_spread0_128 (by decide) ?_
    refine gw_icmp_lt (pc := 129) (tgt := 140) o d_X_spread0_129 (by decide) (fun hc => ?_) (fun hc => ?_)
    · have h := h.1 hc
      exact gw_sub (lv' := [(0, .ref (τ.2.2 30)), (1, .int x1), (2, .int x2)]) [0, 1, 2] rfl (wk_X_spread0_b140 o hk106 hk114 h)
    · have h := h.2 hc
      refine gw_aload_n (pc := 132) o d_X_spread0_132 rfl 0 rfl ?_
      refine gw_iload_n (pc := 133) o d_X_spread0_133 rfl 2 rfl ?_
      refine gw_callV (pc := 134) (b := τ.2.2 30) (As := [.int x2]) (st := []) o (ct_X_spread1 o.hD h) mi_X_spread1 q_269 q_271 qs_9 0 rfl rfl (xRo_of (by omega) (by decide)) rfl rfl (Nat.le_of_ble_eq_true rfl) d_X_spread0_134 (kk_12_i rfl (fun r134 E_134 N_134 h => ?_))
      refine gw_if_ne (pc := 137) (tgt := 144) o d_X_spread0_137 (by decide) (fun hc => ?_) (fun hc => ?_)
      · have h := h.2 hc
        refine gw_iconst (pc := 144) (v := (1 : Int32)) o d_X_spread0_144 (by decide) ?_
        refine gw_goto (pc := 145) (tgt := 149) o d_X_spread0_145 (by decide) ?_
        exact gw_sub (lv' := [(0, .ref (τ.2.2 30)), (2, .int x2)]) [0, 2] rfl (wk_X_spread0_b149 o hk106 hk114 h)
      · have h := h.1 hc
        exact gw_sub (lv' := [(0, .ref (τ.2.2 30)), (1, .int x1), (2, .int x2)]) [0, 1, 2] rfl (wk_X_spread0_b140 o hk106 hk114 h)
def X_spread0_L114 (Z : xF → xF → Prop) (k106 : Int32 → xF → xF → Prop) (E : xF) (N : xF) (x1 : Int32) (x2 : Int32) : Prop := LOOP4 (fun k114 x1 x2 E N => X_spread0_b114 Z k106 k114 E N x1 x2) x1 x2 E N
theorem wk_X_spread0_L114 {κ : Cx} {τ : xT} {Z : xF → xF → Prop} {k106 : Int32 → xF → xF → Prop} {E : xF} {N : xF} {x1 : Int32} {x2 : Int32} (o : OKc κ (wdX τ) 3 b_X_spread0 "StateExplorer" none (xR 22)) (hk106 : ∀ (x1 : Int32) (E : xF) (N : xF), k106 x1 E N → GW κ (wdX τ) 3 (0, 0) (xMQ κ (wdX τ) (xR 22) (z12_v Z)) (E, N) 106 [(0, .ref (τ.2.2 30)), (1, .int x1)] []) (h : X_spread0_L114 Z k106 E N x1 x2) : GW κ (wdX τ) 3 (0, 0) (xMQ κ (wdX τ) (xR 22) (z12_v Z)) (E, N) 114 [(0, .ref (τ.2.2 30)), (1, .int x1), (2, .int x2)] [] := by
  unfold X_spread0_L114 at h
  exact LOOP4.use (G := fun x1 x2 E N => GW κ (wdX τ) 3 (0, 0) (xMQ κ (wdX τ) (xR 22) (z12_v Z)) (E, N) 114 [(0, .ref (τ.2.2 30)), (1, .int x1), (2, .int x2)] []) (fun k114 x1 x2 E N hk114 h => wk_X_spread0_b114 o hk106 hk114 h) h
def X_spread0_b166 (Z : xF → xF → Prop) (k166 : Int32 → xF → xF → Prop) (E : xF) (N : xF) (x2 : Int32) : Prop := (((E 30 1) ≤ x2) → (Z E N)) ∧ (¬ ((E 30 1) ≤ x2) → (vp_in x2 60 ∧ (vp_in x2 60 ∧ (w_X_or E N (E 14 x2.toNatClampNeg) (E 15 x2.toNatClampNeg) (fun r192 E_192 N_192 => ∀ E_195 : xF, E_195 = xs E_192 24 (0 : Int32).toNatClampNeg r192 → (w_X_and E_195 N_192 (E_195 30 20) (E_195 24 (0 : Int32).toNatClampNeg) (fun r208 E_208 N_208 => ∀ E_211 : xF, E_211 = xs E_208 30 20 r208 → (∀ x2_214 : Int32, x2_214 = x2 + (1 : Int32) → (k166 x2_214 E_211 N_208)))))))))
set_option maxRecDepth 10000 in
theorem wk_X_spread0_b166 {κ : Cx} {τ : xT} {Z : xF → xF → Prop} {k166 : Int32 → xF → xF → Prop} {E : xF} {N : xF} {x2 : Int32} (o : OKc κ (wdX τ) 3 b_X_spread0 "StateExplorer" none (xR 22)) (hk166 : ∀ (x2 : Int32) (E : xF) (N : xF), k166 x2 E N → GW κ (wdX τ) 3 (0, 0) (xMQ κ (wdX τ) (xR 22) (z12_v Z)) (E, N) 166 [(0, .ref (τ.2.2 30)), (2, .int x2)] []) (h : X_spread0_b166 Z k166 E N x2) : GW κ (wdX τ) 3 (0, 0) (xMQ κ (wdX τ) (xR 22) (z12_v Z)) (E, N) 166 [(0, .ref (τ.2.2 30)), (2, .int x2)] [] := by
  unfold X_spread0_b166 at h
  refine gw_iload_n (pc := 166) o d_X_spread0_166 rfl 1 rfl ?_
  refine gw_aload_n (pc := 167) o d_X_spread0_167 rfl 0 rfl ?_
  refine gE_get_gates (pc := 168) o q_81 d_X_spread0_168 ?_
  refine gw_icmp_ge (pc := 171) (tgt := 220) o d_X_spread0_171 (by decide) (fun hc => ?_) (fun hc => ?_)
  · have h := h.1 hc
    exact gw_vret (pc := 220) o ⟨Nat.le_refl _, Nat.le_refl _⟩ (z12_v.mk h) d_X_spread0_220
  · have h := h.2 hc
    refine gw_aload_n (pc := 174) o d_X_spread0_174 rfl 0 rfl ?_
    refine gE_get_spare (pc := 175) o q_104 d_X_spread0_175 ?_
    refine gw_iconst (pc := 178) (v := (0 : Int32)) o d_X_spread0_178 (by decide) ?_
    refine gw_aload_n (pc := 179) o d_X_spread0_179 rfl 0 rfl ?_
    refine gw_aload_n (pc := 180) o d_X_spread0_180 rfl 0 rfl ?_
    refine gE_get_ones (pc := 181) o q_94 d_X_spread0_181 ?_
    refine gw_iload_n (pc := 184) o d_X_spread0_184 rfl 1 rfl ?_
    have hi := h.1
    have h := h.2
    refine gE_ald_ones (pc := 185) o hi d_X_spread0_185 ?_
    refine gw_aload_n (pc := 186) o d_X_spread0_186 rfl 0 rfl ?_
    refine gE_get_zeros (pc := 187) o q_95 d_X_spread0_187 ?_
    refine gw_iload_n (pc := 190) o d_X_spread0_190 rfl 1 rfl ?_
    have hi := h.1
    have h := h.2
    refine gE_ald_zeros (pc := 191) o hi d_X_spread0_191 ?_
    refine gw_callV (pc := 192) (b := τ.2.2 30) (As := [.int (E 14 x2.toNatClampNeg), .int (E 15 x2.toNatClampNeg)]) (st := [.int (0 : Int32), .ref (τ.2.2 24)]) o (ct_X_or o.hD h) mi_X_or q_277 q_279 qs_11 0 rfl rfl (xRo_of (by omega) (by decide)) rfl rfl (Nat.le_of_ble_eq_true rfl) d_X_spread0_192 (kk_12_i rfl (fun r192 E_192 N_192 h => ?_))
    refine gE_ast_spare (pc := 195) o (by unfold vp_in; decide) d_X_spread0_195 (fun E_195 eE_195 => ?_)
    have h := h E_195 eE_195
    refine gw_aload_n (pc := 196) o d_X_spread0_196 rfl 0 rfl ?_
    refine gw_aload_n (pc := 197) o d_X_spread0_197 rfl 0 rfl ?_
    refine gw_aload_n (pc := 198) o d_X_spread0_198 rfl 0 rfl ?_
    refine gE_get_settles (pc := 199) o q_100 d_X_spread0_199 ?_
    refine gw_aload_n (pc := 202) o d_X_spread0_202 rfl 0 rfl ?_
    refine gE_get_spare (pc := 203) o q_104 d_X_spread0_203 ?_
    refine gw_iconst (pc := 206) (v := (0 : Int32)) o d_X_spread0_206 (by decide) ?_
    refine gE_ald_spare (pc := 207) o (by unfold vp_in; decide) d_X_spread0_207 ?_
    refine gw_callV (pc := 208) (b := τ.2.2 30) (As := [.int (E_195 30 20), .int (E_195 24 (0 : Int32).toNatClampNeg)]) (st := [.ref (τ.2.2 30)]) o (ct_X_and o.hD h) mi_X_and q_273 q_275 qs_10 0 rfl rfl (xRo_of (by omega) (by decide)) rfl rfl (Nat.le_of_ble_eq_true rfl) d_X_spread0_208 (kk_12_i rfl (fun r208 E_208 N_208 h => ?_))
    refine gE_put_settles (pc := 211) o q_100 d_X_spread0_211 (fun E_211 eE_211 => ?_)
    have h := h E_211 eE_211
    refine gw_iincN (pc := 214) (c := (1 : Int32)) (lw := fun x2_214 => [(2, .int x2_214), (0, .ref (τ.2.2 30))]) o d_X_spread0_214 (by decide) 1 rfl (by decide) (fun _ => rfl) (fun x2_214 ex2_214 => ?_)
    have h := h x2_214 ex2_214
    refine gw_goto (pc := 217) (tgt := 166) o d_X_spread0_217 (by decide) ?_
    exact gw_sub (lv' := [(0, .ref (τ.2.2 30)), (2, .int x2_214)]) [1, 0] rfl (hk166 _ _ _ h)
def X_spread0_L166 (Z : xF → xF → Prop) (E : xF) (N : xF) (x2 : Int32) : Prop := LOOP3 (fun k166 x2 E N => X_spread0_b166 Z k166 E N x2) x2 E N
theorem wk_X_spread0_L166 {κ : Cx} {τ : xT} {Z : xF → xF → Prop} {E : xF} {N : xF} {x2 : Int32} (o : OKc κ (wdX τ) 3 b_X_spread0 "StateExplorer" none (xR 22)) (h : X_spread0_L166 Z E N x2) : GW κ (wdX τ) 3 (0, 0) (xMQ κ (wdX τ) (xR 22) (z12_v Z)) (E, N) 166 [(0, .ref (τ.2.2 30)), (2, .int x2)] [] := by
  unfold X_spread0_L166 at h
  exact LOOP3.use (G := fun x2 E N => GW κ (wdX τ) 3 (0, 0) (xMQ κ (wdX τ) (xR 22) (z12_v Z)) (E, N) 166 [(0, .ref (τ.2.2 30)), (2, .int x2)] []) (fun k166 x2 E N hk166 h => wk_X_spread0_b166 o hk166 h) h
def X_spread0_b106 (Z : xF → xF → Prop) (k106 : Int32 → xF → xF → Prop) (E : xF) (N : xF) (x1 : Int32) : Prop := ((x1 = 0) → (∀ E_161 : xF, E_161 = xs E 30 20 (1 : Int32) → (X_spread0_L166 Z E_161 N (0 : Int32)))) ∧ (¬ (x1 = 0) → (X_spread0_L114 Z k106 E N (0 : Int32) (0 : Int32)))
set_option maxRecDepth 10000 in
theorem wk_X_spread0_b106 {κ : Cx} {τ : xT} {Z : xF → xF → Prop} {k106 : Int32 → xF → xF → Prop} {E : xF} {N : xF} {x1 : Int32} (o : OKc κ (wdX τ) 3 b_X_spread0 "StateExplorer" none (xR 22)) (hk106 : ∀ (x1 : Int32) (E : xF) (N : xF), k106 x1 E N → GW κ (wdX τ) 3 (0, 0) (xMQ κ (wdX τ) (xR 22) (z12_v Z)) (E, N) 106 [(0, .ref (τ.2.2 30)), (1, .int x1)] []) (h : X_spread0_b106 Z k106 E N x1) : GW κ (wdX τ) 3 (0, 0) (xMQ κ (wdX τ) (xR 22) (z12_v Z)) (E, N) 106 [(0, .ref (τ.2.2 30)), (1, .int x1)] [] := by
  unfold X_spread0_b106 at h
  refine gw_iload_n (pc := 106) o d_X_spread0_106 rfl 1 rfl ?_
  refine gw_if_eq (pc := 107) (tgt := 159) o d_X_spread0_107 (by decide) (fun hc => ?_) (fun hc => ?_)
  · have h := h.1 hc
    refine gw_aload_n (pc := 159) o d_X_spread0_159 rfl 0 rfl ?_
    refine gw_iconst (pc := 160) (v := (1 : Int32)) o d_X_spread0_160 (by decide) ?_
    refine gE_put_settles (pc := 161) o q_100 d_X_spread0_161 (fun E_161 eE_161 => ?_)
    have h := h E_161 eE_161
    refine gw_iconst (pc := 164) (v := (0 : Int32)) o d_X_spread0_164 (by decide) ?_
    refine gw_istore_n (pc := 165) (lv' := [(2, .int (0 : Int32)), (0, .ref (τ.2.2 30)), (1, .int x1)]) o d_X_spread0_165 rfl (by decide) rfl ?_
    exact gw_sub (lv' := [(0, .ref (τ.2.2 30)), (2, .int (0 : Int32))]) [1, 0] rfl (wk_X_spread0_L166 o h)
  · have h := h.2 hc
    refine gw_iconst (pc := 110) (v := (0 : Int32)) o d_X_spread0_110 (by decide) ?_
    refine gw_istore_n (pc := 111) (lv' := [(1, .int (0 : Int32)), (0, .ref (τ.2.2 30))]) o d_X_spread0_111 rfl (by decide) rfl ?_
    refine gw_iconst (pc := 112) (v := (0 : Int32)) o d_X_spread0_112 (by decide) ?_
    refine gw_istore_n (pc := 113) (lv' := [(2, .int (0 : Int32)), (1, .int (0 : Int32)), (0, .ref (τ.2.2 30))]) o d_X_spread0_113 rfl (by decide) rfl ?_
    exact gw_sub (lv' := [(0, .ref (τ.2.2 30)), (1, .int (0 : Int32)), (2, .int (0 : Int32))]) [2, 1, 0] rfl (wk_X_spread0_L114 o hk106 h)
def X_spread0_L106 (Z : xF → xF → Prop) (E : xF) (N : xF) (x1 : Int32) : Prop := LOOP3 (fun k106 x1 E N => X_spread0_b106 Z k106 E N x1) x1 E N
theorem wk_X_spread0_L106 {κ : Cx} {τ : xT} {Z : xF → xF → Prop} {E : xF} {N : xF} {x1 : Int32} (o : OKc κ (wdX τ) 3 b_X_spread0 "StateExplorer" none (xR 22)) (h : X_spread0_L106 Z E N x1) : GW κ (wdX τ) 3 (0, 0) (xMQ κ (wdX τ) (xR 22) (z12_v Z)) (E, N) 106 [(0, .ref (τ.2.2 30)), (1, .int x1)] [] := by
  unfold X_spread0_L106 at h
  exact LOOP3.use (G := fun x1 E N => GW κ (wdX τ) 3 (0, 0) (xMQ κ (wdX τ) (xR 22) (z12_v Z)) (E, N) 106 [(0, .ref (τ.2.2 30)), (1, .int x1)] []) (fun k106 x1 E N hk106 h => wk_X_spread0_b106 o hk106 h) h
def X_spread0_b2 (Z : xF → xF → Prop) (k2 : Int32 → xF → xF → Prop) (E : xF) (N : xF) (x1 : Int32) : Prop := (((E 30 1) ≤ x1) → (X_spread0_L106 Z E N (1 : Int32))) ∧ (¬ ((E 30 1) ≤ x1) → (vp_in x1 60 ∧ ((((2 : Int32) ≤ (E 6 x1.toNatClampNeg)) → (X_spread0_b25 Z k2 E N x1 (0 : Int32))) ∧ (¬ ((2 : Int32) ≤ (E 6 x1.toNatClampNeg)) → (X_spread0_b25 Z k2 E N x1 (1 : Int32))))))
set_option maxRecDepth 10000 in
theorem wk_X_spread0_b2 {κ : Cx} {τ : xT} {Z : xF → xF → Prop} {k2 : Int32 → xF → xF → Prop} {E : xF} {N : xF} {x1 : Int32} (o : OKc κ (wdX τ) 3 b_X_spread0 "StateExplorer" none (xR 22)) (hk2 : ∀ (x1 : Int32) (E : xF) (N : xF), k2 x1 E N → GW κ (wdX τ) 3 (0, 0) (xMQ κ (wdX τ) (xR 22) (z12_v Z)) (E, N) 2 [(0, .ref (τ.2.2 30)), (1, .int x1)] []) (h : X_spread0_b2 Z k2 E N x1) : GW κ (wdX τ) 3 (0, 0) (xMQ κ (wdX τ) (xR 22) (z12_v Z)) (E, N) 2 [(0, .ref (τ.2.2 30)), (1, .int x1)] [] := by
  unfold X_spread0_b2 at h
  refine gw_iload_n (pc := 2) o d_X_spread0_2 rfl 1 rfl ?_
  refine gw_aload_n (pc := 3) o d_X_spread0_3 rfl 0 rfl ?_
  refine gE_get_gates (pc := 4) o q_81 d_X_spread0_4 ?_
  refine gw_icmp_ge (pc := 7) (tgt := 104) o d_X_spread0_7 (by decide) (fun hc => ?_) (fun hc => ?_)
  · have h := h.1 hc
    refine gw_iconst (pc := 104) (v := (1 : Int32)) o d_X_spread0_104 (by decide) ?_
    refine gw_istore_n (pc := 105) (lv' := [(1, .int (1 : Int32)), (0, .ref (τ.2.2 30))]) o d_X_spread0_105 rfl (by decide) rfl ?_
    exact gw_sub (lv' := [(0, .ref (τ.2.2 30)), (1, .int (1 : Int32))]) [1, 0] rfl (wk_X_spread0_L106 o h)
  · have h := h.2 hc
    refine gw_aload_n (pc := 10) o d_X_spread0_10 rfl 0 rfl ?_
    refine gE_get_sorts (pc := 11) o q_86 d_X_spread0_11 ?_
    refine gw_iload_n (pc := 14) o d_X_spread0_14 rfl 1 rfl ?_
    have hi := h.1
    have h := h.2
    refine gE_ald_sorts (pc := 15) o hi d_X_spread0_15 ?_
    refine gw_iconst (pc := 16) (v := (2 : Int32)) o d_X_spread0_16 (by decide) ?_
    refine gw_icmp_ge (pc := 17) (tgt := 24) o d_X_spread0_17 (by decide) (fun hc => ?_) (fun hc => ?_)
    · have h := h.1 hc
      refine gw_iconst (pc := 24) (v := (0 : Int32)) o d_X_spread0_24 (by decide) ?_
      exact gw_sub (lv' := [(0, .ref (τ.2.2 30)), (1, .int x1)]) [0, 1] rfl (wk_X_spread0_b25 o hk2 h)
    · have h := h.2 hc
      refine gw_iconst (pc := 20) (v := (1 : Int32)) o d_X_spread0_20 (by decide) ?_
      refine gw_goto (pc := 21) (tgt := 25) o d_X_spread0_21 (by decide) ?_
      exact gw_sub (lv' := [(0, .ref (τ.2.2 30)), (1, .int x1)]) [0, 1] rfl (wk_X_spread0_b25 o hk2 h)
def X_spread0_L2 (Z : xF → xF → Prop) (E : xF) (N : xF) (x1 : Int32) : Prop := LOOP3 (fun k2 x1 E N => X_spread0_b2 Z k2 E N x1) x1 E N
theorem wk_X_spread0_L2 {κ : Cx} {τ : xT} {Z : xF → xF → Prop} {E : xF} {N : xF} {x1 : Int32} (o : OKc κ (wdX τ) 3 b_X_spread0 "StateExplorer" none (xR 22)) (h : X_spread0_L2 Z E N x1) : GW κ (wdX τ) 3 (0, 0) (xMQ κ (wdX τ) (xR 22) (z12_v Z)) (E, N) 2 [(0, .ref (τ.2.2 30)), (1, .int x1)] [] := by
  unfold X_spread0_L2 at h
  exact LOOP3.use (G := fun x1 E N => GW κ (wdX τ) 3 (0, 0) (xMQ κ (wdX τ) (xR 22) (z12_v Z)) (E, N) 2 [(0, .ref (τ.2.2 30)), (1, .int x1)] []) (fun k2 x1 E N hk2 h => wk_X_spread0_b2 o hk2 h) h
def X_spread0_b0 (Z : xF → xF → Prop) (E : xF) (N : xF) : Prop := X_spread0_L2 Z E N (0 : Int32)
set_option maxRecDepth 10000 in
theorem wk_X_spread0_b0 {κ : Cx} {τ : xT} {Z : xF → xF → Prop} {E : xF} {N : xF} (o : OKc κ (wdX τ) 3 b_X_spread0 "StateExplorer" none (xR 22)) (h : X_spread0_b0 Z E N) : GW κ (wdX τ) 3 (0, 0) (xMQ κ (wdX τ) (xR 22) (z12_v Z)) (E, N) 0 [(0, .ref (τ.2.2 30))] [] := by
  unfold X_spread0_b0 at h
  refine gw_iconst (pc := 0) (v := (0 : Int32)) o d_X_spread0_0 (by decide) ?_
  refine gw_istore_n (pc := 1) (lv' := [(1, .int (0 : Int32)), (0, .ref (τ.2.2 30))]) o d_X_spread0_1 rfl (by decide) rfl ?_
  exact gw_sub (lv' := [(0, .ref (τ.2.2 30)), (1, .int (0 : Int32))]) [1, 0] rfl (wk_X_spread0_L2 o h)
def w_X_spread0  (E : xF) (N : xF)  (Z : xF → xF → Prop) : Prop := X_spread0_b0  Z E N
theorem ct_X_spread0 {l : Launch} {τ : xT} {E : xF} {N : xF}  {Z : xF → xF → Prop} (hD : xD (wdX τ)) (h : w_X_spread0  E N Z) : CT l (wdX τ) y_X_spread0 (.code y_X_spread0 b_X_spread0 3 none) (xR 22) [.ref (τ.2.2 30)] (E, N) (z12_v Z) := by
  subst_vars
  exact CT.of (by decide) (Nat.le_of_ble_eq_true rfl) hD (fun κ hl ha o => gw_sub (lv' := [(0, .ref (τ.2.2 30))]) [0] rfl (wk_X_spread0_b0 o h))
def X_latch_b40 (Z : xF → Prop) (k2 : Int32 → xF → Prop) (E : xF) (N : xF) (x1 : Int32) : Prop := ∀ x1_40 : Int32, x1_40 = x1 + (1 : Int32) → (k2 x1_40 E)
set_option maxRecDepth 10000 in
theorem wk_X_latch_b40 {κ : Cx} {τ : xT} {Z : xF → Prop} {k2 : Int32 → xF → Prop} {E : xF} {N : xF} {x1 : Int32} (o : OKc κ (wdX τ) 2 b_X_latch "StateExplorer" none (xR 0)) (hk2 : ∀ (x1 : Int32) (E : xF), k2 x1 E → GW κ (wdX τ) 2 (0, 0) (xMQ κ (wdX τ) (xR 0) (z1_v N Z)) (E, N) 2 [(0, .ref (τ.2.2 30)), (1, .int x1)] []) (h : X_latch_b40 Z k2 E N x1) : GW κ (wdX τ) 2 (0, 0) (xMQ κ (wdX τ) (xR 0) (z1_v N Z)) (E, N) 40 [(0, .ref (τ.2.2 30)), (1, .int x1)] [] := by
  unfold X_latch_b40 at h
  refine gw_iincN (pc := 40) (c := (1 : Int32)) (lw := fun x1_40 => [(1, .int x1_40), (0, .ref (τ.2.2 30))]) o d_X_latch_40 (by decide) 1 rfl (by decide) (fun _ => rfl) (fun x1_40 ex1_40 => ?_)
  have h := h x1_40 ex1_40
  refine gw_goto (pc := 43) (tgt := 2) o d_X_latch_43 (by decide) ?_
  exact gw_sub (lv' := [(0, .ref (τ.2.2 30)), (1, .int x1_40)]) [1, 0] rfl (hk2 _ _ h)
def X_latch_b121 (Z : xF → Prop) (k48 : Int32 → xF → Prop) (E : xF) (N : xF) (x1 : Int32) : Prop := ∀ x1_121 : Int32, x1_121 = x1 + (1 : Int32) → (k48 x1_121 E)
set_option maxRecDepth 10000 in
theorem wk_X_latch_b121 {κ : Cx} {τ : xT} {Z : xF → Prop} {k48 : Int32 → xF → Prop} {E : xF} {N : xF} {x1 : Int32} (o : OKc κ (wdX τ) 2 b_X_latch "StateExplorer" none (xR 0)) (hk48 : ∀ (x1 : Int32) (E : xF), k48 x1 E → GW κ (wdX τ) 2 (0, 0) (xMQ κ (wdX τ) (xR 0) (z1_v N Z)) (E, N) 48 [(0, .ref (τ.2.2 30)), (1, .int x1)] []) (h : X_latch_b121 Z k48 E N x1) : GW κ (wdX τ) 2 (0, 0) (xMQ κ (wdX τ) (xR 0) (z1_v N Z)) (E, N) 121 [(0, .ref (τ.2.2 30)), (1, .int x1)] [] := by
  unfold X_latch_b121 at h
  refine gw_iincN (pc := 121) (c := (1 : Int32)) (lw := fun x1_121 => [(1, .int x1_121), (0, .ref (τ.2.2 30))]) o d_X_latch_121 (by decide) 1 rfl (by decide) (fun _ => rfl) (fun x1_121 ex1_121 => ?_)
  have h := h x1_121 ex1_121
  refine gw_goto (pc := 124) (tgt := 48) o d_X_latch_124 (by decide) ?_
  exact gw_sub (lv' := [(0, .ref (τ.2.2 30)), (1, .int x1_121)]) [1, 0] rfl (hk48 _ _ h)
def X_latch_b120 (Z : xF → Prop) (k48 : Int32 → xF → Prop) (E : xF) (N : xF) (x1 : Int32) (s1 : Int32) (s2 : Int32) : Prop := vp_in s1 8 ∧ (∀ E_120 : xF, E_120 = xs E 16 s1.toNatClampNeg s2 → (X_latch_b121 Z k48 E_120 N x1))
set_option maxRecDepth 10000 in
theorem wk_X_latch_b120 {κ : Cx} {τ : xT} {Z : xF → Prop} {k48 : Int32 → xF → Prop} {E : xF} {N : xF} {x1 : Int32} {s1 : Int32} {s2 : Int32} (o : OKc κ (wdX τ) 2 b_X_latch "StateExplorer" none (xR 0)) (hk48 : ∀ (x1 : Int32) (E : xF), k48 x1 E → GW κ (wdX τ) 2 (0, 0) (xMQ κ (wdX τ) (xR 0) (z1_v N Z)) (E, N) 48 [(0, .ref (τ.2.2 30)), (1, .int x1)] []) (h : X_latch_b120 Z k48 E N x1 s1 s2) : GW κ (wdX τ) 2 (0, 0) (xMQ κ (wdX τ) (xR 0) (z1_v N Z)) (E, N) 120 [(0, .ref (τ.2.2 30)), (1, .int x1)] [.int s2, .int s1, .ref (τ.2.2 16)] := by
  unfold X_latch_b120 at h
  have hi := h.1
  have h := h.2
  refine gE_ast_nexts (pc := 120) o hi d_X_latch_120 (fun E_120 eE_120 => ?_)
  have h := h E_120 eE_120
  exact gw_sub (lv' := [(0, .ref (τ.2.2 30)), (1, .int x1)]) [0, 1] rfl (wk_X_latch_b121 o hk48 h)
def X_latch_b48 (Z : xF → Prop) (k48 : Int32 → xF → Prop) (E : xF) (N : xF) (x1 : Int32) : Prop := (((E 30 2) ≤ x1) → (Z E)) ∧ (¬ ((E 30 2) ≤ x1) → (vp_in x1 240 ∧ (vp_in (E 10 x1.toNatClampNeg) 60 ∧ ((((E 6 (E 10 x1.toNatClampNeg).toNatClampNeg) = (1 : Int32)) → (vp_in x1 240 ∧ (vp_in (E 10 x1.toNatClampNeg) 60 ∧ (vp_in x1 240 ∧ ((((E 12 x1.toNatClampNeg) = 0) → (vp_in x1 240 ∧ (vp_in (E 11 x1.toNatClampNeg) 60 ∧ (X_latch_b120 Z k48 E N x1 (E 7 (E 10 x1.toNatClampNeg).toNatClampNeg) (E 14 (E 11 x1.toNatClampNeg).toNatClampNeg))))) ∧ (¬ ((E 12 x1.toNatClampNeg) = 0) → (vp_in x1 240 ∧ (vp_in (E 11 x1.toNatClampNeg) 60 ∧ (X_latch_b120 Z k48 E N x1 (E 7 (E 10 x1.toNatClampNeg).toNatClampNeg) (E 15 (E 11 x1.toNatClampNeg).toNatClampNeg)))))))))) ∧ (¬ ((E 6 (E 10 x1.toNatClampNeg).toNatClampNeg) = (1 : Int32)) → (X_latch_b121 Z k48 E N x1))))))
set_option maxRecDepth 10000 in
theorem wk_X_latch_b48 {κ : Cx} {τ : xT} {Z : xF → Prop} {k48 : Int32 → xF → Prop} {E : xF} {N : xF} {x1 : Int32} (o : OKc κ (wdX τ) 2 b_X_latch "StateExplorer" none (xR 0)) (hk48 : ∀ (x1 : Int32) (E : xF), k48 x1 E → GW κ (wdX τ) 2 (0, 0) (xMQ κ (wdX τ) (xR 0) (z1_v N Z)) (E, N) 48 [(0, .ref (τ.2.2 30)), (1, .int x1)] []) (h : X_latch_b48 Z k48 E N x1) : GW κ (wdX τ) 2 (0, 0) (xMQ κ (wdX τ) (xR 0) (z1_v N Z)) (E, N) 48 [(0, .ref (τ.2.2 30)), (1, .int x1)] [] := by
  unfold X_latch_b48 at h
  refine gw_iload_n (pc := 48) o d_X_latch_48 rfl 1 rfl ?_
  refine gw_aload_n (pc := 49) o d_X_latch_49 rfl 0 rfl ?_
  refine gE_get_feeds (pc := 50) o q_82 d_X_latch_50 ?_
  refine gw_icmp_ge (pc := 53) (tgt := 127) o d_X_latch_53 (by decide) (fun hc => ?_) (fun hc => ?_)
  · have h := h.1 hc
    exact gw_vret (pc := 127) o ⟨Nat.le_refl _, Nat.le_refl _⟩ (z1_v.mk h) d_X_latch_127
  · have h := h.2 hc
    refine gw_aload_n (pc := 56) o d_X_latch_56 rfl 0 rfl ?_
    refine gE_get_sorts (pc := 57) o q_86 d_X_latch_57 ?_
    refine gw_aload_n (pc := 60) o d_X_latch_60 rfl 0 rfl ?_
    refine gE_get_to (pc := 61) o q_90 d_X_latch_61 ?_
    refine gw_iload_n (pc := 64) o d_X_latch_64 rfl 1 rfl ?_
    have hi := h.1
    have h := h.2
    refine gE_ald_to (pc := 65) o hi d_X_latch_65 ?_
    have hi := h.1
    have h := h.2
    refine gE_ald_sorts (pc := 66) o hi d_X_latch_66 ?_
    refine gw_iconst (pc := 67) (v := (1 : Int32)) o d_X_latch_67 (by decide) ?_
    refine gw_icmp_ne (pc := 68) (tgt := 121) o d_X_latch_68 (by decide) (fun hc => ?_) (fun hc => ?_)
    · have h := h.2 hc
      exact gw_sub (lv' := [(0, .ref (τ.2.2 30)), (1, .int x1)]) [0, 1] rfl (wk_X_latch_b121 o hk48 h)
    · have h := h.1 hc
      refine gw_aload_n (pc := 71) o d_X_latch_71 rfl 0 rfl ?_
      refine gE_get_nexts (pc := 72) o q_96 d_X_latch_72 ?_
      refine gw_aload_n (pc := 75) o d_X_latch_75 rfl 0 rfl ?_
      refine gE_get_numbers (pc := 76) o q_87 d_X_latch_76 ?_
      refine gw_aload_n (pc := 79) o d_X_latch_79 rfl 0 rfl ?_
      refine gE_get_to (pc := 80) o q_90 d_X_latch_80 ?_
      refine gw_iload_n (pc := 83) o d_X_latch_83 rfl 1 rfl ?_
      have hi := h.1
      have h := h.2
      refine gE_ald_to (pc := 84) o hi d_X_latch_84 ?_
      have hi := h.1
      have h := h.2
      refine gE_ald_numbers (pc := 85) o hi d_X_latch_85 ?_
      refine gw_aload_n (pc := 86) o d_X_latch_86 rfl 0 rfl ?_
      refine gE_get_negated (pc := 87) o q_92 d_X_latch_87 ?_
      refine gw_iload_n (pc := 90) o d_X_latch_90 rfl 1 rfl ?_
      have hi := h.1
      have h := h.2
      refine gE_ald_negated (pc := 91) o hi d_X_latch_91 ?_
      refine gw_if_eq (pc := 92) (tgt := 109) o d_X_latch_92 (by decide) (fun hc => ?_) (fun hc => ?_)
      · have h := h.1 hc
        refine gw_aload_n (pc := 109) o d_X_latch_109 rfl 0 rfl ?_
        refine gE_get_ones (pc := 110) o q_94 d_X_latch_110 ?_
        refine gw_aload_n (pc := 113) o d_X_latch_113 rfl 0 rfl ?_
        refine gE_get_from (pc := 114) o q_91 d_X_latch_114 ?_
        refine gw_iload_n (pc := 117) o d_X_latch_117 rfl 1 rfl ?_
        have hi := h.1
        have h := h.2
        refine gE_ald_from (pc := 118) o hi d_X_latch_118 ?_
        have hi := h.1
        have h := h.2
        refine gE_ald_ones (pc := 119) o hi d_X_latch_119 ?_
        exact gw_sub (lv' := [(0, .ref (τ.2.2 30)), (1, .int x1)]) [0, 1] rfl (wk_X_latch_b120 o hk48 h)
      · have h := h.2 hc
        refine gw_aload_n (pc := 95) o d_X_latch_95 rfl 0 rfl ?_
        refine gE_get_zeros (pc := 96) o q_95 d_X_latch_96 ?_
        refine gw_aload_n (pc := 99) o d_X_latch_99 rfl 0 rfl ?_
        refine gE_get_from (pc := 100) o q_91 d_X_latch_100 ?_
        refine gw_iload_n (pc := 103) o d_X_latch_103 rfl 1 rfl ?_
        have hi := h.1
        have h := h.2
        refine gE_ald_from (pc := 104) o hi d_X_latch_104 ?_
        have hi := h.1
        have h := h.2
        refine gE_ald_zeros (pc := 105) o hi d_X_latch_105 ?_
        refine gw_goto (pc := 106) (tgt := 120) o d_X_latch_106 (by decide) ?_
        exact gw_sub (lv' := [(0, .ref (τ.2.2 30)), (1, .int x1)]) [0, 1] rfl (wk_X_latch_b120 o hk48 h)
def X_latch_L48 (Z : xF → Prop) (E : xF) (N : xF) (x1 : Int32) : Prop := LOOP2 (fun k48 x1 E => X_latch_b48 Z k48 E N x1) x1 E
theorem wk_X_latch_L48 {κ : Cx} {τ : xT} {Z : xF → Prop} {E : xF} {N : xF} {x1 : Int32} (o : OKc κ (wdX τ) 2 b_X_latch "StateExplorer" none (xR 0)) (h : X_latch_L48 Z E N x1) : GW κ (wdX τ) 2 (0, 0) (xMQ κ (wdX τ) (xR 0) (z1_v N Z)) (E, N) 48 [(0, .ref (τ.2.2 30)), (1, .int x1)] [] := by
  unfold X_latch_L48 at h
  exact LOOP2.use (G := fun x1 E => GW κ (wdX τ) 2 (0, 0) (xMQ κ (wdX τ) (xR 0) (z1_v N Z)) (E, N) 48 [(0, .ref (τ.2.2 30)), (1, .int x1)] []) (fun k48 x1 E hk48 h => wk_X_latch_b48 o hk48 h) h
def X_latch_b2 (Z : xF → Prop) (k2 : Int32 → xF → Prop) (E : xF) (N : xF) (x1 : Int32) : Prop := (((8 : Int32) ≤ x1) → (X_latch_L48 Z E N (0 : Int32))) ∧ (¬ ((8 : Int32) ≤ x1) → (vp_in x1 8 ∧ (∀ E_14 : xF, E_14 = xs E 16 x1.toNatClampNeg (0 : Int32) → ((((E_14 30 4) ≤ x1) → (X_latch_b40 Z k2 E_14 N x1)) ∧ (¬ ((E_14 30 4) ≤ x1) → (vp_in x1 8 ∧ (vp_in (E_14 9 x1.toNatClampNeg) 60 ∧ (vp_in x1 8 ∧ (∀ E_39 : xF, E_39 = xs E_14 16 x1.toNatClampNeg (E_14 14 (E_14 9 x1.toNatClampNeg).toNatClampNeg) → (X_latch_b40 Z k2 E_39 N x1))))))))))
set_option maxRecDepth 10000 in
theorem wk_X_latch_b2 {κ : Cx} {τ : xT} {Z : xF → Prop} {k2 : Int32 → xF → Prop} {E : xF} {N : xF} {x1 : Int32} (o : OKc κ (wdX τ) 2 b_X_latch "StateExplorer" none (xR 0)) (hk2 : ∀ (x1 : Int32) (E : xF), k2 x1 E → GW κ (wdX τ) 2 (0, 0) (xMQ κ (wdX τ) (xR 0) (z1_v N Z)) (E, N) 2 [(0, .ref (τ.2.2 30)), (1, .int x1)] []) (h : X_latch_b2 Z k2 E N x1) : GW κ (wdX τ) 2 (0, 0) (xMQ κ (wdX τ) (xR 0) (z1_v N Z)) (E, N) 2 [(0, .ref (τ.2.2 30)), (1, .int x1)] [] := by
  unfold X_latch_b2 at h
  refine gw_iload_n (pc := 2) o d_X_latch_2 rfl 1 rfl ?_
  refine gw_bipush (pc := 3) (v := (8 : Int32)) o d_X_latch_3 (by decide) ?_
  refine gw_icmp_ge (pc := 5) (tgt := 46) o d_X_latch_5 (by decide) (fun hc => ?_) (fun hc => ?_)
  · have h := h.1 hc
    refine gw_iconst (pc := 46) (v := (0 : Int32)) o d_X_latch_46 (by decide) ?_
    refine gw_istore_n (pc := 47) (lv' := [(1, .int (0 : Int32)), (0, .ref (τ.2.2 30))]) o d_X_latch_47 rfl (by decide) rfl ?_
    exact gw_sub (lv' := [(0, .ref (τ.2.2 30)), (1, .int (0 : Int32))]) [1, 0] rfl (wk_X_latch_L48 o h)
  · have h := h.2 hc
    refine gw_aload_n (pc := 8) o d_X_latch_8 rfl 0 rfl ?_
    refine gE_get_nexts (pc := 9) o q_96 d_X_latch_9 ?_
    refine gw_iload_n (pc := 12) o d_X_latch_12 rfl 1 rfl ?_
    refine gw_iconst (pc := 13) (v := (0 : Int32)) o d_X_latch_13 (by decide) ?_
    have hi := h.1
    have h := h.2
    refine gE_ast_nexts (pc := 14) o hi d_X_latch_14 (fun E_14 eE_14 => ?_)
    have h := h E_14 eE_14
    refine gw_iload_n (pc := 15) o d_X_latch_15 rfl 1 rfl ?_
    refine gw_aload_n (pc := 16) o d_X_latch_16 rfl 0 rfl ?_
    refine gE_get_latches (pc := 17) o q_84 d_X_latch_17 ?_
    refine gw_icmp_ge (pc := 20) (tgt := 40) o d_X_latch_20 (by decide) (fun hc => ?_) (fun hc => ?_)
    · have h := h.1 hc
      exact gw_sub (lv' := [(0, .ref (τ.2.2 30)), (1, .int x1)]) [0, 1] rfl (wk_X_latch_b40 o hk2 h)
    · have h := h.2 hc
      refine gw_aload_n (pc := 23) o d_X_latch_23 rfl 0 rfl ?_
      refine gE_get_nexts (pc := 24) o q_96 d_X_latch_24 ?_
      refine gw_iload_n (pc := 27) o d_X_latch_27 rfl 1 rfl ?_
      refine gw_aload_n (pc := 28) o d_X_latch_28 rfl 0 rfl ?_
      refine gE_get_ones (pc := 29) o q_94 d_X_latch_29 ?_
      refine gw_aload_n (pc := 32) o d_X_latch_32 rfl 0 rfl ?_
      refine gE_get_latchAt (pc := 33) o q_89 d_X_latch_33 ?_
      refine gw_iload_n (pc := 36) o d_X_latch_36 rfl 1 rfl ?_
      have hi := h.1
      have h := h.2
      refine gE_ald_latchAt (pc := 37) o hi d_X_latch_37 ?_
      have hi := h.1
      have h := h.2
      refine gE_ald_ones (pc := 38) o hi d_X_latch_38 ?_
      have hi := h.1
      have h := h.2
      refine gE_ast_nexts (pc := 39) o hi d_X_latch_39 (fun E_39 eE_39 => ?_)
      have h := h E_39 eE_39
      exact gw_sub (lv' := [(0, .ref (τ.2.2 30)), (1, .int x1)]) [0, 1] rfl (wk_X_latch_b40 o hk2 h)
def X_latch_L2 (Z : xF → Prop) (E : xF) (N : xF) (x1 : Int32) : Prop := LOOP2 (fun k2 x1 E => X_latch_b2 Z k2 E N x1) x1 E
theorem wk_X_latch_L2 {κ : Cx} {τ : xT} {Z : xF → Prop} {E : xF} {N : xF} {x1 : Int32} (o : OKc κ (wdX τ) 2 b_X_latch "StateExplorer" none (xR 0)) (h : X_latch_L2 Z E N x1) : GW κ (wdX τ) 2 (0, 0) (xMQ κ (wdX τ) (xR 0) (z1_v N Z)) (E, N) 2 [(0, .ref (τ.2.2 30)), (1, .int x1)] [] := by
  unfold X_latch_L2 at h
  exact LOOP2.use (G := fun x1 E => GW κ (wdX τ) 2 (0, 0) (xMQ κ (wdX τ) (xR 0) (z1_v N Z)) (E, N) 2 [(0, .ref (τ.2.2 30)), (1, .int x1)] []) (fun k2 x1 E hk2 h => wk_X_latch_b2 o hk2 h) h
def X_latch_b0 (Z : xF → Prop) (E : xF) (N : xF) : Prop := X_latch_L2 Z E N (0 : Int32)
set_option maxRecDepth 10000 in
theorem wk_X_latch_b0 {κ : Cx} {τ : xT} {Z : xF → Prop} {E : xF} {N : xF} (o : OKc κ (wdX τ) 2 b_X_latch "StateExplorer" none (xR 0)) (h : X_latch_b0 Z E N) : GW κ (wdX τ) 2 (0, 0) (xMQ κ (wdX τ) (xR 0) (z1_v N Z)) (E, N) 0 [(0, .ref (τ.2.2 30))] [] := by
  unfold X_latch_b0 at h
  refine gw_iconst (pc := 0) (v := (0 : Int32)) o d_X_latch_0 (by decide) ?_
  refine gw_istore_n (pc := 1) (lv' := [(1, .int (0 : Int32)), (0, .ref (τ.2.2 30))]) o d_X_latch_1 rfl (by decide) rfl ?_
  exact gw_sub (lv' := [(0, .ref (τ.2.2 30)), (1, .int (0 : Int32))]) [1, 0] rfl (wk_X_latch_L2 o h)
def w_X_latch  (E : xF) (N : xF)  (Z : xF → Prop) : Prop := X_latch_b0  Z E N
theorem ct_X_latch {l : Launch} {τ : xT} {E : xF} {N : xF}  {Z : xF → Prop} (hD : xD (wdX τ)) (h : w_X_latch  E N Z) : CT l (wdX τ) y_X_latch (.code y_X_latch b_X_latch 2 none) (xR 0) [.ref (τ.2.2 30)] (E, N) (z1_v N Z) := by
  subst_vars
  exact CT.of (by decide) (Nat.le_of_ble_eq_true rfl) hD (fun κ hl ha o => gw_sub (lv' := [(0, .ref (τ.2.2 30))]) [0] rfl (wk_X_latch_b0 o h))
def X_only_b68 (Z : Int32 → xF → xF → Prop) (k9 : Int32 → xF → xF → Prop) (E : xF) (N : xF) (x1 : Int32) (x2 : Int32) (s3 : Int32) (s4 : Int32) : Prop := w_X_and E N s3 s4 (fun r68 E_68 N_68 => ∀ E_71 : xF, E_71 = xs E_68 24 (0 : Int32).toNatClampNeg r68 → (∀ x2_72 : Int32, x2_72 = x2 + (1 : Int32) → (k9 x2_72 E_71 N_68)))
set_option maxRecDepth 10000 in
theorem wk_X_only_b68 {κ : Cx} {τ : xT} {Z : Int32 → xF → xF → Prop} {k9 : Int32 → xF → xF → Prop} {E : xF} {N : xF} {x1 : Int32} {x2 : Int32} {s3 : Int32} {s4 : Int32} (o : OKc κ (wdX τ) 3 b_X_only "StateExplorer" (some .int) (xR 21)) (hk9 : ∀ (x2 : Int32) (E : xF) (N : xF), k9 x2 E N → GW κ (wdX τ) 3 (0, 0) (xMQ κ (wdX τ) (xR 21) (z12_i Z)) (E, N) 9 [(0, .ref (τ.2.2 30)), (1, .int x1), (2, .int x2)] []) (h : X_only_b68 Z k9 E N x1 x2 s3 s4) : GW κ (wdX τ) 3 (0, 0) (xMQ κ (wdX τ) (xR 21) (z12_i Z)) (E, N) 68 [(0, .ref (τ.2.2 30)), (1, .int x1), (2, .int x2)] [.int s4, .int s3, .ref (τ.2.2 30), .int (0 : Int32), .ref (τ.2.2 24)] := by
  unfold X_only_b68 at h
  refine gw_callV (pc := 68) (b := τ.2.2 30) (As := [.int s3, .int s4]) (st := [.int (0 : Int32), .ref (τ.2.2 24)]) o (ct_X_and o.hD h) mi_X_and q_273 q_275 qs_10 0 rfl rfl (xRo_of (by omega) (by decide)) rfl rfl (Nat.le_of_ble_eq_true rfl) d_X_only_68 (kk_12_i rfl (fun r68 E_68 N_68 h => ?_))
  refine gE_ast_spare (pc := 71) o (by unfold vp_in; decide) d_X_only_71 (fun E_71 eE_71 => ?_)
  have h := h E_71 eE_71
  refine gw_iincN (pc := 72) (c := (1 : Int32)) (lw := fun x2_72 => [(2, .int x2_72), (0, .ref (τ.2.2 30)), (1, .int x1)]) o d_X_only_72 (by decide) 2 rfl (by decide) (fun _ => rfl) (fun x2_72 ex2_72 => ?_)
  have h := h x2_72 ex2_72
  refine gw_goto (pc := 75) (tgt := 9) o d_X_only_75 (by decide) ?_
  exact gw_sub (lv' := [(0, .ref (τ.2.2 30)), (1, .int x1), (2, .int x2_72)]) [1, 2, 0] rfl (hk9 _ _ _ h)
def X_only_b9 (Z : Int32 → xF → xF → Prop) (k9 : Int32 → xF → xF → Prop) (E : xF) (N : xF) (x1 : Int32) (x2 : Int32) : Prop := (((8 : Int32) ≤ x2) → (Z (E 24 (0 : Int32).toNatClampNeg) E N)) ∧ (¬ ((8 : Int32) ≤ x2) → (w_X_variableOf x2 (fun r22 => w_X_variable E N r22 (fun r25 N_25 => ∀ E_28 : xF, E_28 = xs E 24 (1 : Int32).toNatClampNeg r25 → (w_X_bit x1 x2 (fun r43 => ((r43 = 0) → (w_X_not E_28 N_25 (E_28 24 (1 : Int32).toNatClampNeg) (fun r65 E_65 N_65 => X_only_b68 Z k9 E_65 N_65 x1 x2 (E_28 24 (0 : Int32).toNatClampNeg) r65))) ∧ (¬ (r43 = 0) → (X_only_b68 Z k9 E_28 N_25 x1 x2 (E_28 24 (0 : Int32).toNatClampNeg) (E_28 24 (1 : Int32).toNatClampNeg)))))))))
set_option maxRecDepth 10000 in
theorem wk_X_only_b9 {κ : Cx} {τ : xT} {Z : Int32 → xF → xF → Prop} {k9 : Int32 → xF → xF → Prop} {E : xF} {N : xF} {x1 : Int32} {x2 : Int32} (o : OKc κ (wdX τ) 3 b_X_only "StateExplorer" (some .int) (xR 21)) (hk9 : ∀ (x2 : Int32) (E : xF) (N : xF), k9 x2 E N → GW κ (wdX τ) 3 (0, 0) (xMQ κ (wdX τ) (xR 21) (z12_i Z)) (E, N) 9 [(0, .ref (τ.2.2 30)), (1, .int x1), (2, .int x2)] []) (h : X_only_b9 Z k9 E N x1 x2) : GW κ (wdX τ) 3 (0, 0) (xMQ κ (wdX τ) (xR 21) (z12_i Z)) (E, N) 9 [(0, .ref (τ.2.2 30)), (1, .int x1), (2, .int x2)] [] := by
  unfold X_only_b9 at h
  refine gw_iload_n (pc := 9) o d_X_only_9 rfl 2 rfl ?_
  refine gw_bipush (pc := 10) (v := (8 : Int32)) o d_X_only_10 (by decide) ?_
  refine gw_icmp_ge (pc := 12) (tgt := 78) o d_X_only_12 (by decide) (fun hc => ?_) (fun hc => ?_)
  · have h := h.1 hc
    refine gw_aload_n (pc := 78) o d_X_only_78 rfl 0 rfl ?_
    refine gE_get_spare (pc := 79) o q_104 d_X_only_79 ?_
    refine gw_iconst (pc := 82) (v := (0 : Int32)) o d_X_only_82 (by decide) ?_
    refine gE_ald_spare (pc := 83) o (by unfold vp_in; decide) d_X_only_83 ?_
    exact gw_iret (pc := 84) o ⟨Nat.le_refl _, Nat.le_refl _⟩ (z12_i.mk h) d_X_only_84
  · have h := h.2 hc
    refine gw_aload_n (pc := 15) o d_X_only_15 rfl 0 rfl ?_
    refine gE_get_spare (pc := 16) o q_104 d_X_only_16 ?_
    refine gw_iconst (pc := 19) (v := (1 : Int32)) o d_X_only_19 (by decide) ?_
    refine gw_aload_n (pc := 20) o d_X_only_20 rfl 0 rfl ?_
    refine gw_iload_n (pc := 21) o d_X_only_21 rfl 2 rfl ?_
    refine gw_callS (pc := 22) (As := [.int x2]) (st := [.ref (τ.2.2 30), .int (1 : Int32), .ref (τ.2.2 24)]) o (ct_X_variableOf o.hD h) mi_X_variableOf q_186 q_187 (xRo_of (by omega) (by decide)) rfl rfl (Nat.le_of_ble_eq_true rfl) d_X_only_22 (kk_p_i rfl (fun r22 h => ?_))
    refine gw_callV (pc := 25) (b := τ.2.2 30) (As := [.int r22]) (st := [.int (1 : Int32), .ref (τ.2.2 24)]) o (ct_X_variable o.hD h) mi_X_variable q_189 q_191 qs_2 0 rfl rfl (xRo_of (by omega) (by decide)) rfl rfl (Nat.le_of_ble_eq_true rfl) d_X_only_25 (kk_2_i rfl (fun r25 N_25 h => ?_))
    refine gE_ast_spare (pc := 28) o (by unfold vp_in; decide) d_X_only_28 (fun E_28 eE_28 => ?_)
    have h := h E_28 eE_28
    refine gw_aload_n (pc := 29) o d_X_only_29 rfl 0 rfl ?_
    refine gE_get_spare (pc := 30) o q_104 d_X_only_30 ?_
    refine gw_iconst (pc := 33) (v := (0 : Int32)) o d_X_only_33 (by decide) ?_
    refine gw_aload_n (pc := 34) o d_X_only_34 rfl 0 rfl ?_
    refine gw_aload_n (pc := 35) o d_X_only_35 rfl 0 rfl ?_
    refine gE_get_spare (pc := 36) o q_104 d_X_only_36 ?_
    refine gw_iconst (pc := 39) (v := (0 : Int32)) o d_X_only_39 (by decide) ?_
    refine gE_ald_spare (pc := 40) o (by unfold vp_in; decide) d_X_only_40 ?_
    refine gw_iload_n (pc := 41) o d_X_only_41 rfl 1 rfl ?_
    refine gw_iload_n (pc := 42) o d_X_only_42 rfl 2 rfl ?_
    refine gw_callS (pc := 43) (As := [.int x1, .int x2]) (st := [.int (E_28 24 (0 : Int32).toNatClampNeg), .ref (τ.2.2 30), .int (0 : Int32), .ref (τ.2.2 24)]) o (ct_X_bit o.hD h) mi_X_bit q_290 q_291 (xRo_of (by omega) (by decide)) rfl rfl (Nat.le_of_ble_eq_true rfl) d_X_only_43 (kk_p_i rfl (fun r43 h => ?_))
    refine gw_if_eq (pc := 46) (tgt := 58) o d_X_only_46 (by decide) (fun hc => ?_) (fun hc => ?_)
    · have h := h.1 hc
      refine gw_aload_n (pc := 58) o d_X_only_58 rfl 0 rfl ?_
      refine gw_aload_n (pc := 59) o d_X_only_59 rfl 0 rfl ?_
      refine gE_get_spare (pc := 60) o q_104 d_X_only_60 ?_
      refine gw_iconst (pc := 63) (v := (1 : Int32)) o d_X_only_63 (by decide) ?_
      refine gE_ald_spare (pc := 64) o (by unfold vp_in; decide) d_X_only_64 ?_
      refine gw_callV (pc := 65) (b := τ.2.2 30) (As := [.int (E_28 24 (1 : Int32).toNatClampNeg)]) (st := [.int (E_28 24 (0 : Int32).toNatClampNeg), .ref (τ.2.2 30), .int (0 : Int32), .ref (τ.2.2 24)]) o (ct_X_not o.hD h) mi_X_not q_236 q_238 qs_7 0 rfl rfl (xRo_of (by omega) (by decide)) rfl rfl (Nat.le_of_ble_eq_true rfl) d_X_only_65 (kk_12_i rfl (fun r65 E_65 N_65 h => ?_))
      exact gw_sub (lv' := [(0, .ref (τ.2.2 30)), (1, .int x1), (2, .int x2)]) [0, 1, 2] rfl (wk_X_only_b68 o hk9 h)
    · have h := h.2 hc
      refine gw_aload_n (pc := 49) o d_X_only_49 rfl 0 rfl ?_
      refine gE_get_spare (pc := 50) o q_104 d_X_only_50 ?_
      refine gw_iconst (pc := 53) (v := (1 : Int32)) o d_X_only_53 (by decide) ?_
      refine gE_ald_spare (pc := 54) o (by unfold vp_in; decide) d_X_only_54 ?_
      refine gw_goto (pc := 55) (tgt := 68) o d_X_only_55 (by decide) ?_
      exact gw_sub (lv' := [(0, .ref (τ.2.2 30)), (1, .int x1), (2, .int x2)]) [0, 1, 2] rfl (wk_X_only_b68 o hk9 h)
def X_only_L9 (Z : Int32 → xF → xF → Prop) (E : xF) (N : xF) (x1 : Int32) (x2 : Int32) : Prop := LOOP3 (fun k9 x2 E N => X_only_b9 Z k9 E N x1 x2) x2 E N
theorem wk_X_only_L9 {κ : Cx} {τ : xT} {Z : Int32 → xF → xF → Prop} {E : xF} {N : xF} {x1 : Int32} {x2 : Int32} (o : OKc κ (wdX τ) 3 b_X_only "StateExplorer" (some .int) (xR 21)) (h : X_only_L9 Z E N x1 x2) : GW κ (wdX τ) 3 (0, 0) (xMQ κ (wdX τ) (xR 21) (z12_i Z)) (E, N) 9 [(0, .ref (τ.2.2 30)), (1, .int x1), (2, .int x2)] [] := by
  unfold X_only_L9 at h
  exact LOOP3.use (G := fun x2 E N => GW κ (wdX τ) 3 (0, 0) (xMQ κ (wdX τ) (xR 21) (z12_i Z)) (E, N) 9 [(0, .ref (τ.2.2 30)), (1, .int x1), (2, .int x2)] []) (fun k9 x2 E N hk9 h => wk_X_only_b9 o hk9 h) h
def X_only_b0 (Z : Int32 → xF → xF → Prop) (E : xF) (N : xF) (x1 : Int32) : Prop := ∀ E_6 : xF, E_6 = xs E 24 (0 : Int32).toNatClampNeg (1 : Int32) → (X_only_L9 Z E_6 N x1 (0 : Int32))
set_option maxRecDepth 10000 in
theorem wk_X_only_b0 {κ : Cx} {τ : xT} {Z : Int32 → xF → xF → Prop} {E : xF} {N : xF} {x1 : Int32} (o : OKc κ (wdX τ) 3 b_X_only "StateExplorer" (some .int) (xR 21)) (h : X_only_b0 Z E N x1) : GW κ (wdX τ) 3 (0, 0) (xMQ κ (wdX τ) (xR 21) (z12_i Z)) (E, N) 0 [(0, .ref (τ.2.2 30)), (1, .int x1)] [] := by
  unfold X_only_b0 at h
  refine gw_aload_n (pc := 0) o d_X_only_0 rfl 0 rfl ?_
  refine gE_get_spare (pc := 1) o q_104 d_X_only_1 ?_
  refine gw_iconst (pc := 4) (v := (0 : Int32)) o d_X_only_4 (by decide) ?_
  refine gw_iconst (pc := 5) (v := (1 : Int32)) o d_X_only_5 (by decide) ?_
  refine gE_ast_spare (pc := 6) o (by unfold vp_in; decide) d_X_only_6 (fun E_6 eE_6 => ?_)
  have h := h E_6 eE_6
  refine gw_iconst (pc := 7) (v := (0 : Int32)) o d_X_only_7 (by decide) ?_
  refine gw_istore_n (pc := 8) (lv' := [(2, .int (0 : Int32)), (0, .ref (τ.2.2 30)), (1, .int x1)]) o d_X_only_8 rfl (by decide) rfl ?_
  exact gw_sub (lv' := [(0, .ref (τ.2.2 30)), (1, .int x1), (2, .int (0 : Int32))]) [1, 2, 0] rfl (wk_X_only_L9 o h)
def w_X_only  (E : xF) (N : xF) (x1 : Int32) (Z : Int32 → xF → xF → Prop) : Prop := X_only_b0  Z E N x1
theorem ct_X_only {l : Launch} {τ : xT} {E : xF} {N : xF} {x1 : Int32} {Z : Int32 → xF → xF → Prop} (hD : xD (wdX τ)) (h : w_X_only  E N x1 Z) : CT l (wdX τ) y_X_only (.code y_X_only b_X_only 3 (some .int)) (xR 21) [.ref (τ.2.2 30), .int x1] (E, N) (z12_i Z) := by
  subst_vars
  exact CT.of (by decide) (Nat.le_of_ble_eq_true rfl) hD (fun κ hl ha o => gw_sub (lv' := [(0, .ref (τ.2.2 30)), (1, .int x1)]) [0, 1] rfl (wk_X_only_b0 o h))
def X_seen_b59 (Z : Int32 → Prop) (k20 : Int32 → Int32 → Prop) (E : xF) (N : xF) (x1 : Int32) (x2 : Int32) (x4 : Int32) (s0 : Int32) (s1 : Int32) : Prop := ∀ x3_60 : Int32, x3_60 = s0 ||| s1 → (∀ x4_61 : Int32, x4_61 = x4 + (1 : Int32) → (k20 x3_60 x4_61))
set_option maxRecDepth 10000 in
theorem wk_X_seen_b59 {κ : Cx} {τ : xT} {Z : Int32 → Prop} {k20 : Int32 → Int32 → Prop} {E : xF} {N : xF} {x1 : Int32} {x2 : Int32} {x4 : Int32} {s0 : Int32} {s1 : Int32} (o : OKc κ (wdX τ) 5 b_X_seen "StateExplorer" (some .int) (xR 2)) (hk20 : ∀ (x3 : Int32) (x4 : Int32), k20 x3 x4 → GW κ (wdX τ) 5 (0, 0) (xMQ κ (wdX τ) (xR 2) (zp_i (E, N) Z)) (E, N) 20 [(0, .ref (τ.2.2 30)), (1, .int x1), (2, .int x2), (3, .int x3), (4, .int x4)] []) (h : X_seen_b59 Z k20 E N x1 x2 x4 s0 s1) : GW κ (wdX τ) 5 (0, 0) (xMQ κ (wdX τ) (xR 2) (zp_i (E, N) Z)) (E, N) 59 [(0, .ref (τ.2.2 30)), (1, .int x1), (2, .int x2), (4, .int x4)] [.int s1, .int s0] := by
  unfold X_seen_b59 at h
  refine gw_ior (pc := 59) o d_X_seen_59 ?_
  refine gw_topi (fun x3_60 ex3_60 => ?_)
  have h := h x3_60 ex3_60
  refine gw_istore_n (pc := 60) (lv' := [(3, .int x3_60), (0, .ref (τ.2.2 30)), (1, .int x1), (2, .int x2), (4, .int x4)]) o d_X_seen_60 rfl (by decide) rfl ?_
  refine gw_iincN (pc := 61) (c := (1 : Int32)) (lw := fun x4_61 => [(4, .int x4_61), (3, .int x3_60), (0, .ref (τ.2.2 30)), (1, .int x1), (2, .int x2)]) o d_X_seen_61 (by decide) 4 rfl (by decide) (fun _ => rfl) (fun x4_61 ex4_61 => ?_)
  have h := h x4_61 ex4_61
  refine gw_goto (pc := 64) (tgt := 20) o d_X_seen_64 (by decide) ?_
  exact gw_sub (lv' := [(0, .ref (τ.2.2 30)), (1, .int x1), (2, .int x2), (3, .int x3_60), (4, .int x4_61)]) [2, 3, 4, 1, 0] rfl (hk20 _ _ h)
def X_seen_b20 (Z : Int32 → Prop) (k20 : Int32 → Int32 → Prop) (E : xF) (N : xF) (x1 : Int32) (x2 : Int32) (x3 : Int32) (x4 : Int32) : Prop := (((E 30 5) ≤ x4) → (Z x3)) ∧ (¬ ((E 30 5) ≤ x4) → (vp_in x4 6 ∧ (vp_in (E 8 x4.toNatClampNeg) 60 ∧ (w_X_at E N (E 14 (E 8 x4.toNatClampNeg).toNatClampNeg) x1 x2 (fun r45 => ((r45 = 0) → (X_seen_b59 Z k20 E N x1 x2 x4 x3 (0 : Int32))) ∧ (¬ (r45 = 0) → (X_seen_b59 Z k20 E N x1 x2 x4 x3 ((1 : Int32) <<< (x4 &&& 31)))))))))
set_option maxRecDepth 10000 in
theorem wk_X_seen_b20 {κ : Cx} {τ : xT} {Z : Int32 → Prop} {k20 : Int32 → Int32 → Prop} {E : xF} {N : xF} {x1 : Int32} {x2 : Int32} {x3 : Int32} {x4 : Int32} (o : OKc κ (wdX τ) 5 b_X_seen "StateExplorer" (some .int) (xR 2)) (hk20 : ∀ (x3 : Int32) (x4 : Int32), k20 x3 x4 → GW κ (wdX τ) 5 (0, 0) (xMQ κ (wdX τ) (xR 2) (zp_i (E, N) Z)) (E, N) 20 [(0, .ref (τ.2.2 30)), (1, .int x1), (2, .int x2), (3, .int x3), (4, .int x4)] []) (h : X_seen_b20 Z k20 E N x1 x2 x3 x4) : GW κ (wdX τ) 5 (0, 0) (xMQ κ (wdX τ) (xR 2) (zp_i (E, N) Z)) (E, N) 20 [(0, .ref (τ.2.2 30)), (1, .int x1), (2, .int x2), (3, .int x3), (4, .int x4)] [] := by
  unfold X_seen_b20 at h
  refine gw_iload (pc := 20) o d_X_seen_20 4 rfl ?_
  refine gw_aload_n (pc := 22) o d_X_seen_22 rfl 0 rfl ?_
  refine gE_get_outputs (pc := 23) o q_85 d_X_seen_23 ?_
  refine gw_icmp_ge (pc := 26) (tgt := 67) o d_X_seen_26 (by decide) (fun hc => ?_) (fun hc => ?_)
  · have h := h.1 hc
    refine gw_iload_n (pc := 67) o d_X_seen_67 rfl 3 rfl ?_
    exact gw_iret (pc := 68) o ⟨Nat.le_refl _, Nat.le_refl _⟩ (zp_i.mk h) d_X_seen_68
  · have h := h.2 hc
    refine gw_iload_n (pc := 29) o d_X_seen_29 rfl 3 rfl ?_
    refine gw_aload_n (pc := 30) o d_X_seen_30 rfl 0 rfl ?_
    refine gw_aload_n (pc := 31) o d_X_seen_31 rfl 0 rfl ?_
    refine gE_get_ones (pc := 32) o q_94 d_X_seen_32 ?_
    refine gw_aload_n (pc := 35) o d_X_seen_35 rfl 0 rfl ?_
    refine gE_get_named (pc := 36) o q_88 d_X_seen_36 ?_
    refine gw_iload (pc := 39) o d_X_seen_39 4 rfl ?_
    have hi := h.1
    have h := h.2
    refine gE_ald_named (pc := 41) o hi d_X_seen_41 ?_
    have hi := h.1
    have h := h.2
    refine gE_ald_ones (pc := 42) o hi d_X_seen_42 ?_
    refine gw_iload_n (pc := 43) o d_X_seen_43 rfl 1 rfl ?_
    refine gw_iload_n (pc := 44) o d_X_seen_44 rfl 2 rfl ?_
    refine gw_callV (pc := 45) (b := τ.2.2 30) (As := [.int (E 14 (E 8 x4.toNatClampNeg).toNatClampNeg), .int x1, .int x2]) (st := [.int x3]) o (ct_X_at o.hD h) mi_X_at q_301 q_303 qs_16 0 rfl rfl (xRo_of (by omega) (by decide)) rfl rfl (Nat.le_of_ble_eq_true rfl) d_X_seen_45 (kk_p_i rfl (fun r45 h => ?_))
    refine gw_if_eq (pc := 48) (tgt := 58) o d_X_seen_48 (by decide) (fun hc => ?_) (fun hc => ?_)
    · have h := h.1 hc
      refine gw_iconst (pc := 58) (v := (0 : Int32)) o d_X_seen_58 (by decide) ?_
      exact gw_sub (lv' := [(0, .ref (τ.2.2 30)), (1, .int x1), (2, .int x2), (4, .int x4)]) [0, 1, 2, 4] rfl (wk_X_seen_b59 o hk20 h)
    · have h := h.2 hc
      refine gw_iconst (pc := 51) (v := (1 : Int32)) o d_X_seen_51 (by decide) ?_
      refine gw_iload (pc := 52) o d_X_seen_52 4 rfl ?_
      refine gw_ishl (pc := 54) o d_X_seen_54 ?_
      refine gw_goto (pc := 55) (tgt := 59) o d_X_seen_55 (by decide) ?_
      exact gw_sub (lv' := [(0, .ref (τ.2.2 30)), (1, .int x1), (2, .int x2), (4, .int x4)]) [0, 1, 2, 4] rfl (wk_X_seen_b59 o hk20 h)
def X_seen_L20 (Z : Int32 → Prop) (E : xF) (N : xF) (x1 : Int32) (x2 : Int32) (x3 : Int32) (x4 : Int32) : Prop := LOOP2 (fun k20 x3 x4 => X_seen_b20 Z k20 E N x1 x2 x3 x4) x3 x4
theorem wk_X_seen_L20 {κ : Cx} {τ : xT} {Z : Int32 → Prop} {E : xF} {N : xF} {x1 : Int32} {x2 : Int32} {x3 : Int32} {x4 : Int32} (o : OKc κ (wdX τ) 5 b_X_seen "StateExplorer" (some .int) (xR 2)) (h : X_seen_L20 Z E N x1 x2 x3 x4) : GW κ (wdX τ) 5 (0, 0) (xMQ κ (wdX τ) (xR 2) (zp_i (E, N) Z)) (E, N) 20 [(0, .ref (τ.2.2 30)), (1, .int x1), (2, .int x2), (3, .int x3), (4, .int x4)] [] := by
  unfold X_seen_L20 at h
  exact LOOP2.use (G := fun x3 x4 => GW κ (wdX τ) 5 (0, 0) (xMQ κ (wdX τ) (xR 2) (zp_i (E, N) Z)) (E, N) 20 [(0, .ref (τ.2.2 30)), (1, .int x1), (2, .int x2), (3, .int x3), (4, .int x4)] []) (fun k20 x3 x4 hk20 h => wk_X_seen_b20 o hk20 h) h
def X_seen_b0 (Z : Int32 → Prop) (E : xF) (N : xF) (x1 : Int32) (x2 : Int32) : Prop := w_X_at E N (E 30 20) x1 x2 (fun r7 => ((r7 = 0) → (Z (-1 : Int32))) ∧ (¬ (r7 = 0) → (X_seen_L20 Z E N x1 x2 (0 : Int32) (0 : Int32))))
set_option maxRecDepth 10000 in
theorem wk_X_seen_b0 {κ : Cx} {τ : xT} {Z : Int32 → Prop} {E : xF} {N : xF} {x1 : Int32} {x2 : Int32} (o : OKc κ (wdX τ) 5 b_X_seen "StateExplorer" (some .int) (xR 2)) (h : X_seen_b0 Z E N x1 x2) : GW κ (wdX τ) 5 (0, 0) (xMQ κ (wdX τ) (xR 2) (zp_i (E, N) Z)) (E, N) 0 [(0, .ref (τ.2.2 30)), (1, .int x1), (2, .int x2)] [] := by
  unfold X_seen_b0 at h
  refine gw_aload_n (pc := 0) o d_X_seen_0 rfl 0 rfl ?_
  refine gw_aload_n (pc := 1) o d_X_seen_1 rfl 0 rfl ?_
  refine gE_get_settles (pc := 2) o q_100 d_X_seen_2 ?_
  refine gw_iload_n (pc := 5) o d_X_seen_5 rfl 1 rfl ?_
  refine gw_iload_n (pc := 6) o d_X_seen_6 rfl 2 rfl ?_
  refine gw_callV (pc := 7) (b := τ.2.2 30) (As := [.int (E 30 20), .int x1, .int x2]) (st := []) o (ct_X_at o.hD h) mi_X_at q_301 q_303 qs_16 0 rfl rfl (xRo_of (by omega) (by decide)) rfl rfl (Nat.le_of_ble_eq_true rfl) d_X_seen_7 (kk_p_i rfl (fun r7 h => ?_))
  refine gw_if_ne (pc := 10) (tgt := 15) o d_X_seen_10 (by decide) (fun hc => ?_) (fun hc => ?_)
  · have h := h.2 hc
    refine gw_iconst (pc := 15) (v := (0 : Int32)) o d_X_seen_15 (by decide) ?_
    refine gw_istore_n (pc := 16) (lv' := [(3, .int (0 : Int32)), (0, .ref (τ.2.2 30)), (1, .int x1), (2, .int x2)]) o d_X_seen_16 rfl (by decide) rfl ?_
    refine gw_iconst (pc := 17) (v := (0 : Int32)) o d_X_seen_17 (by decide) ?_
    refine gw_istore (pc := 18) (lv' := [(4, .int (0 : Int32)), (3, .int (0 : Int32)), (0, .ref (τ.2.2 30)), (1, .int x1), (2, .int x2)]) o d_X_seen_18 (by decide) rfl ?_
    exact gw_sub (lv' := [(0, .ref (τ.2.2 30)), (1, .int x1), (2, .int x2), (3, .int (0 : Int32)), (4, .int (0 : Int32))]) [2, 3, 4, 1, 0] rfl (wk_X_seen_L20 o h)
  · have h := h.1 hc
    refine gw_iconst (pc := 13) (v := (-1 : Int32)) o d_X_seen_13 (by decide) ?_
    exact gw_iret (pc := 14) o ⟨Nat.le_refl _, Nat.le_refl _⟩ (zp_i.mk h) d_X_seen_14
def w_X_seen  (E : xF) (N : xF) (x1 : Int32) (x2 : Int32) (Z : Int32 → Prop) : Prop := X_seen_b0  Z E N x1 x2
theorem ct_X_seen {l : Launch} {τ : xT} {E : xF} {N : xF} {x1 : Int32} {x2 : Int32} {Z : Int32 → Prop} (hD : xD (wdX τ)) (h : w_X_seen  E N x1 x2 Z) : CT l (wdX τ) y_X_seen (.code y_X_seen b_X_seen 5 (some .int)) (xR 2) [.ref (τ.2.2 30), .int x1, .int x2] (E, N) (zp_i (E, N) Z) := by
  subst_vars
  exact CT.of (by decide) (Nat.le_of_ble_eq_true rfl) hD (fun κ hl ha o => gw_sub (lv' := [(0, .ref (τ.2.2 30)), (1, .int x1), (2, .int x2)]) [0, 1, 2] rfl (wk_X_seen_b0 o h))
def X_nextOf_b39 (Z : Int32 → Prop) (k5 : Int32 → Int32 → Prop) (E : xF) (N : xF) (x1 : Int32) (x2 : Int32) (x4 : Int32) (s0 : Int32) (s1 : Int32) : Prop := ∀ x3_40 : Int32, x3_40 = s0 ||| s1 → (∀ x4_41 : Int32, x4_41 = x4 + (1 : Int32) → (k5 x3_40 x4_41))
set_option maxRecDepth 10000 in
theorem wk_X_nextOf_b39 {κ : Cx} {τ : xT} {Z : Int32 → Prop} {k5 : Int32 → Int32 → Prop} {E : xF} {N : xF} {x1 : Int32} {x2 : Int32} {x4 : Int32} {s0 : Int32} {s1 : Int32} (o : OKc κ (wdX τ) 5 b_X_nextOf "StateExplorer" (some .int) (xR 2)) (hk5 : ∀ (x3 : Int32) (x4 : Int32), k5 x3 x4 → GW κ (wdX τ) 5 (0, 0) (xMQ κ (wdX τ) (xR 2) (zp_i (E, N) Z)) (E, N) 5 [(0, .ref (τ.2.2 30)), (1, .int x1), (2, .int x2), (3, .int x3), (4, .int x4)] []) (h : X_nextOf_b39 Z k5 E N x1 x2 x4 s0 s1) : GW κ (wdX τ) 5 (0, 0) (xMQ κ (wdX τ) (xR 2) (zp_i (E, N) Z)) (E, N) 39 [(0, .ref (τ.2.2 30)), (1, .int x1), (2, .int x2), (4, .int x4)] [.int s1, .int s0] := by
  unfold X_nextOf_b39 at h
  refine gw_ior (pc := 39) o d_X_nextOf_39 ?_
  refine gw_topi (fun x3_40 ex3_40 => ?_)
  have h := h x3_40 ex3_40
  refine gw_istore_n (pc := 40) (lv' := [(3, .int x3_40), (0, .ref (τ.2.2 30)), (1, .int x1), (2, .int x2), (4, .int x4)]) o d_X_nextOf_40 rfl (by decide) rfl ?_
  refine gw_iincN (pc := 41) (c := (1 : Int32)) (lw := fun x4_41 => [(4, .int x4_41), (3, .int x3_40), (0, .ref (τ.2.2 30)), (1, .int x1), (2, .int x2)]) o d_X_nextOf_41 (by decide) 4 rfl (by decide) (fun _ => rfl) (fun x4_41 ex4_41 => ?_)
  have h := h x4_41 ex4_41
  refine gw_goto (pc := 44) (tgt := 5) o d_X_nextOf_44 (by decide) ?_
  exact gw_sub (lv' := [(0, .ref (τ.2.2 30)), (1, .int x1), (2, .int x2), (3, .int x3_40), (4, .int x4_41)]) [2, 3, 4, 1, 0] rfl (hk5 _ _ h)
def X_nextOf_b5 (Z : Int32 → Prop) (k5 : Int32 → Int32 → Prop) (E : xF) (N : xF) (x1 : Int32) (x2 : Int32) (x3 : Int32) (x4 : Int32) : Prop := (((E 30 4) ≤ x4) → (Z x3)) ∧ (¬ ((E 30 4) ≤ x4) → (vp_in x4 8 ∧ (w_X_at E N (E 16 x4.toNatClampNeg) x1 x2 (fun r25 => ((r25 = 0) → (X_nextOf_b39 Z k5 E N x1 x2 x4 x3 (0 : Int32))) ∧ (¬ (r25 = 0) → (X_nextOf_b39 Z k5 E N x1 x2 x4 x3 ((1 : Int32) <<< (x4 &&& 31))))))))
set_option maxRecDepth 10000 in
theorem wk_X_nextOf_b5 {κ : Cx} {τ : xT} {Z : Int32 → Prop} {k5 : Int32 → Int32 → Prop} {E : xF} {N : xF} {x1 : Int32} {x2 : Int32} {x3 : Int32} {x4 : Int32} (o : OKc κ (wdX τ) 5 b_X_nextOf "StateExplorer" (some .int) (xR 2)) (hk5 : ∀ (x3 : Int32) (x4 : Int32), k5 x3 x4 → GW κ (wdX τ) 5 (0, 0) (xMQ κ (wdX τ) (xR 2) (zp_i (E, N) Z)) (E, N) 5 [(0, .ref (τ.2.2 30)), (1, .int x1), (2, .int x2), (3, .int x3), (4, .int x4)] []) (h : X_nextOf_b5 Z k5 E N x1 x2 x3 x4) : GW κ (wdX τ) 5 (0, 0) (xMQ κ (wdX τ) (xR 2) (zp_i (E, N) Z)) (E, N) 5 [(0, .ref (τ.2.2 30)), (1, .int x1), (2, .int x2), (3, .int x3), (4, .int x4)] [] := by
  unfold X_nextOf_b5 at h
  refine gw_iload (pc := 5) o d_X_nextOf_5 4 rfl ?_
  refine gw_aload_n (pc := 7) o d_X_nextOf_7 rfl 0 rfl ?_
  refine gE_get_latches (pc := 8) o q_84 d_X_nextOf_8 ?_
  refine gw_icmp_ge (pc := 11) (tgt := 47) o d_X_nextOf_11 (by decide) (fun hc => ?_) (fun hc => ?_)
  · have h := h.1 hc
    refine gw_iload_n (pc := 47) o d_X_nextOf_47 rfl 3 rfl ?_
    exact gw_iret (pc := 48) o ⟨Nat.le_refl _, Nat.le_refl _⟩ (zp_i.mk h) d_X_nextOf_48
  · have h := h.2 hc
    refine gw_iload_n (pc := 14) o d_X_nextOf_14 rfl 3 rfl ?_
    refine gw_aload_n (pc := 15) o d_X_nextOf_15 rfl 0 rfl ?_
    refine gw_aload_n (pc := 16) o d_X_nextOf_16 rfl 0 rfl ?_
    refine gE_get_nexts (pc := 17) o q_96 d_X_nextOf_17 ?_
    refine gw_iload (pc := 20) o d_X_nextOf_20 4 rfl ?_
    have hi := h.1
    have h := h.2
    refine gE_ald_nexts (pc := 22) o hi d_X_nextOf_22 ?_
    refine gw_iload_n (pc := 23) o d_X_nextOf_23 rfl 1 rfl ?_
    refine gw_iload_n (pc := 24) o d_X_nextOf_24 rfl 2 rfl ?_
    refine gw_callV (pc := 25) (b := τ.2.2 30) (As := [.int (E 16 x4.toNatClampNeg), .int x1, .int x2]) (st := [.int x3]) o (ct_X_at o.hD h) mi_X_at q_301 q_303 qs_16 0 rfl rfl (xRo_of (by omega) (by decide)) rfl rfl (Nat.le_of_ble_eq_true rfl) d_X_nextOf_25 (kk_p_i rfl (fun r25 h => ?_))
    refine gw_if_eq (pc := 28) (tgt := 38) o d_X_nextOf_28 (by decide) (fun hc => ?_) (fun hc => ?_)
    · have h := h.1 hc
      refine gw_iconst (pc := 38) (v := (0 : Int32)) o d_X_nextOf_38 (by decide) ?_
      exact gw_sub (lv' := [(0, .ref (τ.2.2 30)), (1, .int x1), (2, .int x2), (4, .int x4)]) [0, 1, 2, 4] rfl (wk_X_nextOf_b39 o hk5 h)
    · have h := h.2 hc
      refine gw_iconst (pc := 31) (v := (1 : Int32)) o d_X_nextOf_31 (by decide) ?_
      refine gw_iload (pc := 32) o d_X_nextOf_32 4 rfl ?_
      refine gw_ishl (pc := 34) o d_X_nextOf_34 ?_
      refine gw_goto (pc := 35) (tgt := 39) o d_X_nextOf_35 (by decide) ?_
      exact gw_sub (lv' := [(0, .ref (τ.2.2 30)), (1, .int x1), (2, .int x2), (4, .int x4)]) [0, 1, 2, 4] rfl (wk_X_nextOf_b39 o hk5 h)
def X_nextOf_L5 (Z : Int32 → Prop) (E : xF) (N : xF) (x1 : Int32) (x2 : Int32) (x3 : Int32) (x4 : Int32) : Prop := LOOP2 (fun k5 x3 x4 => X_nextOf_b5 Z k5 E N x1 x2 x3 x4) x3 x4
theorem wk_X_nextOf_L5 {κ : Cx} {τ : xT} {Z : Int32 → Prop} {E : xF} {N : xF} {x1 : Int32} {x2 : Int32} {x3 : Int32} {x4 : Int32} (o : OKc κ (wdX τ) 5 b_X_nextOf "StateExplorer" (some .int) (xR 2)) (h : X_nextOf_L5 Z E N x1 x2 x3 x4) : GW κ (wdX τ) 5 (0, 0) (xMQ κ (wdX τ) (xR 2) (zp_i (E, N) Z)) (E, N) 5 [(0, .ref (τ.2.2 30)), (1, .int x1), (2, .int x2), (3, .int x3), (4, .int x4)] [] := by
  unfold X_nextOf_L5 at h
  exact LOOP2.use (G := fun x3 x4 => GW κ (wdX τ) 5 (0, 0) (xMQ κ (wdX τ) (xR 2) (zp_i (E, N) Z)) (E, N) 5 [(0, .ref (τ.2.2 30)), (1, .int x1), (2, .int x2), (3, .int x3), (4, .int x4)] []) (fun k5 x3 x4 hk5 h => wk_X_nextOf_b5 o hk5 h) h
def X_nextOf_b0 (Z : Int32 → Prop) (E : xF) (N : xF) (x1 : Int32) (x2 : Int32) : Prop := X_nextOf_L5 Z E N x1 x2 (0 : Int32) (0 : Int32)
set_option maxRecDepth 10000 in
theorem wk_X_nextOf_b0 {κ : Cx} {τ : xT} {Z : Int32 → Prop} {E : xF} {N : xF} {x1 : Int32} {x2 : Int32} (o : OKc κ (wdX τ) 5 b_X_nextOf "StateExplorer" (some .int) (xR 2)) (h : X_nextOf_b0 Z E N x1 x2) : GW κ (wdX τ) 5 (0, 0) (xMQ κ (wdX τ) (xR 2) (zp_i (E, N) Z)) (E, N) 0 [(0, .ref (τ.2.2 30)), (1, .int x1), (2, .int x2)] [] := by
  unfold X_nextOf_b0 at h
  refine gw_iconst (pc := 0) (v := (0 : Int32)) o d_X_nextOf_0 (by decide) ?_
  refine gw_istore_n (pc := 1) (lv' := [(3, .int (0 : Int32)), (0, .ref (τ.2.2 30)), (1, .int x1), (2, .int x2)]) o d_X_nextOf_1 rfl (by decide) rfl ?_
  refine gw_iconst (pc := 2) (v := (0 : Int32)) o d_X_nextOf_2 (by decide) ?_
  refine gw_istore (pc := 3) (lv' := [(4, .int (0 : Int32)), (3, .int (0 : Int32)), (0, .ref (τ.2.2 30)), (1, .int x1), (2, .int x2)]) o d_X_nextOf_3 (by decide) rfl ?_
  exact gw_sub (lv' := [(0, .ref (τ.2.2 30)), (1, .int x1), (2, .int x2), (3, .int (0 : Int32)), (4, .int (0 : Int32))]) [2, 3, 4, 1, 0] rfl (wk_X_nextOf_L5 o h)
def w_X_nextOf  (E : xF) (N : xF) (x1 : Int32) (x2 : Int32) (Z : Int32 → Prop) : Prop := X_nextOf_b0  Z E N x1 x2
theorem ct_X_nextOf {l : Launch} {τ : xT} {E : xF} {N : xF} {x1 : Int32} {x2 : Int32} {Z : Int32 → Prop} (hD : xD (wdX τ)) (h : w_X_nextOf  E N x1 x2 Z) : CT l (wdX τ) y_X_nextOf (.code y_X_nextOf b_X_nextOf 5 (some .int)) (xR 2) [.ref (τ.2.2 30), .int x1, .int x2] (E, N) (zp_i (E, N) Z) := by
  subst_vars
  exact CT.of (by decide) (Nat.le_of_ble_eq_true rfl) hD (fun κ hl ha o => gw_sub (lv' := [(0, .ref (τ.2.2 30)), (1, .int x1), (2, .int x2)]) [0, 1, 2] rfl (wk_X_nextOf_b0 o h))
