/-! walks, printed by mk.py -/
def X_there_b17 (Z : Int32 → Prop) (E : xF) (N : xF) (x1 : Int32) (s0 : Int32) : Prop := w_X_need s0 (Z x1)
set_option maxRecDepth 10000 in
theorem wk_X_there_b17 {κ : Cx} {τ : xT} {Z : Int32 → Prop} {E : xF} {N : xF} {x1 : Int32} {s0 : Int32} (o : OKc κ (wdX τ) 2 b_X_there "StateExplorer" (some .int) (xR 1)) (h : X_there_b17 Z E N x1 s0) : GW κ (wdX τ) 2 (0, 0) (xMQ κ (wdX τ) (xR 1) (zp_i (E, N) Z)) (E, N) 17 [(1, .int x1)] [.int s0] := by
  unfold X_there_b17 at h
  refine gw_callS (pc := 17) (As := [.int s0]) (st := []) o (ct_X_need o.hD h) mi_X_need q_416 q_417 (xRo_of (by omega) (by decide)) rfl rfl (Nat.le_of_ble_eq_true rfl) d_X_there_17 (kk_p_v rfl (fun h => ?_))
  refine gw_iload_n (pc := 20) o d_X_there_20 rfl 0 rfl ?_
  exact gw_iret (pc := 21) o ⟨Nat.le_refl _, Nat.le_refl _⟩ (zp_i.mk h) d_X_there_21
def X_there_b16 (Z : Int32 → Prop) (E : xF) (N : xF) (x1 : Int32) : Prop := X_there_b17 Z E N x1 (0 : Int32)
set_option maxRecDepth 10000 in
theorem wk_X_there_b16 {κ : Cx} {τ : xT} {Z : Int32 → Prop} {E : xF} {N : xF} {x1 : Int32} (o : OKc κ (wdX τ) 2 b_X_there "StateExplorer" (some .int) (xR 1)) (h : X_there_b16 Z E N x1) : GW κ (wdX τ) 2 (0, 0) (xMQ κ (wdX τ) (xR 1) (zp_i (E, N) Z)) (E, N) 16 [(1, .int x1)] [] := by
  unfold X_there_b16 at h
  refine gw_iconst (pc := 16) (v := (0 : Int32)) o d_X_there_16 (by decide) ?_
  exact gw_sub (lv' := [(1, .int x1)]) [0] rfl (wk_X_there_b17 o h)
def X_there_b0 (Z : Int32 → Prop) (E : xF) (N : xF) (x1 : Int32) : Prop := ((x1 < 0) → (X_there_b16 Z E N x1)) ∧ (¬ (x1 < 0) → ((((E 30 1) ≤ x1) → (X_there_b16 Z E N x1)) ∧ (¬ ((E 30 1) ≤ x1) → (X_there_b17 Z E N x1 (1 : Int32)))))
set_option maxRecDepth 10000 in
theorem wk_X_there_b0 {κ : Cx} {τ : xT} {Z : Int32 → Prop} {E : xF} {N : xF} {x1 : Int32} (o : OKc κ (wdX τ) 2 b_X_there "StateExplorer" (some .int) (xR 1)) (h : X_there_b0 Z E N x1) : GW κ (wdX τ) 2 (0, 0) (xMQ κ (wdX τ) (xR 1) (zp_i (E, N) Z)) (E, N) 0 [(0, .ref (τ.2.2 30)), (1, .int x1)] [] := by
  unfold X_there_b0 at h
  refine gw_iload_n (pc := 0) o d_X_there_0 rfl 1 rfl ?_
  refine gw_if_lt (pc := 1) (tgt := 16) o d_X_there_1 (by decide) (fun hc => ?_) (fun hc => ?_)
  · have h := h.1 hc
    exact gw_sub (lv' := [(1, .int x1)]) [1] rfl (wk_X_there_b16 o h)
  · have h := h.2 hc
    refine gw_iload_n (pc := 4) o d_X_there_4 rfl 1 rfl ?_
    refine gw_aload_n (pc := 5) o d_X_there_5 rfl 0 rfl ?_
    refine gE_get_gates (pc := 6) o q_81 d_X_there_6 ?_
    refine gw_icmp_ge (pc := 9) (tgt := 16) o d_X_there_9 (by decide) (fun hc => ?_) (fun hc => ?_)
    · have h := h.1 hc
      exact gw_sub (lv' := [(1, .int x1)]) [1] rfl (wk_X_there_b16 o h)
    · have h := h.2 hc
      refine gw_iconst (pc := 12) (v := (1 : Int32)) o d_X_there_12 (by decide) ?_
      refine gw_goto (pc := 13) (tgt := 17) o d_X_there_13 (by decide) ?_
      exact gw_sub (lv' := [(1, .int x1)]) [1] rfl (wk_X_there_b17 o h)
def w_X_there  (E : xF) (N : xF) (x1 : Int32) (Z : Int32 → Prop) : Prop := X_there_b0  Z E N x1
theorem ct_X_there {l : Launch} {τ : xT} {E : xF} {N : xF} {x1 : Int32} {Z : Int32 → Prop} (hD : xD (wdX τ)) (h : w_X_there  E N x1 Z) : CT l (wdX τ) y_X_there (.code y_X_there b_X_there 2 (some .int)) (xR 1) [.ref (τ.2.2 30), .int x1] (E, N) (zp_i (E, N) Z) := by
  subst_vars
  exact CT.of (by decide) (Nat.le_of_ble_eq_true rfl) hD (fun κ hl ha o => gw_sub (lv' := [(0, .ref (τ.2.2 30)), (1, .int x1)]) [0, 1] rfl (wk_X_there_b0 o h))
def X_gate_b9 (Z : Int32 → xF → Prop) (E : xF) (N : xF) : Prop := False
set_option maxRecDepth 10000 in
theorem wk_X_gate_b9 {κ : Cx} {τ : xT} {Z : Int32 → xF → Prop} {E : xF} {N : xF} (o : OKc κ (wdX τ) 2 b_X_gate "StateExplorer" (some .int) (xR 0)) (h : X_gate_b9 Z E N) : GW κ (wdX τ) 2 (0, 0) (xMQ κ (wdX τ) (xR 0) (z1_i N Z)) (E, N) 9 [] [] := by
  unfold X_gate_b9 at h
  exact h.elim
def X_gate_b134 (Z : Int32 → xF → Prop) (E : xF) (N : xF) : Prop := ∀ E_141 : xF, E_141 = xs E 30 1 ((E 30 1) + (1 : Int32)) → (∀ E_146 : xF, E_146 = xs E_141 30 13 (0 : Int32) → (Z ((E_146 30 1) - (1 : Int32)) E_146))
set_option maxRecDepth 10000 in
theorem wk_X_gate_b134 {κ : Cx} {τ : xT} {Z : Int32 → xF → Prop} {E : xF} {N : xF} (o : OKc κ (wdX τ) 2 b_X_gate "StateExplorer" (some .int) (xR 0)) (h : X_gate_b134 Z E N) : GW κ (wdX τ) 2 (0, 0) (xMQ κ (wdX τ) (xR 0) (z1_i N Z)) (E, N) 134 [(0, .ref (τ.2.2 30))] [] := by
  unfold X_gate_b134 at h
  refine gw_aload_n (pc := 134) o d_X_gate_134 rfl 0 rfl ?_
  refine gw_dup (pc := 135) o d_X_gate_135 rfl ?_
  refine gE_get_gates (pc := 136) o q_81 d_X_gate_136 ?_
  refine gw_iconst (pc := 139) (v := (1 : Int32)) o d_X_gate_139 (by decide) ?_
  refine gw_iadd (pc := 140) o d_X_gate_140 ?_
  refine gE_put_gates (pc := 141) o q_81 d_X_gate_141 (fun E_141 eE_141 => ?_)
  have h := h E_141 eE_141
  refine gw_aload_n (pc := 144) o d_X_gate_144 rfl 0 rfl ?_
  refine gw_iconst (pc := 145) (v := (0 : Int32)) o d_X_gate_145 (by decide) ?_
  refine gE_put_explored (pc := 146) o q_93 (by decide) d_X_gate_146 (fun E_146 eE_146 => ?_)
  have h := h E_146 eE_146
  refine gw_aload_n (pc := 149) o d_X_gate_149 rfl 0 rfl ?_
  refine gE_get_gates (pc := 150) o q_81 d_X_gate_150 ?_
  refine gw_iconst (pc := 153) (v := (1 : Int32)) o d_X_gate_153 (by decide) ?_
  refine gw_isub (pc := 154) o d_X_gate_154 ?_
  exact gw_iret (pc := 155) o ⟨Nat.le_refl _, Nat.le_refl _⟩ (z1_i.mk h) d_X_gate_155
def X_gate_b102 (Z : Int32 → xF → Prop) (E : xF) (N : xF) (x1 : Int32) (s1 : Int32) (s2 : Int32) : Prop := ∀ E_103 : xF, E_103 = xs E 30 3 (s1 + s2) → (((x1 = (1 : Int32)) → (vp_in (E_103 30 4) 8 ∧ (∀ E_123 : xF, E_123 = xs E_103 9 (E_103 30 4).toNatClampNeg (E_103 30 1) → (∀ E_131 : xF, E_131 = xs E_123 30 4 ((E_123 30 4) + (1 : Int32)) → (X_gate_b134 Z E_131 N))))) ∧ (¬ (x1 = (1 : Int32)) → (X_gate_b134 Z E_103 N)))
set_option maxRecDepth 10000 in
theorem wk_X_gate_b102 {κ : Cx} {τ : xT} {Z : Int32 → xF → Prop} {E : xF} {N : xF} {x1 : Int32} {s1 : Int32} {s2 : Int32} (o : OKc κ (wdX τ) 2 b_X_gate "StateExplorer" (some .int) (xR 0)) (h : X_gate_b102 Z E N x1 s1 s2) : GW κ (wdX τ) 2 (0, 0) (xMQ κ (wdX τ) (xR 0) (z1_i N Z)) (E, N) 102 [(0, .ref (τ.2.2 30)), (1, .int x1)] [.int s2, .int s1, .ref (τ.2.2 30)] := by
  unfold X_gate_b102 at h
  refine gw_iadd (pc := 102) o d_X_gate_102 ?_
  refine gE_put_inputs (pc := 103) o q_83 d_X_gate_103 (fun E_103 eE_103 => ?_)
  have h := h E_103 eE_103
  refine gw_iload_n (pc := 106) o d_X_gate_106 rfl 1 rfl ?_
  refine gw_iconst (pc := 107) (v := (1 : Int32)) o d_X_gate_107 (by decide) ?_
  refine gw_icmp_ne (pc := 108) (tgt := 134) o d_X_gate_108 (by decide) (fun hc => ?_) (fun hc => ?_)
  · have h := h.2 hc
    exact gw_sub (lv' := [(0, .ref (τ.2.2 30))]) [0] rfl (wk_X_gate_b134 o h)
  · have h := h.1 hc
    refine gw_aload_n (pc := 111) o d_X_gate_111 rfl 0 rfl ?_
    refine gE_get_latchAt (pc := 112) o q_89 d_X_gate_112 ?_
    refine gw_aload_n (pc := 115) o d_X_gate_115 rfl 0 rfl ?_
    refine gE_get_latches (pc := 116) o q_84 d_X_gate_116 ?_
    refine gw_aload_n (pc := 119) o d_X_gate_119 rfl 0 rfl ?_
    refine gE_get_gates (pc := 120) o q_81 d_X_gate_120 ?_
    have hi := h.1
    have h := h.2
    refine gE_ast_latchAt (pc := 123) o hi d_X_gate_123 (fun E_123 eE_123 => ?_)
    have h := h E_123 eE_123
    refine gw_aload_n (pc := 124) o d_X_gate_124 rfl 0 rfl ?_
    refine gw_dup (pc := 125) o d_X_gate_125 rfl ?_
    refine gE_get_latches (pc := 126) o q_84 d_X_gate_126 ?_
    refine gw_iconst (pc := 129) (v := (1 : Int32)) o d_X_gate_129 (by decide) ?_
    refine gw_iadd (pc := 130) o d_X_gate_130 ?_
    refine gE_put_latches (pc := 131) o q_84 d_X_gate_131 (fun E_131 eE_131 => ?_)
    have h := h E_131 eE_131
    exact gw_sub (lv' := [(0, .ref (τ.2.2 30))]) [0] rfl (wk_X_gate_b134 o h)
def X_gate_b87 (Z : Int32 → xF → Prop) (E : xF) (N : xF) (x1 : Int32) (s1 : Int32) (s2 : Int32) : Prop := vp_in s1 60 ∧ (∀ E_87 : xF, E_87 = xs E 7 s1.toNatClampNeg s2 → (((x1 = 0) → (X_gate_b102 Z E_87 N x1 (E_87 30 3) (1 : Int32))) ∧ (¬ (x1 = 0) → (X_gate_b102 Z E_87 N x1 (E_87 30 3) (0 : Int32)))))
set_option maxRecDepth 10000 in
theorem wk_X_gate_b87 {κ : Cx} {τ : xT} {Z : Int32 → xF → Prop} {E : xF} {N : xF} {x1 : Int32} {s1 : Int32} {s2 : Int32} (o : OKc κ (wdX τ) 2 b_X_gate "StateExplorer" (some .int) (xR 0)) (h : X_gate_b87 Z E N x1 s1 s2) : GW κ (wdX τ) 2 (0, 0) (xMQ κ (wdX τ) (xR 0) (z1_i N Z)) (E, N) 87 [(0, .ref (τ.2.2 30)), (1, .int x1)] [.int s2, .int s1, .ref (τ.2.2 7)] := by
  unfold X_gate_b87 at h
  have hi := h.1
  have h := h.2
  refine gE_ast_numbers (pc := 87) o hi d_X_gate_87 (fun E_87 eE_87 => ?_)
  have h := h E_87 eE_87
  refine gw_aload_n (pc := 88) o d_X_gate_88 rfl 0 rfl ?_
  refine gw_dup (pc := 89) o d_X_gate_89 rfl ?_
  refine gE_get_inputs (pc := 90) o q_83 d_X_gate_90 ?_
  refine gw_iload_n (pc := 93) o d_X_gate_93 rfl 1 rfl ?_
  refine gw_if_ne (pc := 94) (tgt := 101) o d_X_gate_94 (by decide) (fun hc => ?_) (fun hc => ?_)
  · have h := h.2 hc
    refine gw_iconst (pc := 101) (v := (0 : Int32)) o d_X_gate_101 (by decide) ?_
    exact gw_sub (lv' := [(0, .ref (τ.2.2 30)), (1, .int x1)]) [0, 1] rfl (wk_X_gate_b102 o h)
  · have h := h.1 hc
    refine gw_iconst (pc := 97) (v := (1 : Int32)) o d_X_gate_97 (by decide) ?_
    refine gw_goto (pc := 98) (tgt := 102) o d_X_gate_98 (by decide) ?_
    exact gw_sub (lv' := [(0, .ref (τ.2.2 30)), (1, .int x1)]) [0, 1] rfl (wk_X_gate_b102 o h)
def X_gate_b54 (Z : Int32 → xF → Prop) (E : xF) (N : xF) (x1 : Int32) : Prop := vp_in (E 30 1) 60 ∧ (∀ E_63 : xF, E_63 = xs E 6 (E 30 1).toNatClampNeg x1 → (((x1 = 0) → (X_gate_b87 Z E_63 N x1 (E_63 30 1) (E_63 30 3))) ∧ (¬ (x1 = 0) → (X_gate_b87 Z E_63 N x1 (E_63 30 1) (E_63 30 4)))))
set_option maxRecDepth 10000 in
theorem wk_X_gate_b54 {κ : Cx} {τ : xT} {Z : Int32 → xF → Prop} {E : xF} {N : xF} {x1 : Int32} (o : OKc κ (wdX τ) 2 b_X_gate "StateExplorer" (some .int) (xR 0)) (h : X_gate_b54 Z E N x1) : GW κ (wdX τ) 2 (0, 0) (xMQ κ (wdX τ) (xR 0) (z1_i N Z)) (E, N) 54 [(0, .ref (τ.2.2 30)), (1, .int x1)] [] := by
  unfold X_gate_b54 at h
  refine gw_aload_n (pc := 54) o d_X_gate_54 rfl 0 rfl ?_
  refine gE_get_sorts (pc := 55) o q_86 d_X_gate_55 ?_
  refine gw_aload_n (pc := 58) o d_X_gate_58 rfl 0 rfl ?_
  refine gE_get_gates (pc := 59) o q_81 d_X_gate_59 ?_
  refine gw_iload_n (pc := 62) o d_X_gate_62 rfl 1 rfl ?_
  have hi := h.1
  have h := h.2
  refine gE_ast_sorts (pc := 63) o hi d_X_gate_63 (fun E_63 eE_63 => ?_)
  have h := h E_63 eE_63
  refine gw_aload_n (pc := 64) o d_X_gate_64 rfl 0 rfl ?_
  refine gE_get_numbers (pc := 65) o q_87 d_X_gate_65 ?_
  refine gw_aload_n (pc := 68) o d_X_gate_68 rfl 0 rfl ?_
  refine gE_get_gates (pc := 69) o q_81 d_X_gate_69 ?_
  refine gw_iload_n (pc := 72) o d_X_gate_72 rfl 1 rfl ?_
  refine gw_if_ne (pc := 73) (tgt := 83) o d_X_gate_73 (by decide) (fun hc => ?_) (fun hc => ?_)
  · have h := h.2 hc
    refine gw_aload_n (pc := 83) o d_X_gate_83 rfl 0 rfl ?_
    refine gE_get_latches (pc := 84) o q_84 d_X_gate_84 ?_
    exact gw_sub (lv' := [(0, .ref (τ.2.2 30)), (1, .int x1)]) [0, 1] rfl (wk_X_gate_b87 o h)
  · have h := h.1 hc
    refine gw_aload_n (pc := 76) o d_X_gate_76 rfl 0 rfl ?_
    refine gE_get_inputs (pc := 77) o q_83 d_X_gate_77 ?_
    refine gw_goto (pc := 80) (tgt := 87) o d_X_gate_80 (by decide) ?_
    exact gw_sub (lv' := [(0, .ref (τ.2.2 30)), (1, .int x1)]) [0, 1] rfl (wk_X_gate_b87 o h)
def X_gate_b38 (Z : Int32 → xF → Prop) (E : xF) (N : xF) (x1 : Int32) : Prop := ((x1 = (1 : Int32)) → ((((E 30 4) = (8 : Int32)) → (Z (-1 : Int32) E)) ∧ (¬ ((E 30 4) = (8 : Int32)) → (X_gate_b54 Z E N x1)))) ∧ (¬ (x1 = (1 : Int32)) → (X_gate_b54 Z E N x1))
set_option maxRecDepth 10000 in
theorem wk_X_gate_b38 {κ : Cx} {τ : xT} {Z : Int32 → xF → Prop} {E : xF} {N : xF} {x1 : Int32} (o : OKc κ (wdX τ) 2 b_X_gate "StateExplorer" (some .int) (xR 0)) (h : X_gate_b38 Z E N x1) : GW κ (wdX τ) 2 (0, 0) (xMQ κ (wdX τ) (xR 0) (z1_i N Z)) (E, N) 38 [(0, .ref (τ.2.2 30)), (1, .int x1)] [] := by
  unfold X_gate_b38 at h
  refine gw_iload_n (pc := 38) o d_X_gate_38 rfl 1 rfl ?_
  refine gw_iconst (pc := 39) (v := (1 : Int32)) o d_X_gate_39 (by decide) ?_
  refine gw_icmp_ne (pc := 40) (tgt := 54) o d_X_gate_40 (by decide) (fun hc => ?_) (fun hc => ?_)
  · have h := h.2 hc
    exact gw_sub (lv' := [(0, .ref (τ.2.2 30)), (1, .int x1)]) [0, 1] rfl (wk_X_gate_b54 o h)
  · have h := h.1 hc
    refine gw_aload_n (pc := 43) o d_X_gate_43 rfl 0 rfl ?_
    refine gE_get_latches (pc := 44) o q_84 d_X_gate_44 ?_
    refine gw_bipush (pc := 47) (v := (8 : Int32)) o d_X_gate_47 (by decide) ?_
    refine gw_icmp_ne (pc := 49) (tgt := 54) o d_X_gate_49 (by decide) (fun hc => ?_) (fun hc => ?_)
    · have h := h.2 hc
      exact gw_sub (lv' := [(0, .ref (τ.2.2 30)), (1, .int x1)]) [0, 1] rfl (wk_X_gate_b54 o h)
    · have h := h.1 hc
      refine gw_iconst (pc := 52) (v := (-1 : Int32)) o d_X_gate_52 (by decide) ?_
      exact gw_iret (pc := 53) o ⟨Nat.le_refl _, Nat.le_refl _⟩ (z1_i.mk h) d_X_gate_53
def X_gate_b0 (Z : Int32 → xF → Prop) (E : xF) (N : xF) (x1 : Int32) : Prop := ((x1 < 0) → (X_gate_b9 Z E N)) ∧ (¬ (x1 < 0) → (((x1 ≤ (3 : Int32)) → ((((E 30 1) = (60 : Int32)) → (Z (-1 : Int32) E)) ∧ (¬ ((E 30 1) = (60 : Int32)) → (((x1 = 0) → ((((E 30 3) = (4 : Int32)) → (Z (-1 : Int32) E)) ∧ (¬ ((E 30 3) = (4 : Int32)) → (X_gate_b38 Z E N x1)))) ∧ (¬ (x1 = 0) → (X_gate_b38 Z E N x1)))))) ∧ (¬ (x1 ≤ (3 : Int32)) → (X_gate_b9 Z E N))))
set_option maxRecDepth 10000 in
theorem wk_X_gate_b0 {κ : Cx} {τ : xT} {Z : Int32 → xF → Prop} {E : xF} {N : xF} {x1 : Int32} (o : OKc κ (wdX τ) 2 b_X_gate "StateExplorer" (some .int) (xR 0)) (h : X_gate_b0 Z E N x1) : GW κ (wdX τ) 2 (0, 0) (xMQ κ (wdX τ) (xR 0) (z1_i N Z)) (E, N) 0 [(0, .ref (τ.2.2 30)), (1, .int x1)] [] := by
  unfold X_gate_b0 at h
  refine gw_iload_n (pc := 0) o d_X_gate_0 rfl 1 rfl ?_
  refine gw_if_lt (pc := 1) (tgt := 9) o d_X_gate_1 (by decide) (fun hc => ?_) (fun hc => ?_)
  · have h := h.1 hc
    exact gw_sub (lv' := []) [] rfl (wk_X_gate_b9 o h)
  · have h := h.2 hc
    refine gw_iload_n (pc := 4) o d_X_gate_4 rfl 1 rfl ?_
    refine gw_iconst (pc := 5) (v := (3 : Int32)) o d_X_gate_5 (by decide) ?_
    refine gw_icmp_le (pc := 6) (tgt := 17) o d_X_gate_6 (by decide) (fun hc => ?_) (fun hc => ?_)
    · have h := h.1 hc
      refine gw_aload_n (pc := 17) o d_X_gate_17 rfl 0 rfl ?_
      refine gE_get_gates (pc := 18) o q_81 d_X_gate_18 ?_
      refine gw_bipush (pc := 21) (v := (60 : Int32)) o d_X_gate_21 (by decide) ?_
      refine gw_icmp_eq (pc := 23) (tgt := 52) o d_X_gate_23 (by decide) (fun hc => ?_) (fun hc => ?_)
      · have h := h.1 hc
        refine gw_iconst (pc := 52) (v := (-1 : Int32)) o d_X_gate_52 (by decide) ?_
        exact gw_iret (pc := 53) o ⟨Nat.le_refl _, Nat.le_refl _⟩ (z1_i.mk h) d_X_gate_53
      · have h := h.2 hc
        refine gw_iload_n (pc := 26) o d_X_gate_26 rfl 1 rfl ?_
        refine gw_if_ne (pc := 27) (tgt := 38) o d_X_gate_27 (by decide) (fun hc => ?_) (fun hc => ?_)
        · have h := h.2 hc
          exact gw_sub (lv' := [(0, .ref (τ.2.2 30)), (1, .int x1)]) [0, 1] rfl (wk_X_gate_b38 o h)
        · have h := h.1 hc
          refine gw_aload_n (pc := 30) o d_X_gate_30 rfl 0 rfl ?_
          refine gE_get_inputs (pc := 31) o q_83 d_X_gate_31 ?_
          refine gw_iconst (pc := 34) (v := (4 : Int32)) o d_X_gate_34 (by decide) ?_
          refine gw_icmp_eq (pc := 35) (tgt := 52) o d_X_gate_35 (by decide) (fun hc => ?_) (fun hc => ?_)
          · have h := h.1 hc
            refine gw_iconst (pc := 52) (v := (-1 : Int32)) o d_X_gate_52 (by decide) ?_
            exact gw_iret (pc := 53) o ⟨Nat.le_refl _, Nat.le_refl _⟩ (z1_i.mk h) d_X_gate_53
          · have h := h.2 hc
            exact gw_sub (lv' := [(0, .ref (τ.2.2 30)), (1, .int x1)]) [0, 1] rfl (wk_X_gate_b38 o h)
    · have h := h.2 hc
      exact gw_sub (lv' := []) [] rfl (wk_X_gate_b9 o h)
def w_X_gate  (E : xF) (N : xF) (x1 : Int32) (Z : Int32 → xF → Prop) : Prop := X_gate_b0  Z E N x1
theorem ct_X_gate {l : Launch} {τ : xT} {E : xF} {N : xF} {x1 : Int32} {Z : Int32 → xF → Prop} (hD : xD (wdX τ)) (h : w_X_gate  E N x1 Z) : CT l (wdX τ) y_X_gate (.code y_X_gate b_X_gate 2 (some .int)) (xR 0) [.ref (τ.2.2 30), .int x1] (E, N) (z1_i N Z) := by
  subst_vars
  exact CT.of (by decide) (Nat.le_of_ble_eq_true rfl) hD (fun κ hl ha o => gw_sub (lv' := [(0, .ref (τ.2.2 30)), (1, .int x1)]) [0, 1] rfl (wk_X_gate_b0 o h))
def X_feed_b39 (Z : Int32 → xF → Prop) (E : xF) (N : xF) : Prop := False
set_option maxRecDepth 10000 in
theorem wk_X_feed_b39 {κ : Cx} {τ : xT} {Z : Int32 → xF → Prop} {E : xF} {N : xF} (o : OKc κ (wdX τ) 4 b_X_feed "StateExplorer" (some .int) (xR 2)) (h : X_feed_b39 Z E N) : GW κ (wdX τ) 4 (0, 0) (xMQ κ (wdX τ) (xR 2) (z1_i N Z)) (E, N) 39 [] [] := by
  unfold X_feed_b39 at h
  exact h.elim
def X_feed_b47 (Z : Int32 → xF → Prop) (E : xF) (N : xF) (x1 : Int32) (x2 : Int32) (x3 : Int32) : Prop := (((E 30 2) = (240 : Int32)) → (Z (-1 : Int32) E)) ∧ (¬ ((E 30 2) = (240 : Int32)) → (vp_in (E 30 2) 240 ∧ (∀ E_68 : xF, E_68 = xs E 10 (E 30 2).toNatClampNeg x1 → (vp_in (E_68 30 2) 240 ∧ (∀ E_78 : xF, E_78 = xs E_68 11 (E_68 30 2).toNatClampNeg x2 → (vp_in (E_78 30 2) 240 ∧ ((x3 = 0 ∨ x3 = 1) ∧ (∀ E_88 : xF, E_88 = xs E_78 12 (E_78 30 2).toNatClampNeg x3 → (∀ E_96 : xF, E_96 = xs E_88 30 2 ((E_88 30 2) + (1 : Int32)) → (∀ E_101 : xF, E_101 = xs E_96 30 13 (0 : Int32) → (w_X_feedsOf E_101 N x1 (fun r106 => Z r106 E_101))))))))))))
set_option maxRecDepth 10000 in
theorem wk_X_feed_b47 {κ : Cx} {τ : xT} {Z : Int32 → xF → Prop} {E : xF} {N : xF} {x1 : Int32} {x2 : Int32} {x3 : Int32} (o : OKc κ (wdX τ) 4 b_X_feed "StateExplorer" (some .int) (xR 2)) (h : X_feed_b47 Z E N x1 x2 x3) : GW κ (wdX τ) 4 (0, 0) (xMQ κ (wdX τ) (xR 2) (z1_i N Z)) (E, N) 47 [(0, .ref (τ.2.2 30)), (1, .int x1), (2, .int x2), (3, .int x3)] [] := by
  unfold X_feed_b47 at h
  refine gw_aload_n (pc := 47) o d_X_feed_47 rfl 0 rfl ?_
  refine gE_get_feeds (pc := 48) o q_82 d_X_feed_48 ?_
  refine gw_sipush (pc := 51) (v := (240 : Int32)) o d_X_feed_51 (by decide) ?_
  refine gw_icmp_ne (pc := 54) (tgt := 59) o d_X_feed_54 (by decide) (fun hc => ?_) (fun hc => ?_)
  · have h := h.2 hc
    refine gw_aload_n (pc := 59) o d_X_feed_59 rfl 0 rfl ?_
    refine gE_get_to (pc := 60) o q_90 d_X_feed_60 ?_
    refine gw_aload_n (pc := 63) o d_X_feed_63 rfl 0 rfl ?_
    refine gE_get_feeds (pc := 64) o q_82 d_X_feed_64 ?_
    refine gw_iload_n (pc := 67) o d_X_feed_67 rfl 1 rfl ?_
    have hi := h.1
    have h := h.2
    refine gE_ast_to (pc := 68) o hi d_X_feed_68 (fun E_68 eE_68 => ?_)
    have h := h E_68 eE_68
    refine gw_aload_n (pc := 69) o d_X_feed_69 rfl 0 rfl ?_
    refine gE_get_from (pc := 70) o q_91 d_X_feed_70 ?_
    refine gw_aload_n (pc := 73) o d_X_feed_73 rfl 0 rfl ?_
    refine gE_get_feeds (pc := 74) o q_82 d_X_feed_74 ?_
    refine gw_iload_n (pc := 77) o d_X_feed_77 rfl 2 rfl ?_
    have hi := h.1
    have h := h.2
    refine gE_ast_from (pc := 78) o hi d_X_feed_78 (fun E_78 eE_78 => ?_)
    have h := h E_78 eE_78
    refine gw_aload_n (pc := 79) o d_X_feed_79 rfl 0 rfl ?_
    refine gE_get_negated (pc := 80) o q_92 d_X_feed_80 ?_
    refine gw_aload_n (pc := 83) o d_X_feed_83 rfl 0 rfl ?_
    refine gE_get_feeds (pc := 84) o q_82 d_X_feed_84 ?_
    refine gw_iload_n (pc := 87) o d_X_feed_87 rfl 3 rfl ?_
    have hi := h.1
    have h := h.2
    have hz0 := h.1
    have h := h.2
    refine gE_ast_negated (pc := 88) o hi (xnz hz0) d_X_feed_88 (fun E_88 eE_88 => ?_)
    have h := h E_88 eE_88
    refine gw_aload_n (pc := 89) o d_X_feed_89 rfl 0 rfl ?_
    refine gw_dup (pc := 90) o d_X_feed_90 rfl ?_
    refine gE_get_feeds (pc := 91) o q_82 d_X_feed_91 ?_
    refine gw_iconst (pc := 94) (v := (1 : Int32)) o d_X_feed_94 (by decide) ?_
    refine gw_iadd (pc := 95) o d_X_feed_95 ?_
    refine gE_put_feeds (pc := 96) o q_82 d_X_feed_96 (fun E_96 eE_96 => ?_)
    have h := h E_96 eE_96
    refine gw_aload_n (pc := 99) o d_X_feed_99 rfl 0 rfl ?_
    refine gw_iconst (pc := 100) (v := (0 : Int32)) o d_X_feed_100 (by decide) ?_
    refine gE_put_explored (pc := 101) o q_93 (by decide) d_X_feed_101 (fun E_101 eE_101 => ?_)
    have h := h E_101 eE_101
    refine gw_aload_n (pc := 104) o d_X_feed_104 rfl 0 rfl ?_
    refine gw_iload_n (pc := 105) o d_X_feed_105 rfl 1 rfl ?_
    refine gw_callV (pc := 106) (b := τ.2.2 30) (As := [.int x1]) (st := []) o (ct_X_feedsOf o.hD h) mi_X_feedsOf q_434 q_436 qs_24 0 rfl rfl (xRo_of (by omega) (by decide)) rfl rfl (Nat.le_of_ble_eq_true rfl) d_X_feed_106 (kk_p_i rfl (fun r106 h => ?_))
    exact gw_iret (pc := 109) o ⟨Nat.le_refl _, Nat.le_refl _⟩ (z1_i.mk h) d_X_feed_109
  · have h := h.1 hc
    refine gw_iconst (pc := 57) (v := (-1 : Int32)) o d_X_feed_57 (by decide) ?_
    exact gw_iret (pc := 58) o ⟨Nat.le_refl _, Nat.le_refl _⟩ (z1_i.mk h) d_X_feed_58
def X_feed_b0 (Z : Int32 → xF → Prop) (E : xF) (N : xF) (x1 : Int32) (x2 : Int32) (x3 : Int32) : Prop := w_X_there E N x1 (fun r2 => w_X_there E N x2 (fun r8 => vp_in x1 60 ∧ ((((E 6 x1.toNatClampNeg) = 0) → (X_feed_b39 Z E N)) ∧ (¬ ((E 6 x1.toNatClampNeg) = 0) → (vp_in x1 60 ∧ ((((E 6 x1.toNatClampNeg) = (1 : Int32)) → (w_X_feedsOf E N x1 (fun r33 => ((r33 ≤ 0) → (X_feed_b47 Z E N x1 x2 x3)) ∧ (¬ (r33 ≤ 0) → (X_feed_b39 Z E N))))) ∧ (¬ ((E 6 x1.toNatClampNeg) = (1 : Int32)) → (X_feed_b47 Z E N x1 x2 x3))))))))
set_option maxRecDepth 10000 in
theorem wk_X_feed_b0 {κ : Cx} {τ : xT} {Z : Int32 → xF → Prop} {E : xF} {N : xF} {x1 : Int32} {x2 : Int32} {x3 : Int32} (o : OKc κ (wdX τ) 4 b_X_feed "StateExplorer" (some .int) (xR 2)) (h : X_feed_b0 Z E N x1 x2 x3) : GW κ (wdX τ) 4 (0, 0) (xMQ κ (wdX τ) (xR 2) (z1_i N Z)) (E, N) 0 [(0, .ref (τ.2.2 30)), (1, .int x1), (2, .int x2), (3, .int x3)] [] := by
  unfold X_feed_b0 at h
  refine gw_aload_n (pc := 0) o d_X_feed_0 rfl 0 rfl ?_
  refine gw_iload_n (pc := 1) o d_X_feed_1 rfl 1 rfl ?_
  refine gw_callV (pc := 2) (b := τ.2.2 30) (As := [.int x1]) (st := []) o (ct_X_there o.hD h) mi_X_there q_412 q_414 qs_23 0 rfl rfl (xRo_of (by omega) (by decide)) rfl rfl (Nat.le_of_ble_eq_true rfl) d_X_feed_2 (kk_p_i rfl (fun r2 h => ?_))
  refine gw_pop (pc := 5) o d_X_feed_5 rfl ?_
  refine gw_aload_n (pc := 6) o d_X_feed_6 rfl 0 rfl ?_
  refine gw_iload_n (pc := 7) o d_X_feed_7 rfl 2 rfl ?_
  refine gw_callV (pc := 8) (b := τ.2.2 30) (As := [.int x2]) (st := []) o (ct_X_there o.hD h) mi_X_there q_412 q_414 qs_23 0 rfl rfl (xRo_of (by omega) (by decide)) rfl rfl (Nat.le_of_ble_eq_true rfl) d_X_feed_8 (kk_p_i rfl (fun r8 h => ?_))
  refine gw_pop (pc := 11) o d_X_feed_11 rfl ?_
  refine gw_aload_n (pc := 12) o d_X_feed_12 rfl 0 rfl ?_
  refine gE_get_sorts (pc := 13) o q_86 d_X_feed_13 ?_
  refine gw_iload_n (pc := 16) o d_X_feed_16 rfl 1 rfl ?_
  have hi := h.1
  have h := h.2
  refine gE_ald_sorts (pc := 17) o hi d_X_feed_17 ?_
  refine gw_if_eq (pc := 18) (tgt := 39) o d_X_feed_18 (by decide) (fun hc => ?_) (fun hc => ?_)
  · have h := h.1 hc
    exact gw_sub (lv' := []) [] rfl (wk_X_feed_b39 o h)
  · have h := h.2 hc
    refine gw_aload_n (pc := 21) o d_X_feed_21 rfl 0 rfl ?_
    refine gE_get_sorts (pc := 22) o q_86 d_X_feed_22 ?_
    refine gw_iload_n (pc := 25) o d_X_feed_25 rfl 1 rfl ?_
    have hi := h.1
    have h := h.2
    refine gE_ald_sorts (pc := 26) o hi d_X_feed_26 ?_
    refine gw_iconst (pc := 27) (v := (1 : Int32)) o d_X_feed_27 (by decide) ?_
    refine gw_icmp_ne (pc := 28) (tgt := 47) o d_X_feed_28 (by decide) (fun hc => ?_) (fun hc => ?_)
    · have h := h.2 hc
      exact gw_sub (lv' := [(0, .ref (τ.2.2 30)), (1, .int x1), (2, .int x2), (3, .int x3)]) [0, 1, 2, 3] rfl (wk_X_feed_b47 o h)
    · have h := h.1 hc
      refine gw_aload_n (pc := 31) o d_X_feed_31 rfl 0 rfl ?_
      refine gw_iload_n (pc := 32) o d_X_feed_32 rfl 1 rfl ?_
      refine gw_callV (pc := 33) (b := τ.2.2 30) (As := [.int x1]) (st := []) o (ct_X_feedsOf o.hD h) mi_X_feedsOf q_434 q_436 qs_24 0 rfl rfl (xRo_of (by omega) (by decide)) rfl rfl (Nat.le_of_ble_eq_true rfl) d_X_feed_33 (kk_p_i rfl (fun r33 h => ?_))
      refine gw_if_le (pc := 36) (tgt := 47) o d_X_feed_36 (by decide) (fun hc => ?_) (fun hc => ?_)
      · have h := h.1 hc
        exact gw_sub (lv' := [(0, .ref (τ.2.2 30)), (1, .int x1), (2, .int x2), (3, .int x3)]) [0, 1, 2, 3] rfl (wk_X_feed_b47 o h)
      · have h := h.2 hc
        exact gw_sub (lv' := []) [] rfl (wk_X_feed_b39 o h)
def w_X_feed  (E : xF) (N : xF) (x1 : Int32) (x2 : Int32) (x3 : Int32) (Z : Int32 → xF → Prop) : Prop := X_feed_b0  Z E N x1 x2 x3
theorem ct_X_feed {l : Launch} {τ : xT} {E : xF} {N : xF} {x1 : Int32} {x2 : Int32} {x3 : Int32} {Z : Int32 → xF → Prop} (hD : xD (wdX τ)) (h : w_X_feed  E N x1 x2 x3 Z) : CT l (wdX τ) y_X_feed (.code y_X_feed b_X_feed 4 (some .int)) (xR 2) [.ref (τ.2.2 30), .int x1, .int x2, .int x3] (E, N) (z1_i N Z) := by
  subst_vars
  exact CT.of (by decide) (Nat.le_of_ble_eq_true rfl) hD (fun κ hl ha o => gw_sub (lv' := [(0, .ref (τ.2.2 30)), (1, .int x1), (2, .int x2), (3, .int x3)]) [0, 1, 2, 3] rfl (wk_X_feed_b0 o h))
def X_output_b0 (Z : Int32 → xF → Prop) (E : xF) (N : xF) (x1 : Int32) : Prop := w_X_there E N x1 (fun r2 => (((E 30 5) = (6 : Int32)) → (Z (-1 : Int32) E)) ∧ (¬ ((E 30 5) = (6 : Int32)) → (vp_in (E 30 5) 6 ∧ (∀ E_26 : xF, E_26 = xs E 8 (E 30 5).toNatClampNeg x1 → (∀ E_34 : xF, E_34 = xs E_26 30 5 ((E_26 30 5) + (1 : Int32)) → (∀ E_39 : xF, E_39 = xs E_34 30 13 (0 : Int32) → (Z (E_39 30 5) E_39)))))))
set_option maxRecDepth 10000 in
theorem wk_X_output_b0 {κ : Cx} {τ : xT} {Z : Int32 → xF → Prop} {E : xF} {N : xF} {x1 : Int32} (o : OKc κ (wdX τ) 2 b_X_output "StateExplorer" (some .int) (xR 2)) (h : X_output_b0 Z E N x1) : GW κ (wdX τ) 2 (0, 0) (xMQ κ (wdX τ) (xR 2) (z1_i N Z)) (E, N) 0 [(0, .ref (τ.2.2 30)), (1, .int x1)] [] := by
  unfold X_output_b0 at h
  refine gw_aload_n (pc := 0) o d_X_output_0 rfl 0 rfl ?_
  refine gw_iload_n (pc := 1) o d_X_output_1 rfl 1 rfl ?_
  refine gw_callV (pc := 2) (b := τ.2.2 30) (As := [.int x1]) (st := []) o (ct_X_there o.hD h) mi_X_there q_412 q_414 qs_23 0 rfl rfl (xRo_of (by omega) (by decide)) rfl rfl (Nat.le_of_ble_eq_true rfl) d_X_output_2 (kk_p_i rfl (fun r2 h => ?_))
  refine gw_pop (pc := 5) o d_X_output_5 rfl ?_
  refine gw_aload_n (pc := 6) o d_X_output_6 rfl 0 rfl ?_
  refine gE_get_outputs (pc := 7) o q_85 d_X_output_7 ?_
  refine gw_bipush (pc := 10) (v := (6 : Int32)) o d_X_output_10 (by decide) ?_
  refine gw_icmp_ne (pc := 12) (tgt := 17) o d_X_output_12 (by decide) (fun hc => ?_) (fun hc => ?_)
  · have h := h.2 hc
    refine gw_aload_n (pc := 17) o d_X_output_17 rfl 0 rfl ?_
    refine gE_get_named (pc := 18) o q_88 d_X_output_18 ?_
    refine gw_aload_n (pc := 21) o d_X_output_21 rfl 0 rfl ?_
    refine gE_get_outputs (pc := 22) o q_85 d_X_output_22 ?_
    refine gw_iload_n (pc := 25) o d_X_output_25 rfl 1 rfl ?_
    have hi := h.1
    have h := h.2
    refine gE_ast_named (pc := 26) o hi d_X_output_26 (fun E_26 eE_26 => ?_)
    have h := h E_26 eE_26
    refine gw_aload_n (pc := 27) o d_X_output_27 rfl 0 rfl ?_
    refine gw_dup (pc := 28) o d_X_output_28 rfl ?_
    refine gE_get_outputs (pc := 29) o q_85 d_X_output_29 ?_
    refine gw_iconst (pc := 32) (v := (1 : Int32)) o d_X_output_32 (by decide) ?_
    refine gw_iadd (pc := 33) o d_X_output_33 ?_
    refine gE_put_outputs (pc := 34) o q_85 d_X_output_34 (fun E_34 eE_34 => ?_)
    have h := h E_34 eE_34
    refine gw_aload_n (pc := 37) o d_X_output_37 rfl 0 rfl ?_
    refine gw_iconst (pc := 38) (v := (0 : Int32)) o d_X_output_38 (by decide) ?_
    refine gE_put_explored (pc := 39) o q_93 (by decide) d_X_output_39 (fun E_39 eE_39 => ?_)
    have h := h E_39 eE_39
    refine gw_aload_n (pc := 42) o d_X_output_42 rfl 0 rfl ?_
    refine gE_get_outputs (pc := 43) o q_85 d_X_output_43 ?_
    exact gw_iret (pc := 46) o ⟨Nat.le_refl _, Nat.le_refl _⟩ (z1_i.mk h) d_X_output_46
  · have h := h.1 hc
    refine gw_iconst (pc := 15) (v := (-1 : Int32)) o d_X_output_15 (by decide) ?_
    exact gw_iret (pc := 16) o ⟨Nat.le_refl _, Nat.le_refl _⟩ (z1_i.mk h) d_X_output_16
def w_X_output  (E : xF) (N : xF) (x1 : Int32) (Z : Int32 → xF → Prop) : Prop := X_output_b0  Z E N x1
theorem ct_X_output {l : Launch} {τ : xT} {E : xF} {N : xF} {x1 : Int32} {Z : Int32 → xF → Prop} (hD : xD (wdX τ)) (h : w_X_output  E N x1 Z) : CT l (wdX τ) y_X_output (.code y_X_output b_X_output 2 (some .int)) (xR 2) [.ref (τ.2.2 30), .int x1] (E, N) (z1_i N Z) := by
  subst_vars
  exact CT.of (by decide) (Nat.le_of_ble_eq_true rfl) hD (fun κ hl ha o => gw_sub (lv' := [(0, .ref (τ.2.2 30)), (1, .int x1)]) [0, 1] rfl (wk_X_output_b0 o h))
def X_needsExplored_b0 (Z : Prop) (E : xF) (N : xF) : Prop := (((E 30 13) = 0) → (False)) ∧ (¬ ((E 30 13) = 0) → (Z))
set_option maxRecDepth 10000 in
theorem wk_X_needsExplored_b0 {κ : Cx} {τ : xT} {Z : Prop} {E : xF} {N : xF} (o : OKc κ (wdX τ) 1 b_X_needsExplored "StateExplorer" none (xR 0)) (h : X_needsExplored_b0 Z E N) : GW κ (wdX τ) 1 (0, 0) (xMQ κ (wdX τ) (xR 0) (zp_v (E, N) Z)) (E, N) 0 [(0, .ref (τ.2.2 30))] [] := by
  unfold X_needsExplored_b0 at h
  refine gw_aload_n (pc := 0) o d_X_needsExplored_0 rfl 0 rfl ?_
  refine gE_get_explored (pc := 1) o q_93 d_X_needsExplored_1 ?_
  refine gw_if_ne (pc := 4) (tgt := 15) o d_X_needsExplored_4 (by decide) (fun hc => ?_) (fun hc => ?_)
  · have h := h.2 hc
    exact gw_vret (pc := 15) o ⟨Nat.le_refl _, Nat.le_refl _⟩ (zp_v.mk h) d_X_needsExplored_15
  · have h := h.1 hc
    exact h.elim
def w_X_needsExplored  (E : xF) (N : xF)  (Z : Prop) : Prop := X_needsExplored_b0  Z E N
theorem ct_X_needsExplored {l : Launch} {τ : xT} {E : xF} {N : xF}  {Z : Prop} (hD : xD (wdX τ)) (h : w_X_needsExplored  E N Z) : CT l (wdX τ) y_X_needsExplored (.code y_X_needsExplored b_X_needsExplored 1 none) (xR 0) [.ref (τ.2.2 30)] (E, N) (zp_v (E, N) Z) := by
  subst_vars
  exact CT.of (by decide) (Nat.le_of_ble_eq_true rfl) hD (fun κ hl ha o => gw_sub (lv' := [(0, .ref (τ.2.2 30))]) [0] rfl (wk_X_needsExplored_b0 o h))
def X_needsState_b23 (Z : Prop) (E : xF) (N : xF) (s0 : Int32) : Prop := w_X_need s0 (Z)
set_option maxRecDepth 10000 in
theorem wk_X_needsState_b23 {κ : Cx} {τ : xT} {Z : Prop} {E : xF} {N : xF} {s0 : Int32} (o : OKc κ (wdX τ) 2 b_X_needsState "StateExplorer" none (xR 1)) (h : X_needsState_b23 Z E N s0) : GW κ (wdX τ) 2 (0, 0) (xMQ κ (wdX τ) (xR 1) (zp_v (E, N) Z)) (E, N) 23 [] [.int s0] := by
  unfold X_needsState_b23 at h
  refine gw_callS (pc := 23) (As := [.int s0]) (st := []) o (ct_X_need o.hD h) mi_X_need q_416 q_417 (xRo_of (by omega) (by decide)) rfl rfl (Nat.le_of_ble_eq_true rfl) d_X_needsState_23 (kk_p_v rfl (fun h => ?_))
  exact gw_vret (pc := 26) o ⟨Nat.le_refl _, Nat.le_refl _⟩ (zp_v.mk h) d_X_needsState_26
def X_needsState_b22 (Z : Prop) (E : xF) (N : xF) : Prop := X_needsState_b23 Z E N (0 : Int32)
set_option maxRecDepth 10000 in
theorem wk_X_needsState_b22 {κ : Cx} {τ : xT} {Z : Prop} {E : xF} {N : xF} (o : OKc κ (wdX τ) 2 b_X_needsState "StateExplorer" none (xR 1)) (h : X_needsState_b22 Z E N) : GW κ (wdX τ) 2 (0, 0) (xMQ κ (wdX τ) (xR 1) (zp_v (E, N) Z)) (E, N) 22 [] [] := by
  unfold X_needsState_b22 at h
  refine gw_iconst (pc := 22) (v := (0 : Int32)) o d_X_needsState_22 (by decide) ?_
  exact gw_sub (lv' := []) [] rfl (wk_X_needsState_b23 o h)
def X_needsState_b0 (Z : Prop) (E : xF) (N : xF) (x1 : Int32) : Prop := w_X_needsExplored E N (((x1 < 0) → (X_needsState_b22 Z E N)) ∧ (¬ (x1 < 0) → (((((1 : Int32) <<< ((E 30 4) &&& 31)) ≤ x1) → (X_needsState_b22 Z E N)) ∧ (¬ (((1 : Int32) <<< ((E 30 4) &&& 31)) ≤ x1) → (X_needsState_b23 Z E N (1 : Int32))))))
set_option maxRecDepth 10000 in
theorem wk_X_needsState_b0 {κ : Cx} {τ : xT} {Z : Prop} {E : xF} {N : xF} {x1 : Int32} (o : OKc κ (wdX τ) 2 b_X_needsState "StateExplorer" none (xR 1)) (h : X_needsState_b0 Z E N x1) : GW κ (wdX τ) 2 (0, 0) (xMQ κ (wdX τ) (xR 1) (zp_v (E, N) Z)) (E, N) 0 [(0, .ref (τ.2.2 30)), (1, .int x1)] [] := by
  unfold X_needsState_b0 at h
  refine gw_aload_n (pc := 0) o d_X_needsState_0 rfl 0 rfl ?_
  refine gw_callV (pc := 1) (b := τ.2.2 30) (As := []) (st := []) o (ct_X_needsExplored o.hD h) mi_X_needsExplored q_471 q_473 qs_26 0 rfl rfl (xRo_of (by omega) (by decide)) rfl rfl (Nat.le_of_ble_eq_true rfl) d_X_needsState_1 (kk_p_v rfl (fun h => ?_))
  refine gw_iload_n (pc := 4) o d_X_needsState_4 rfl 1 rfl ?_
  refine gw_if_lt (pc := 5) (tgt := 22) o d_X_needsState_5 (by decide) (fun hc => ?_) (fun hc => ?_)
  · have h := h.1 hc
    exact gw_sub (lv' := []) [] rfl (wk_X_needsState_b22 o h)
  · have h := h.2 hc
    refine gw_iload_n (pc := 8) o d_X_needsState_8 rfl 1 rfl ?_
    refine gw_iconst (pc := 9) (v := (1 : Int32)) o d_X_needsState_9 (by decide) ?_
    refine gw_aload_n (pc := 10) o d_X_needsState_10 rfl 0 rfl ?_
    refine gE_get_latches (pc := 11) o q_84 d_X_needsState_11 ?_
    refine gw_ishl (pc := 14) o d_X_needsState_14 ?_
    refine gw_icmp_ge (pc := 15) (tgt := 22) o d_X_needsState_15 (by decide) (fun hc => ?_) (fun hc => ?_)
    · have h := h.1 hc
      exact gw_sub (lv' := []) [] rfl (wk_X_needsState_b22 o h)
    · have h := h.2 hc
      refine gw_iconst (pc := 18) (v := (1 : Int32)) o d_X_needsState_18 (by decide) ?_
      refine gw_goto (pc := 19) (tgt := 23) o d_X_needsState_19 (by decide) ?_
      exact gw_sub (lv' := []) [] rfl (wk_X_needsState_b23 o h)
def w_X_needsState  (E : xF) (N : xF) (x1 : Int32) (Z : Prop) : Prop := X_needsState_b0  Z E N x1
theorem ct_X_needsState {l : Launch} {τ : xT} {E : xF} {N : xF} {x1 : Int32} {Z : Prop} (hD : xD (wdX τ)) (h : w_X_needsState  E N x1 Z) : CT l (wdX τ) y_X_needsState (.code y_X_needsState b_X_needsState 2 none) (xR 1) [.ref (τ.2.2 30), .int x1] (E, N) (zp_v (E, N) Z) := by
  subst_vars
  exact CT.of (by decide) (Nat.le_of_ble_eq_true rfl) hD (fun κ hl ha o => gw_sub (lv' := [(0, .ref (τ.2.2 30)), (1, .int x1)]) [0, 1] rfl (wk_X_needsState_b0 o h))
def X_distance_b49 (Z : Int32 → Prop) (E : xF) (N : xF) (s0 : Int32) : Prop := Z s0
set_option maxRecDepth 10000 in
theorem wk_X_distance_b49 {κ : Cx} {τ : xT} {Z : Int32 → Prop} {E : xF} {N : xF} {s0 : Int32} (o : OKc κ (wdX τ) 3 b_X_distance "StateExplorer" (some .int) (xR 2)) (h : X_distance_b49 Z E N s0) : GW κ (wdX τ) 3 (0, 0) (xMQ κ (wdX τ) (xR 2) (zp_i (E, N) Z)) (E, N) 49 [] [.int s0] := by
  unfold X_distance_b49 at h
  exact gw_iret (pc := 49) o ⟨Nat.le_refl _, Nat.le_refl _⟩ (zp_i.mk h) d_X_distance_49
def X_distance_b36 (Z : Int32 → Prop) (E : xF) (N : xF) (x2 : Int32) : Prop := ((x2 ≤ (E 30 22)) → (X_distance_b49 Z E N x2)) ∧ (¬ (x2 ≤ (E 30 22)) → (X_distance_b49 Z E N (-1 : Int32)))
set_option maxRecDepth 10000 in
theorem wk_X_distance_b36 {κ : Cx} {τ : xT} {Z : Int32 → Prop} {E : xF} {N : xF} {x2 : Int32} (o : OKc κ (wdX τ) 3 b_X_distance "StateExplorer" (some .int) (xR 2)) (h : X_distance_b36 Z E N x2) : GW κ (wdX τ) 3 (0, 0) (xMQ κ (wdX τ) (xR 2) (zp_i (E, N) Z)) (E, N) 36 [(0, .ref (τ.2.2 30)), (2, .int x2)] [] := by
  unfold X_distance_b36 at h
  refine gw_iload_n (pc := 36) o d_X_distance_36 rfl 1 rfl ?_
  refine gw_aload_n (pc := 37) o d_X_distance_37 rfl 0 rfl ?_
  refine gE_get_farthest (pc := 38) o q_102 d_X_distance_38 ?_
  refine gw_icmp_le (pc := 41) (tgt := 48) o d_X_distance_41 (by decide) (fun hc => ?_) (fun hc => ?_)
  · have h := h.1 hc
    refine gw_iload_n (pc := 48) o d_X_distance_48 rfl 1 rfl ?_
    exact gw_sub (lv' := []) [] rfl (wk_X_distance_b49 o h)
  · have h := h.2 hc
    refine gw_iconst (pc := 44) (v := (-1 : Int32)) o d_X_distance_44 (by decide) ?_
    refine gw_goto (pc := 45) (tgt := 49) o d_X_distance_45 (by decide) ?_
    exact gw_sub (lv' := []) [] rfl (wk_X_distance_b49 o h)
def X_distance_b7 (Z : Int32 → Prop) (k7 : Int32 → Prop) (E : xF) (N : xF) (x1 : Int32) (x2 : Int32) : Prop := (((E 30 22) < x2) → (X_distance_b36 Z E N x2)) ∧ (¬ ((E 30 22) < x2) → (vp_in x2 256 ∧ (w_X_at E N (E 17 x2.toNatClampNeg) x1 (0 : Int32) (fun r24 => ((r24 = 0) → (∀ x2_30 : Int32, x2_30 = x2 + (1 : Int32) → (k7 x2_30))) ∧ (¬ (r24 = 0) → (X_distance_b36 Z E N x2))))))
set_option maxRecDepth 10000 in
theorem wk_X_distance_b7 {κ : Cx} {τ : xT} {Z : Int32 → Prop} {k7 : Int32 → Prop} {E : xF} {N : xF} {x1 : Int32} {x2 : Int32} (o : OKc κ (wdX τ) 3 b_X_distance "StateExplorer" (some .int) (xR 2)) (hk7 : ∀ (x2 : Int32), k7 x2 → GW κ (wdX τ) 3 (0, 0) (xMQ κ (wdX τ) (xR 2) (zp_i (E, N) Z)) (E, N) 7 [(0, .ref (τ.2.2 30)), (1, .int x1), (2, .int x2)] []) (h : X_distance_b7 Z k7 E N x1 x2) : GW κ (wdX τ) 3 (0, 0) (xMQ κ (wdX τ) (xR 2) (zp_i (E, N) Z)) (E, N) 7 [(0, .ref (τ.2.2 30)), (1, .int x1), (2, .int x2)] [] := by
  unfold X_distance_b7 at h
  refine gw_iload_n (pc := 7) o d_X_distance_7 rfl 2 rfl ?_
  refine gw_aload_n (pc := 8) o d_X_distance_8 rfl 0 rfl ?_
  refine gE_get_farthest (pc := 9) o q_102 d_X_distance_9 ?_
  refine gw_icmp_gt (pc := 12) (tgt := 36) o d_X_distance_12 (by decide) (fun hc => ?_) (fun hc => ?_)
  · have h := h.1 hc
    exact gw_sub (lv' := [(0, .ref (τ.2.2 30)), (2, .int x2)]) [0, 2] rfl (wk_X_distance_b36 o h)
  · have h := h.2 hc
    refine gw_aload_n (pc := 15) o d_X_distance_15 rfl 0 rfl ?_
    refine gw_aload_n (pc := 16) o d_X_distance_16 rfl 0 rfl ?_
    refine gE_get_layers (pc := 17) o q_97 d_X_distance_17 ?_
    refine gw_iload_n (pc := 20) o d_X_distance_20 rfl 2 rfl ?_
    have hi := h.1
    have h := h.2
    refine gE_ald_layers (pc := 21) o hi d_X_distance_21 ?_
    refine gw_iload_n (pc := 22) o d_X_distance_22 rfl 1 rfl ?_
    refine gw_iconst (pc := 23) (v := (0 : Int32)) o d_X_distance_23 (by decide) ?_
    refine gw_callV (pc := 24) (b := τ.2.2 30) (As := [.int (E 17 x2.toNatClampNeg), .int x1, .int (0 : Int32)]) (st := []) o (ct_X_at o.hD h) mi_X_at q_301 q_303 qs_16 0 rfl rfl (xRo_of (by omega) (by decide)) rfl rfl (Nat.le_of_ble_eq_true rfl) d_X_distance_24 (kk_p_i rfl (fun r24 h => ?_))
    refine gw_if_ne (pc := 27) (tgt := 36) o d_X_distance_27 (by decide) (fun hc => ?_) (fun hc => ?_)
    · have h := h.2 hc
      exact gw_sub (lv' := [(0, .ref (τ.2.2 30)), (2, .int x2)]) [0, 2] rfl (wk_X_distance_b36 o h)
    · have h := h.1 hc
      refine gw_iincN (pc := 30) (c := (1 : Int32)) (lw := fun x2_30 => [(2, .int x2_30), (0, .ref (τ.2.2 30)), (1, .int x1)]) o d_X_distance_30 (by decide) 2 rfl (by decide) (fun _ => rfl) (fun x2_30 ex2_30 => ?_)
      have h := h x2_30 ex2_30
      refine gw_goto (pc := 33) (tgt := 7) o d_X_distance_33 (by decide) ?_
      exact gw_sub (lv' := [(0, .ref (τ.2.2 30)), (1, .int x1), (2, .int x2_30)]) [1, 2, 0] rfl (hk7 _ h)
def X_distance_L7 (Z : Int32 → Prop) (E : xF) (N : xF) (x1 : Int32) (x2 : Int32) : Prop := LOOP1 (fun k7 x2 => X_distance_b7 Z k7 E N x1 x2) x2
theorem wk_X_distance_L7 {κ : Cx} {τ : xT} {Z : Int32 → Prop} {E : xF} {N : xF} {x1 : Int32} {x2 : Int32} (o : OKc κ (wdX τ) 3 b_X_distance "StateExplorer" (some .int) (xR 2)) (h : X_distance_L7 Z E N x1 x2) : GW κ (wdX τ) 3 (0, 0) (xMQ κ (wdX τ) (xR 2) (zp_i (E, N) Z)) (E, N) 7 [(0, .ref (τ.2.2 30)), (1, .int x1), (2, .int x2)] [] := by
  unfold X_distance_L7 at h
  exact LOOP1.use (G := fun x2 => GW κ (wdX τ) 3 (0, 0) (xMQ κ (wdX τ) (xR 2) (zp_i (E, N) Z)) (E, N) 7 [(0, .ref (τ.2.2 30)), (1, .int x1), (2, .int x2)] []) (fun k7 x2 hk7 h => wk_X_distance_b7 o hk7 h) h
def X_distance_b0 (Z : Int32 → Prop) (E : xF) (N : xF) (x1 : Int32) : Prop := w_X_needsState E N x1 (X_distance_L7 Z E N x1 (0 : Int32))
set_option maxRecDepth 10000 in
theorem wk_X_distance_b0 {κ : Cx} {τ : xT} {Z : Int32 → Prop} {E : xF} {N : xF} {x1 : Int32} (o : OKc κ (wdX τ) 3 b_X_distance "StateExplorer" (some .int) (xR 2)) (h : X_distance_b0 Z E N x1) : GW κ (wdX τ) 3 (0, 0) (xMQ κ (wdX τ) (xR 2) (zp_i (E, N) Z)) (E, N) 0 [(0, .ref (τ.2.2 30)), (1, .int x1)] [] := by
  unfold X_distance_b0 at h
  refine gw_aload_n (pc := 0) o d_X_distance_0 rfl 0 rfl ?_
  refine gw_iload_n (pc := 1) o d_X_distance_1 rfl 1 rfl ?_
  refine gw_callV (pc := 2) (b := τ.2.2 30) (As := [.int x1]) (st := []) o (ct_X_needsState o.hD h) mi_X_needsState q_467 q_469 qs_25 0 rfl rfl (xRo_of (by omega) (by decide)) rfl rfl (Nat.le_of_ble_eq_true rfl) d_X_distance_2 (kk_p_v rfl (fun h => ?_))
  refine gw_iconst (pc := 5) (v := (0 : Int32)) o d_X_distance_5 (by decide) ?_
  refine gw_istore_n (pc := 6) (lv' := [(2, .int (0 : Int32)), (0, .ref (τ.2.2 30)), (1, .int x1)]) o d_X_distance_6 rfl (by decide) rfl ?_
  exact gw_sub (lv' := [(0, .ref (τ.2.2 30)), (1, .int x1), (2, .int (0 : Int32))]) [1, 2, 0] rfl (wk_X_distance_L7 o h)
def w_X_distance  (E : xF) (N : xF) (x1 : Int32) (Z : Int32 → Prop) : Prop := X_distance_b0  Z E N x1
theorem ct_X_distance {l : Launch} {τ : xT} {E : xF} {N : xF} {x1 : Int32} {Z : Int32 → Prop} (hD : xD (wdX τ)) (h : w_X_distance  E N x1 Z) : CT l (wdX τ) y_X_distance (.code y_X_distance b_X_distance 3 (some .int)) (xR 2) [.ref (τ.2.2 30), .int x1] (E, N) (zp_i (E, N) Z) := by
  subst_vars
  exact CT.of (by decide) (Nat.le_of_ble_eq_true rfl) hD (fun κ hl ha o => gw_sub (lv' := [(0, .ref (τ.2.2 30)), (1, .int x1)]) [0, 1] rfl (wk_X_distance_b0 o h))
def X_way_b31 (Z : Int32 → xF → xF → Prop) (E : xF) (N : xF) (x2 : Int32) : Prop := vp_in x2 256 ∧ (Z (E 28 x2.toNatClampNeg) E N)
set_option maxRecDepth 10000 in
theorem wk_X_way_b31 {κ : Cx} {τ : xT} {Z : Int32 → xF → xF → Prop} {E : xF} {N : xF} {x2 : Int32} (o : OKc κ (wdX τ) 4 b_X_way "StateExplorer" (some .int) (xR 38)) (h : X_way_b31 Z E N x2) : GW κ (wdX τ) 4 (0, 0) (xMQ κ (wdX τ) (xR 38) (z12_i Z)) (E, N) 31 [(0, .ref (τ.2.2 30)), (2, .int x2)] [] := by
  unfold X_way_b31 at h
  refine gw_aload_n (pc := 31) o d_X_way_31 rfl 0 rfl ?_
  refine gE_get_steps (pc := 32) o q_108 d_X_way_32 ?_
  refine gw_iload_n (pc := 35) o d_X_way_35 rfl 1 rfl ?_
  have hi := h.1
  have h := h.2
  refine gE_ald_steps (pc := 36) o hi d_X_way_36 ?_
  exact gw_iret (pc := 37) o ⟨Nat.le_refl _, Nat.le_refl _⟩ (z12_i.mk h) d_X_way_37
def X_way_b0 (Z : Int32 → xF → xF → Prop) (E : xF) (N : xF) (x1 : Int32) (x2 : Int32) : Prop := w_X_distance E N x1 (fun r2 => ((x2 < 0) → (Z (-1 : Int32) E N)) ∧ (¬ (x2 < 0) → (((x2 < r2) → ((((E 30 27) = x1) → (X_way_b31 Z E N x2)) ∧ (¬ ((E 30 27) = x1) → (w_X_find E N x1 r2 (fun E_28 N_28 => X_way_b31 Z E_28 N_28 x2))))) ∧ (¬ (x2 < r2) → (Z (-1 : Int32) E N)))))
set_option maxRecDepth 10000 in
theorem wk_X_way_b0 {κ : Cx} {τ : xT} {Z : Int32 → xF → xF → Prop} {E : xF} {N : xF} {x1 : Int32} {x2 : Int32} (o : OKc κ (wdX τ) 4 b_X_way "StateExplorer" (some .int) (xR 38)) (h : X_way_b0 Z E N x1 x2) : GW κ (wdX τ) 4 (0, 0) (xMQ κ (wdX τ) (xR 38) (z12_i Z)) (E, N) 0 [(0, .ref (τ.2.2 30)), (1, .int x1), (2, .int x2)] [] := by
  unfold X_way_b0 at h
  refine gw_aload_n (pc := 0) o d_X_way_0 rfl 0 rfl ?_
  refine gw_iload_n (pc := 1) o d_X_way_1 rfl 1 rfl ?_
  refine gw_callV (pc := 2) (b := τ.2.2 30) (As := [.int x1]) (st := []) o (ct_X_distance o.hD h) mi_X_distance q_482 q_464 q_465 0 rfl rfl (xRo_of (by omega) (by decide)) rfl rfl (Nat.le_of_ble_eq_true rfl) d_X_way_2 (kk_p_i rfl (fun r2 h => ?_))
  refine gw_istore_n (pc := 5) (lv' := [(3, .int r2), (0, .ref (τ.2.2 30)), (1, .int x1), (2, .int x2)]) o d_X_way_5 rfl (by decide) rfl ?_
  refine gw_iload_n (pc := 6) o d_X_way_6 rfl 3 rfl ?_
  refine gw_if_lt (pc := 7) (tgt := 15) o d_X_way_7 (by decide) (fun hc => ?_) (fun hc => ?_)
  · have h := h.1 hc
    refine gw_iconst (pc := 15) (v := (-1 : Int32)) o d_X_way_15 (by decide) ?_
    exact gw_iret (pc := 16) o ⟨Nat.le_refl _, Nat.le_refl _⟩ (z12_i.mk h) d_X_way_16
  · have h := h.2 hc
    refine gw_iload_n (pc := 10) o d_X_way_10 rfl 3 rfl ?_
    refine gw_iload_n (pc := 11) o d_X_way_11 rfl 0 rfl ?_
    refine gw_icmp_lt (pc := 12) (tgt := 17) o d_X_way_12 (by decide) (fun hc => ?_) (fun hc => ?_)
    · have h := h.1 hc
      refine gw_aload_n (pc := 17) o d_X_way_17 rfl 1 rfl ?_
      refine gE_get_wayTo (pc := 18) o q_107 d_X_way_18 ?_
      refine gw_iload_n (pc := 21) o d_X_way_21 rfl 2 rfl ?_
      refine gw_icmp_eq (pc := 22) (tgt := 31) o d_X_way_22 (by decide) (fun hc => ?_) (fun hc => ?_)
      · have h := h.1 hc
        exact gw_sub (lv' := [(0, .ref (τ.2.2 30)), (2, .int x2)]) [1, 3] rfl (wk_X_way_b31 o h)
      · have h := h.2 hc
        refine gw_aload_n (pc := 25) o d_X_way_25 rfl 1 rfl ?_
        refine gw_iload_n (pc := 26) o d_X_way_26 rfl 2 rfl ?_
        refine gw_iload_n (pc := 27) o d_X_way_27 rfl 0 rfl ?_
        refine gw_callV (pc := 28) (b := τ.2.2 30) (As := [.int x1, .int r2]) (st := []) o (ct_X_find o.hD h) mi_X_find q_483 q_485 qs_27 0 rfl rfl (xRo_of (by omega) (by decide)) rfl rfl (Nat.le_of_ble_eq_true rfl) d_X_way_28 (kk_12_v rfl (fun E_28 N_28 h => ?_))
        exact gw_sub (lv' := [(0, .ref (τ.2.2 30)), (2, .int x2)]) [1, 3] rfl (wk_X_way_b31 o h)
    · have h := h.2 hc
      refine gw_iconst (pc := 15) (v := (-1 : Int32)) o d_X_way_15 (by decide) ?_
      exact gw_iret (pc := 16) o ⟨Nat.le_refl _, Nat.le_refl _⟩ (z12_i.mk h) d_X_way_16
def w_X_way  (E : xF) (N : xF) (x1 : Int32) (x2 : Int32) (Z : Int32 → xF → xF → Prop) : Prop := X_way_b0  Z E N x1 x2
theorem ct_X_way {l : Launch} {τ : xT} {E : xF} {N : xF} {x1 : Int32} {x2 : Int32} {Z : Int32 → xF → xF → Prop} (hD : xD (wdX τ)) (h : w_X_way  E N x1 x2 Z) : CT l (wdX τ) y_X_way (.code y_X_way b_X_way 4 (some .int)) (xR 38) [.ref (τ.2.2 30), .int x1, .int x2] (E, N) (z12_i Z) := by
  subst_vars
  exact CT.of (by decide) (Nat.le_of_ble_eq_true rfl) hD (fun κ hl ha o => gw_sub (lv' := [(0, .ref (τ.2.2 30)), (1, .int x1), (2, .int x2)]) [0, 1, 2] rfl (wk_X_way_b0 o h))
def X_many_b30 (Z : Int32 → Prop) (E : xF) (N : xF) (s0 : Int32) : Prop := Z s0
set_option maxRecDepth 10000 in
theorem wk_X_many_b30 {κ : Cx} {τ : xT} {Z : Int32 → Prop} {E : xF} {N : xF} {s0 : Int32} (o : OKc κ (wdX τ) 2 b_X_many "StateExplorer" (some .int) (xR 19)) (h : X_many_b30 Z E N s0) : GW κ (wdX τ) 2 (0, 0) (xMQ κ (wdX τ) (xR 19) (zp_i (E, N) Z)) (E, N) 30 [] [.int s0] := by
  unfold X_many_b30 at h
  exact gw_iret (pc := 30) o ⟨Nat.le_refl _, Nat.le_refl _⟩ (zp_i.mk h) d_X_many_30
def X_many_b0 (Z : Int32 → Prop) (E : xF) (N : xF) (x1 : Int32) : Prop := w_X_needsExplored E N (((x1 < 0) → (X_many_b30 Z E N (0 : Int32))) ∧ (¬ (x1 < 0) → (((x1 ≤ (E 30 22)) → (vp_in x1 256 ∧ (w_X_states E N (E 17 x1.toNatClampNeg) (fun r27 => X_many_b30 Z E N r27)))) ∧ (¬ (x1 ≤ (E 30 22)) → (X_many_b30 Z E N (0 : Int32))))))
set_option maxRecDepth 10000 in
theorem wk_X_many_b0 {κ : Cx} {τ : xT} {Z : Int32 → Prop} {E : xF} {N : xF} {x1 : Int32} (o : OKc κ (wdX τ) 2 b_X_many "StateExplorer" (some .int) (xR 19)) (h : X_many_b0 Z E N x1) : GW κ (wdX τ) 2 (0, 0) (xMQ κ (wdX τ) (xR 19) (zp_i (E, N) Z)) (E, N) 0 [(0, .ref (τ.2.2 30)), (1, .int x1)] [] := by
  unfold X_many_b0 at h
  refine gw_aload_n (pc := 0) o d_X_many_0 rfl 0 rfl ?_
  refine gw_callV (pc := 1) (b := τ.2.2 30) (As := []) (st := []) o (ct_X_needsExplored o.hD h) mi_X_needsExplored q_471 q_473 qs_26 0 rfl rfl (xRo_of (by omega) (by decide)) rfl rfl (Nat.le_of_ble_eq_true rfl) d_X_many_1 (kk_p_v rfl (fun h => ?_))
  refine gw_iload_n (pc := 4) o d_X_many_4 rfl 1 rfl ?_
  refine gw_if_lt (pc := 5) (tgt := 16) o d_X_many_5 (by decide) (fun hc => ?_) (fun hc => ?_)
  · have h := h.1 hc
    refine gw_iconst (pc := 16) (v := (0 : Int32)) o d_X_many_16 (by decide) ?_
    refine gw_goto (pc := 17) (tgt := 30) o d_X_many_17 (by decide) ?_
    exact gw_sub (lv' := []) [] rfl (wk_X_many_b30 o h)
  · have h := h.2 hc
    refine gw_iload_n (pc := 8) o d_X_many_8 rfl 1 rfl ?_
    refine gw_aload_n (pc := 9) o d_X_many_9 rfl 0 rfl ?_
    refine gE_get_farthest (pc := 10) o q_102 d_X_many_10 ?_
    refine gw_icmp_le (pc := 13) (tgt := 20) o d_X_many_13 (by decide) (fun hc => ?_) (fun hc => ?_)
    · have h := h.1 hc
      refine gw_aload_n (pc := 20) o d_X_many_20 rfl 0 rfl ?_
      refine gw_aload_n (pc := 21) o d_X_many_21 rfl 0 rfl ?_
      refine gE_get_layers (pc := 22) o q_97 d_X_many_22 ?_
      refine gw_iload_n (pc := 25) o d_X_many_25 rfl 1 rfl ?_
      have hi := h.1
      have h := h.2
      refine gE_ald_layers (pc := 26) o hi d_X_many_26 ?_
      refine gw_callV (pc := 27) (b := τ.2.2 30) (As := [.int (E 17 x1.toNatClampNeg)]) (st := []) o (ct_X_states o.hD h) mi_X_states q_317 q_319 qs_20 0 rfl rfl (xRo_of (by omega) (by decide)) rfl rfl (Nat.le_of_ble_eq_true rfl) d_X_many_27 (kk_p_i rfl (fun r27 h => ?_))
      exact gw_sub (lv' := []) [] rfl (wk_X_many_b30 o h)
    · have h := h.2 hc
      refine gw_iconst (pc := 16) (v := (0 : Int32)) o d_X_many_16 (by decide) ?_
      refine gw_goto (pc := 17) (tgt := 30) o d_X_many_17 (by decide) ?_
      exact gw_sub (lv' := []) [] rfl (wk_X_many_b30 o h)
def w_X_many  (E : xF) (N : xF) (x1 : Int32) (Z : Int32 → Prop) : Prop := X_many_b0  Z E N x1
theorem ct_X_many {l : Launch} {τ : xT} {E : xF} {N : xF} {x1 : Int32} {Z : Int32 → Prop} (hD : xD (wdX τ)) (h : w_X_many  E N x1 Z) : CT l (wdX τ) y_X_many (.code y_X_many b_X_many 2 (some .int)) (xR 19) [.ref (τ.2.2 30), .int x1] (E, N) (zp_i (E, N) Z) := by
  subst_vars
  exact CT.of (by decide) (Nat.le_of_ble_eq_true rfl) hD (fun κ hl ha o => gw_sub (lv' := [(0, .ref (τ.2.2 30)), (1, .int x1)]) [0, 1] rfl (wk_X_many_b0 o h))
def X_next_b46 (Z : Int32 → Prop) (E : xF) (N : xF) (s0 : Int32) : Prop := Z s0
set_option maxRecDepth 10000 in
theorem wk_X_next_b46 {κ : Cx} {τ : xT} {Z : Int32 → Prop} {E : xF} {N : xF} {s0 : Int32} (o : OKc κ (wdX τ) 3 b_X_next "StateExplorer" (some .int) (xR 3)) (h : X_next_b46 Z E N s0) : GW κ (wdX τ) 3 (0, 0) (xMQ κ (wdX τ) (xR 3) (zp_i (E, N) Z)) (E, N) 46 [] [.int s0] := by
  unfold X_next_b46 at h
  exact gw_iret (pc := 46) o ⟨Nat.le_refl _, Nat.le_refl _⟩ (zp_i.mk h) d_X_next_46
def X_next_b20 (Z : Int32 → Prop) (E : xF) (N : xF) (x1 : Int32) (x2 : Int32) (s0 : Int32) : Prop := w_X_need s0 (w_X_at E N (E 30 20) x1 x2 (fun r30 => ((r30 = 0) → (X_next_b46 Z E N (-1 : Int32))) ∧ (¬ (r30 = 0) → (w_X_nextOf E N x1 x2 (fun r39 => X_next_b46 Z E N r39)))))
set_option maxRecDepth 10000 in
theorem wk_X_next_b20 {κ : Cx} {τ : xT} {Z : Int32 → Prop} {E : xF} {N : xF} {x1 : Int32} {x2 : Int32} {s0 : Int32} (o : OKc κ (wdX τ) 3 b_X_next "StateExplorer" (some .int) (xR 3)) (h : X_next_b20 Z E N x1 x2 s0) : GW κ (wdX τ) 3 (0, 0) (xMQ κ (wdX τ) (xR 3) (zp_i (E, N) Z)) (E, N) 20 [(0, .ref (τ.2.2 30)), (1, .int x1), (2, .int x2)] [.int s0] := by
  unfold X_next_b20 at h
  refine gw_callS (pc := 20) (As := [.int s0]) (st := []) o (ct_X_need o.hD h) mi_X_need q_416 q_417 (xRo_of (by omega) (by decide)) rfl rfl (Nat.le_of_ble_eq_true rfl) d_X_next_20 (kk_p_v rfl (fun h => ?_))
  refine gw_aload_n (pc := 23) o d_X_next_23 rfl 0 rfl ?_
  refine gw_aload_n (pc := 24) o d_X_next_24 rfl 0 rfl ?_
  refine gE_get_settles (pc := 25) o q_100 d_X_next_25 ?_
  refine gw_iload_n (pc := 28) o d_X_next_28 rfl 1 rfl ?_
  refine gw_iload_n (pc := 29) o d_X_next_29 rfl 2 rfl ?_
  refine gw_callV (pc := 30) (b := τ.2.2 30) (As := [.int (E 30 20), .int x1, .int x2]) (st := []) o (ct_X_at o.hD h) mi_X_at q_301 q_303 qs_16 0 rfl rfl (xRo_of (by omega) (by decide)) rfl rfl (Nat.le_of_ble_eq_true rfl) d_X_next_30 (kk_p_i rfl (fun r30 h => ?_))
  refine gw_if_eq (pc := 33) (tgt := 45) o d_X_next_33 (by decide) (fun hc => ?_) (fun hc => ?_)
  · have h := h.1 hc
    refine gw_iconst (pc := 45) (v := (-1 : Int32)) o d_X_next_45 (by decide) ?_
    exact gw_sub (lv' := []) [] rfl (wk_X_next_b46 o h)
  · have h := h.2 hc
    refine gw_aload_n (pc := 36) o d_X_next_36 rfl 0 rfl ?_
    refine gw_iload_n (pc := 37) o d_X_next_37 rfl 1 rfl ?_
    refine gw_iload_n (pc := 38) o d_X_next_38 rfl 2 rfl ?_
    refine gw_callV (pc := 39) (b := τ.2.2 30) (As := [.int x1, .int x2]) (st := []) o (ct_X_nextOf o.hD h) mi_X_nextOf q_313 q_315 qs_19 0 rfl rfl (xRo_of (by omega) (by decide)) rfl rfl (Nat.le_of_ble_eq_true rfl) d_X_next_39 (kk_p_i rfl (fun r39 h => ?_))
    refine gw_goto (pc := 42) (tgt := 46) o d_X_next_42 (by decide) ?_
    exact gw_sub (lv' := []) [] rfl (wk_X_next_b46 o h)
def X_next_b19 (Z : Int32 → Prop) (E : xF) (N : xF) (x1 : Int32) (x2 : Int32) : Prop := X_next_b20 Z E N x1 x2 (0 : Int32)
set_option maxRecDepth 10000 in
theorem wk_X_next_b19 {κ : Cx} {τ : xT} {Z : Int32 → Prop} {E : xF} {N : xF} {x1 : Int32} {x2 : Int32} (o : OKc κ (wdX τ) 3 b_X_next "StateExplorer" (some .int) (xR 3)) (h : X_next_b19 Z E N x1 x2) : GW κ (wdX τ) 3 (0, 0) (xMQ κ (wdX τ) (xR 3) (zp_i (E, N) Z)) (E, N) 19 [(0, .ref (τ.2.2 30)), (1, .int x1), (2, .int x2)] [] := by
  unfold X_next_b19 at h
  refine gw_iconst (pc := 19) (v := (0 : Int32)) o d_X_next_19 (by decide) ?_
  exact gw_sub (lv' := [(0, .ref (τ.2.2 30)), (1, .int x1), (2, .int x2)]) [0, 1, 2] rfl (wk_X_next_b20 o h)
def X_next_b0 (Z : Int32 → Prop) (E : xF) (N : xF) (x1 : Int32) (x2 : Int32) : Prop := w_X_needsState E N x1 (((x2 < 0) → (X_next_b19 Z E N x1 x2)) ∧ (¬ (x2 < 0) → ((((16 : Int32) ≤ x2) → (X_next_b19 Z E N x1 x2)) ∧ (¬ ((16 : Int32) ≤ x2) → (X_next_b20 Z E N x1 x2 (1 : Int32))))))
set_option maxRecDepth 10000 in
theorem wk_X_next_b0 {κ : Cx} {τ : xT} {Z : Int32 → Prop} {E : xF} {N : xF} {x1 : Int32} {x2 : Int32} (o : OKc κ (wdX τ) 3 b_X_next "StateExplorer" (some .int) (xR 3)) (h : X_next_b0 Z E N x1 x2) : GW κ (wdX τ) 3 (0, 0) (xMQ κ (wdX τ) (xR 3) (zp_i (E, N) Z)) (E, N) 0 [(0, .ref (τ.2.2 30)), (1, .int x1), (2, .int x2)] [] := by
  unfold X_next_b0 at h
  refine gw_aload_n (pc := 0) o d_X_next_0 rfl 0 rfl ?_
  refine gw_iload_n (pc := 1) o d_X_next_1 rfl 1 rfl ?_
  refine gw_callV (pc := 2) (b := τ.2.2 30) (As := [.int x1]) (st := []) o (ct_X_needsState o.hD h) mi_X_needsState q_467 q_469 qs_25 0 rfl rfl (xRo_of (by omega) (by decide)) rfl rfl (Nat.le_of_ble_eq_true rfl) d_X_next_2 (kk_p_v rfl (fun h => ?_))
  refine gw_iload_n (pc := 5) o d_X_next_5 rfl 2 rfl ?_
  refine gw_if_lt (pc := 6) (tgt := 19) o d_X_next_6 (by decide) (fun hc => ?_) (fun hc => ?_)
  · have h := h.1 hc
    exact gw_sub (lv' := [(0, .ref (τ.2.2 30)), (1, .int x1), (2, .int x2)]) [0, 1, 2] rfl (wk_X_next_b19 o h)
  · have h := h.2 hc
    refine gw_iload_n (pc := 9) o d_X_next_9 rfl 2 rfl ?_
    refine gw_bipush (pc := 10) (v := (16 : Int32)) o d_X_next_10 (by decide) ?_
    refine gw_icmp_ge (pc := 12) (tgt := 19) o d_X_next_12 (by decide) (fun hc => ?_) (fun hc => ?_)
    · have h := h.1 hc
      exact gw_sub (lv' := [(0, .ref (τ.2.2 30)), (1, .int x1), (2, .int x2)]) [0, 1, 2] rfl (wk_X_next_b19 o h)
    · have h := h.2 hc
      refine gw_iconst (pc := 15) (v := (1 : Int32)) o d_X_next_15 (by decide) ?_
      refine gw_goto (pc := 16) (tgt := 20) o d_X_next_16 (by decide) ?_
      exact gw_sub (lv' := [(0, .ref (τ.2.2 30)), (1, .int x1), (2, .int x2)]) [0, 1, 2] rfl (wk_X_next_b20 o h)
def w_X_next  (E : xF) (N : xF) (x1 : Int32) (x2 : Int32) (Z : Int32 → Prop) : Prop := X_next_b0  Z E N x1 x2
theorem ct_X_next {l : Launch} {τ : xT} {E : xF} {N : xF} {x1 : Int32} {x2 : Int32} {Z : Int32 → Prop} (hD : xD (wdX τ)) (h : w_X_next  E N x1 x2 Z) : CT l (wdX τ) y_X_next (.code y_X_next b_X_next 3 (some .int)) (xR 3) [.ref (τ.2.2 30), .int x1, .int x2] (E, N) (zp_i (E, N) Z) := by
  subst_vars
  exact CT.of (by decide) (Nat.le_of_ble_eq_true rfl) hD (fun κ hl ha o => gw_sub (lv' := [(0, .ref (τ.2.2 30)), (1, .int x1), (2, .int x2)]) [0, 1, 2] rfl (wk_X_next_b0 o h))
def X_doubt_b98 (Z : Int32 → xF → xF → Prop) (E : xF) (N : xF) (s0 : Int32) : Prop := Z s0 E N
set_option maxRecDepth 10000 in
theorem wk_X_doubt_b98 {κ : Cx} {τ : xT} {Z : Int32 → xF → xF → Prop} {E : xF} {N : xF} {s0 : Int32} (o : OKc κ (wdX τ) 4 b_X_doubt "StateExplorer" (some .int) (xR 21)) (h : X_doubt_b98 Z E N s0) : GW κ (wdX τ) 4 (0, 0) (xMQ κ (wdX τ) (xR 21) (z12_i Z)) (E, N) 98 [] [.int s0] := by
  unfold X_doubt_b98 at h
  exact gw_iret (pc := 98) o ⟨Nat.le_refl _, Nat.le_refl _⟩ (z12_i.mk h) d_X_doubt_98
def X_doubt_b37 (Z : Int32 → xF → xF → Prop) (k37 : Int32 → xF → xF → Prop) (E : xF) (N : xF) (x1 : Int32) (x2 : Int32) : Prop := (((E 30 22) < x2) → (Z (-1 : Int32) E N)) ∧ (¬ ((E 30 22) < x2) → (vp_in x2 256 ∧ (w_X_and E N (E 17 x2.toNatClampNeg) (E 24 (0 : Int32).toNatClampNeg) (fun r58 E_58 N_58 => ((r58 = 0) → (∀ x2_99 : Int32, x2_99 = x2 + (1 : Int32) → (k37 x2_99 E_58 N_58))) ∧ (¬ (r58 = 0) → (((x1 = 0) → (X_doubt_b98 Z E_58 N_58 x2)) ∧ (¬ (x1 = 0) → (((x1 = (1 : Int32)) → (w_X_least E_58 N_58 r58 (fun r81 => X_doubt_b98 Z E_58 N_58 (r81 / (16 : Int32))))) ∧ (¬ (x1 = (1 : Int32)) → (w_X_least E_58 N_58 r58 (fun r92 => X_doubt_b98 Z E_58 N_58 (r92 - r92 / (16 : Int32) * (16 : Int32)))))))))))))
set_option maxRecDepth 10000 in
theorem wk_X_doubt_b37 {κ : Cx} {τ : xT} {Z : Int32 → xF → xF → Prop} {k37 : Int32 → xF → xF → Prop} {E : xF} {N : xF} {x1 : Int32} {x2 : Int32} (o : OKc κ (wdX τ) 4 b_X_doubt "StateExplorer" (some .int) (xR 21)) (hk37 : ∀ (x2 : Int32) (E : xF) (N : xF), k37 x2 E N → GW κ (wdX τ) 4 (0, 0) (xMQ κ (wdX τ) (xR 21) (z12_i Z)) (E, N) 37 [(0, .ref (τ.2.2 30)), (1, .int x1), (2, .int x2)] []) (h : X_doubt_b37 Z k37 E N x1 x2) : GW κ (wdX τ) 4 (0, 0) (xMQ κ (wdX τ) (xR 21) (z12_i Z)) (E, N) 37 [(0, .ref (τ.2.2 30)), (1, .int x1), (2, .int x2)] [] := by
  unfold X_doubt_b37 at h
  refine gw_iload_n (pc := 37) o d_X_doubt_37 rfl 2 rfl ?_
  refine gw_aload_n (pc := 38) o d_X_doubt_38 rfl 0 rfl ?_
  refine gE_get_farthest (pc := 39) o q_102 d_X_doubt_39 ?_
  refine gw_icmp_gt (pc := 42) (tgt := 105) o d_X_doubt_42 (by decide) (fun hc => ?_) (fun hc => ?_)
  · have h := h.1 hc
    refine gw_iconst (pc := 105) (v := (-1 : Int32)) o d_X_doubt_105 (by decide) ?_
    exact gw_iret (pc := 106) o ⟨Nat.le_refl _, Nat.le_refl _⟩ (z12_i.mk h) d_X_doubt_106
  · have h := h.2 hc
    refine gw_aload_n (pc := 45) o d_X_doubt_45 rfl 0 rfl ?_
    refine gw_aload_n (pc := 46) o d_X_doubt_46 rfl 0 rfl ?_
    refine gE_get_layers (pc := 47) o q_97 d_X_doubt_47 ?_
    refine gw_iload_n (pc := 50) o d_X_doubt_50 rfl 2 rfl ?_
    have hi := h.1
    have h := h.2
    refine gE_ald_layers (pc := 51) o hi d_X_doubt_51 ?_
    refine gw_aload_n (pc := 52) o d_X_doubt_52 rfl 0 rfl ?_
    refine gE_get_spare (pc := 53) o q_104 d_X_doubt_53 ?_
    refine gw_iconst (pc := 56) (v := (0 : Int32)) o d_X_doubt_56 (by decide) ?_
    refine gE_ald_spare (pc := 57) o (by unfold vp_in; decide) d_X_doubt_57 ?_
    refine gw_callV (pc := 58) (b := τ.2.2 30) (As := [.int (E 17 x2.toNatClampNeg), .int (E 24 (0 : Int32).toNatClampNeg)]) (st := []) o (ct_X_and o.hD h) mi_X_and q_273 q_275 qs_10 0 rfl rfl (xRo_of (by omega) (by decide)) rfl rfl (Nat.le_of_ble_eq_true rfl) d_X_doubt_58 (kk_12_i rfl (fun r58 E_58 N_58 h => ?_))
    refine gw_istore_n (pc := 61) (lv' := [(3, .int r58), (0, .ref (τ.2.2 30)), (1, .int x1), (2, .int x2)]) o d_X_doubt_61 rfl (by decide) rfl ?_
    refine gw_iload_n (pc := 62) o d_X_doubt_62 rfl 0 rfl ?_
    refine gw_if_eq (pc := 63) (tgt := 99) o d_X_doubt_63 (by decide) (fun hc => ?_) (fun hc => ?_)
    · have h := h.1 hc
      refine gw_iincN (pc := 99) (c := (1 : Int32)) (lw := fun x2_99 => [(2, .int x2_99), (3, .int r58), (0, .ref (τ.2.2 30)), (1, .int x1)]) o d_X_doubt_99 (by decide) 3 rfl (by decide) (fun _ => rfl) (fun x2_99 ex2_99 => ?_)
      have h := h x2_99 ex2_99
      refine gw_goto (pc := 102) (tgt := 37) o d_X_doubt_102 (by decide) ?_
      exact gw_sub (lv' := [(0, .ref (τ.2.2 30)), (1, .int x1), (2, .int x2_99)]) [2, 3, 0] rfl (hk37 _ _ _ h)
    · have h := h.2 hc
      refine gw_iload_n (pc := 66) o d_X_doubt_66 rfl 2 rfl ?_
      refine gw_if_ne (pc := 67) (tgt := 74) o d_X_doubt_67 (by decide) (fun hc => ?_) (fun hc => ?_)
      · have h := h.2 hc
        refine gw_iload_n (pc := 74) o d_X_doubt_74 rfl 2 rfl ?_
        refine gw_iconst (pc := 75) (v := (1 : Int32)) o d_X_doubt_75 (by decide) ?_
        refine gw_icmp_ne (pc := 76) (tgt := 90) o d_X_doubt_76 (by decide) (fun hc => ?_) (fun hc => ?_)
        · have h := h.2 hc
          refine gw_aload_n (pc := 90) o d_X_doubt_90 rfl 1 rfl ?_
          refine gw_iload_n (pc := 91) o d_X_doubt_91 rfl 0 rfl ?_
          refine gw_callV (pc := 92) (b := τ.2.2 30) (As := [.int r58]) (st := []) o (ct_X_least o.hD h) mi_X_least q_514 q_516 qs_28 0 rfl rfl (xRo_of (by omega) (by decide)) rfl rfl (Nat.le_of_ble_eq_true rfl) d_X_doubt_92 (kk_p_i rfl (fun r92 h => ?_))
          refine gw_bipush (pc := 95) (v := (16 : Int32)) o d_X_doubt_95 (by decide) ?_
          refine gw_irem (pc := 97) o d_X_doubt_97 (by decide) ?_
          exact gw_sub (lv' := []) [] rfl (wk_X_doubt_b98 o h)
        · have h := h.1 hc
          refine gw_aload_n (pc := 79) o d_X_doubt_79 rfl 1 rfl ?_
          refine gw_iload_n (pc := 80) o d_X_doubt_80 rfl 0 rfl ?_
          refine gw_callV (pc := 81) (b := τ.2.2 30) (As := [.int r58]) (st := []) o (ct_X_least o.hD h) mi_X_least q_514 q_516 qs_28 0 rfl rfl (xRo_of (by omega) (by decide)) rfl rfl (Nat.le_of_ble_eq_true rfl) d_X_doubt_81 (kk_p_i rfl (fun r81 h => ?_))
          refine gw_bipush (pc := 84) (v := (16 : Int32)) o d_X_doubt_84 (by decide) ?_
          refine gw_idiv (pc := 86) o d_X_doubt_86 (by decide) ?_
          refine gw_goto (pc := 87) (tgt := 98) o d_X_doubt_87 (by decide) ?_
          exact gw_sub (lv' := []) [] rfl (wk_X_doubt_b98 o h)
      · have h := h.1 hc
        refine gw_iload_n (pc := 70) o d_X_doubt_70 rfl 3 rfl ?_
        refine gw_goto (pc := 71) (tgt := 98) o d_X_doubt_71 (by decide) ?_
        exact gw_sub (lv' := []) [] rfl (wk_X_doubt_b98 o h)
def X_doubt_L37 (Z : Int32 → xF → xF → Prop) (E : xF) (N : xF) (x1 : Int32) (x2 : Int32) : Prop := LOOP3 (fun k37 x2 E N => X_doubt_b37 Z k37 E N x1 x2) x2 E N
theorem wk_X_doubt_L37 {κ : Cx} {τ : xT} {Z : Int32 → xF → xF → Prop} {E : xF} {N : xF} {x1 : Int32} {x2 : Int32} (o : OKc κ (wdX τ) 4 b_X_doubt "StateExplorer" (some .int) (xR 21)) (h : X_doubt_L37 Z E N x1 x2) : GW κ (wdX τ) 4 (0, 0) (xMQ κ (wdX τ) (xR 21) (z12_i Z)) (E, N) 37 [(0, .ref (τ.2.2 30)), (1, .int x1), (2, .int x2)] [] := by
  unfold X_doubt_L37 at h
  exact LOOP3.use (G := fun x2 E N => GW κ (wdX τ) 4 (0, 0) (xMQ κ (wdX τ) (xR 21) (z12_i Z)) (E, N) 37 [(0, .ref (τ.2.2 30)), (1, .int x1), (2, .int x2)] []) (fun k37 x2 E N hk37 h => wk_X_doubt_b37 o hk37 h) h
def X_doubt_b18 (Z : Int32 → xF → xF → Prop) (E : xF) (N : xF) (x1 : Int32) (s0 : Int32) : Prop := w_X_need s0 (w_X_not E N (E 30 20) (fun r31 E_31 N_31 => ∀ E_34 : xF, E_34 = xs E_31 24 (0 : Int32).toNatClampNeg r31 → (X_doubt_L37 Z E_34 N_31 x1 (0 : Int32))))
set_option maxRecDepth 10000 in
theorem wk_X_doubt_b18 {κ : Cx} {τ : xT} {Z : Int32 → xF → xF → Prop} {E : xF} {N : xF} {x1 : Int32} {s0 : Int32} (o : OKc κ (wdX τ) 4 b_X_doubt "StateExplorer" (some .int) (xR 21)) (h : X_doubt_b18 Z E N x1 s0) : GW κ (wdX τ) 4 (0, 0) (xMQ κ (wdX τ) (xR 21) (z12_i Z)) (E, N) 18 [(0, .ref (τ.2.2 30)), (1, .int x1)] [.int s0] := by
  unfold X_doubt_b18 at h
  refine gw_callS (pc := 18) (As := [.int s0]) (st := []) o (ct_X_need o.hD h) mi_X_need q_416 q_417 (xRo_of (by omega) (by decide)) rfl rfl (Nat.le_of_ble_eq_true rfl) d_X_doubt_18 (kk_p_v rfl (fun h => ?_))
  refine gw_aload_n (pc := 21) o d_X_doubt_21 rfl 0 rfl ?_
  refine gE_get_spare (pc := 22) o q_104 d_X_doubt_22 ?_
  refine gw_iconst (pc := 25) (v := (0 : Int32)) o d_X_doubt_25 (by decide) ?_
  refine gw_aload_n (pc := 26) o d_X_doubt_26 rfl 0 rfl ?_
  refine gw_aload_n (pc := 27) o d_X_doubt_27 rfl 0 rfl ?_
  refine gE_get_settles (pc := 28) o q_100 d_X_doubt_28 ?_
  refine gw_callV (pc := 31) (b := τ.2.2 30) (As := [.int (E 30 20)]) (st := [.int (0 : Int32), .ref (τ.2.2 24)]) o (ct_X_not o.hD h) mi_X_not q_236 q_238 qs_7 0 rfl rfl (xRo_of (by omega) (by decide)) rfl rfl (Nat.le_of_ble_eq_true rfl) d_X_doubt_31 (kk_12_i rfl (fun r31 E_31 N_31 h => ?_))
  refine gE_ast_spare (pc := 34) o (by unfold vp_in; decide) d_X_doubt_34 (fun E_34 eE_34 => ?_)
  have h := h E_34 eE_34
  refine gw_iconst (pc := 35) (v := (0 : Int32)) o d_X_doubt_35 (by decide) ?_
  refine gw_istore_n (pc := 36) (lv' := [(2, .int (0 : Int32)), (0, .ref (τ.2.2 30)), (1, .int x1)]) o d_X_doubt_36 rfl (by decide) rfl ?_
  exact gw_sub (lv' := [(0, .ref (τ.2.2 30)), (1, .int x1), (2, .int (0 : Int32))]) [1, 2, 0] rfl (wk_X_doubt_L37 o h)
def X_doubt_b17 (Z : Int32 → xF → xF → Prop) (E : xF) (N : xF) (x1 : Int32) : Prop := X_doubt_b18 Z E N x1 (0 : Int32)
set_option maxRecDepth 10000 in
theorem wk_X_doubt_b17 {κ : Cx} {τ : xT} {Z : Int32 → xF → xF → Prop} {E : xF} {N : xF} {x1 : Int32} (o : OKc κ (wdX τ) 4 b_X_doubt "StateExplorer" (some .int) (xR 21)) (h : X_doubt_b17 Z E N x1) : GW κ (wdX τ) 4 (0, 0) (xMQ κ (wdX τ) (xR 21) (z12_i Z)) (E, N) 17 [(0, .ref (τ.2.2 30)), (1, .int x1)] [] := by
  unfold X_doubt_b17 at h
  refine gw_iconst (pc := 17) (v := (0 : Int32)) o d_X_doubt_17 (by decide) ?_
  exact gw_sub (lv' := [(0, .ref (τ.2.2 30)), (1, .int x1)]) [0, 1] rfl (wk_X_doubt_b18 o h)
def X_doubt_b0 (Z : Int32 → xF → xF → Prop) (E : xF) (N : xF) (x1 : Int32) : Prop := w_X_needsExplored E N (((x1 < 0) → (X_doubt_b17 Z E N x1)) ∧ (¬ (x1 < 0) → ((((2 : Int32) < x1) → (X_doubt_b17 Z E N x1)) ∧ (¬ ((2 : Int32) < x1) → (X_doubt_b18 Z E N x1 (1 : Int32))))))
set_option maxRecDepth 10000 in
theorem wk_X_doubt_b0 {κ : Cx} {τ : xT} {Z : Int32 → xF → xF → Prop} {E : xF} {N : xF} {x1 : Int32} (o : OKc κ (wdX τ) 4 b_X_doubt "StateExplorer" (some .int) (xR 21)) (h : X_doubt_b0 Z E N x1) : GW κ (wdX τ) 4 (0, 0) (xMQ κ (wdX τ) (xR 21) (z12_i Z)) (E, N) 0 [(0, .ref (τ.2.2 30)), (1, .int x1)] [] := by
  unfold X_doubt_b0 at h
  refine gw_aload_n (pc := 0) o d_X_doubt_0 rfl 0 rfl ?_
  refine gw_callV (pc := 1) (b := τ.2.2 30) (As := []) (st := []) o (ct_X_needsExplored o.hD h) mi_X_needsExplored q_471 q_473 qs_26 0 rfl rfl (xRo_of (by omega) (by decide)) rfl rfl (Nat.le_of_ble_eq_true rfl) d_X_doubt_1 (kk_p_v rfl (fun h => ?_))
  refine gw_iload_n (pc := 4) o d_X_doubt_4 rfl 1 rfl ?_
  refine gw_if_lt (pc := 5) (tgt := 17) o d_X_doubt_5 (by decide) (fun hc => ?_) (fun hc => ?_)
  · have h := h.1 hc
    exact gw_sub (lv' := [(0, .ref (τ.2.2 30)), (1, .int x1)]) [0, 1] rfl (wk_X_doubt_b17 o h)
  · have h := h.2 hc
    refine gw_iload_n (pc := 8) o d_X_doubt_8 rfl 1 rfl ?_
    refine gw_iconst (pc := 9) (v := (2 : Int32)) o d_X_doubt_9 (by decide) ?_
    refine gw_icmp_gt (pc := 10) (tgt := 17) o d_X_doubt_10 (by decide) (fun hc => ?_) (fun hc => ?_)
    · have h := h.1 hc
      exact gw_sub (lv' := [(0, .ref (τ.2.2 30)), (1, .int x1)]) [0, 1] rfl (wk_X_doubt_b17 o h)
    · have h := h.2 hc
      refine gw_iconst (pc := 13) (v := (1 : Int32)) o d_X_doubt_13 (by decide) ?_
      refine gw_goto (pc := 14) (tgt := 18) o d_X_doubt_14 (by decide) ?_
      exact gw_sub (lv' := [(0, .ref (τ.2.2 30)), (1, .int x1)]) [0, 1] rfl (wk_X_doubt_b18 o h)
def w_X_doubt  (E : xF) (N : xF) (x1 : Int32) (Z : Int32 → xF → xF → Prop) : Prop := X_doubt_b0  Z E N x1
theorem ct_X_doubt {l : Launch} {τ : xT} {E : xF} {N : xF} {x1 : Int32} {Z : Int32 → xF → xF → Prop} (hD : xD (wdX τ)) (h : w_X_doubt  E N x1 Z) : CT l (wdX τ) y_X_doubt (.code y_X_doubt b_X_doubt 4 (some .int)) (xR 21) [.ref (τ.2.2 30), .int x1] (E, N) (z12_i Z) := by
  subst_vars
  exact CT.of (by decide) (Nat.le_of_ble_eq_true rfl) hD (fun κ hl ha o => gw_sub (lv' := [(0, .ref (τ.2.2 30)), (1, .int x1)]) [0, 1] rfl (wk_X_doubt_b0 o h))
