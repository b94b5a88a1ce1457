/-! walks, printed by mk.py -/
def M_thrown_b0 (Z : Int32 → Prop) (M : xF) (J : (Nat → Int64)) : Prop := Z (M 21 0)
set_option maxRecDepth 10000 in
theorem wk_M_thrown_b0 {κ : Cx} {τ : xT} {Z : Int32 → Prop} {M : xF} {J : (Nat → Int64)} (o : OKc κ (wdM τ) 1 b_M_thrown "StateExplorerModel" (some .int) (xR 0)) (h : M_thrown_b0 Z M J) : GW κ (wdM τ) 1 (0, 0) (xMQ κ (wdM τ) (xR 0) (zp_i (M, J) Z)) (M, J) 0 [(0, .ref (τ.2.2 81))] [] := by
  unfold M_thrown_b0 at h
  refine gw_aload_n (pc := 0) o d_M_thrown_0 rfl 0 rfl ?_
  refine gM_get_code (pc := 1) o q_546 d_M_thrown_1 ?_
  exact gw_iret (pc := 4) o ⟨Nat.le_refl _, Nat.le_refl _⟩ (zp_i.mk h) d_M_thrown_4
def w_M_thrown  (M : xF) (J : (Nat → Int64))  (Z : Int32 → Prop) : Prop := M_thrown_b0  Z M J
theorem ct_M_thrown {l : Launch} {τ : xT} {M : xF} {J : (Nat → Int64)}  {Z : Int32 → Prop} (hD : xD (wdM τ)) (h : w_M_thrown  M J Z) : CT l (wdM τ) y_M_thrown (.code y_M_thrown b_M_thrown 1 (some .int)) (xR 0) [.ref (τ.2.2 81)] (M, J) (zp_i (M, J) Z) := by
  subst_vars
  exact CT.of (by decide) (Nat.le_of_ble_eq_true rfl) hD (fun κ hl ha o => gw_sub (lv' := [(0, .ref (τ.2.2 81))]) [0] rfl (wk_M_thrown_b0 o h))
def M_fails_b33 (Z : Int32 → xF → Prop) (M : xF) (J : (Nat → Int64)) (s0 : Int32) : Prop := (s0 = 0 ∨ s0 = 1) ∧ (Z s0 M)
set_option maxRecDepth 10000 in
theorem wk_M_fails_b33 {κ : Cx} {τ : xT} {Z : Int32 → xF → Prop} {M : xF} {J : (Nat → Int64)} {s0 : Int32} (o : OKc κ (wdM τ) 3 b_M_fails "StateExplorerModel" (some .boolean) (xR 0)) (h : M_fails_b33 Z M J s0) : GW κ (wdM τ) 3 (0, 0) (xMQ κ (wdM τ) (xR 0) (z1_i J Z)) (M, J) 33 [] [.int s0] := by
  unfold M_fails_b33 at h
  exact gw_zret (pc := 33) o ⟨Nat.le_refl _, Nat.le_refl _⟩ h.1 (z1_i.mk h.2) d_M_fails_33
def M_fails_b18 (Z : Int32 → xF → Prop) (M : xF) (J : (Nat → Int64)) (s1 : Int32) : Prop := ∀ M_18 : xF, M_18 = xs M 21 0 s1 → ((((M_18 21 0) ≤ 0) → (M_fails_b33 Z M_18 J (0 : Int32))) ∧ (¬ ((M_18 21 0) ≤ 0) → (M_fails_b33 Z M_18 J (1 : Int32))))
set_option maxRecDepth 10000 in
theorem wk_M_fails_b18 {κ : Cx} {τ : xT} {Z : Int32 → xF → Prop} {M : xF} {J : (Nat → Int64)} {s1 : Int32} (o : OKc κ (wdM τ) 3 b_M_fails "StateExplorerModel" (some .boolean) (xR 0)) (h : M_fails_b18 Z M J s1) : GW κ (wdM τ) 3 (0, 0) (xMQ κ (wdM τ) (xR 0) (z1_i J Z)) (M, J) 18 [(0, .ref (τ.2.2 81))] [.int s1, .ref (τ.2.2 81)] := by
  unfold M_fails_b18 at h
  refine gM_put_code (pc := 18) o q_546 d_M_fails_18 (fun M_18 eM_18 => ?_)
  have h := h M_18 eM_18
  refine gw_aload_n (pc := 21) o d_M_fails_21 rfl 0 rfl ?_
  refine gM_get_code (pc := 22) o q_546 d_M_fails_22 ?_
  refine gw_if_le (pc := 25) (tgt := 32) o d_M_fails_25 (by decide) (fun hc => ?_) (fun hc => ?_)
  · have h := h.1 hc
    refine gw_iconst (pc := 32) (v := (0 : Int32)) o d_M_fails_32 (by decide) ?_
    exact gw_sub (lv' := []) [] rfl (wk_M_fails_b33 o h)
  · have h := h.2 hc
    refine gw_iconst (pc := 28) (v := (1 : Int32)) o d_M_fails_28 (by decide) ?_
    refine gw_goto (pc := 29) (tgt := 33) o d_M_fails_29 (by decide) ?_
    exact gw_sub (lv' := []) [] rfl (wk_M_fails_b33 o h)
def M_fails_b0 (Z : Int32 → xF → Prop) (M : xF) (J : (Nat → Int64)) (x1 : Int32) (x2 : Int32) : Prop := ((x1 = 0) → (((x2 = 0) → (M_fails_b18 Z M J (0 : Int32))) ∧ (¬ (x2 = 0) → (M_fails_b18 Z M J (2 : Int32))))) ∧ (¬ (x1 = 0) → (M_fails_b18 Z M J (1 : Int32)))
set_option maxRecDepth 10000 in
theorem wk_M_fails_b0 {κ : Cx} {τ : xT} {Z : Int32 → xF → Prop} {M : xF} {J : (Nat → Int64)} {x1 : Int32} {x2 : Int32} (o : OKc κ (wdM τ) 3 b_M_fails "StateExplorerModel" (some .boolean) (xR 0)) (h : M_fails_b0 Z M J x1 x2) : GW κ (wdM τ) 3 (0, 0) (xMQ κ (wdM τ) (xR 0) (z1_i J Z)) (M, J) 0 [(0, .ref (τ.2.2 81)), (1, .int x1), (2, .int x2)] [] := by
  unfold M_fails_b0 at h
  refine gw_aload_n (pc := 0) o d_M_fails_0 rfl 0 rfl ?_
  refine gw_iload_n (pc := 1) o d_M_fails_1 rfl 1 rfl ?_
  refine gw_if_eq (pc := 2) (tgt := 9) o d_M_fails_2 (by decide) (fun hc => ?_) (fun hc => ?_)
  · have h := h.1 hc
    refine gw_iload_n (pc := 9) o d_M_fails_9 rfl 2 rfl ?_
    refine gw_if_eq (pc := 10) (tgt := 17) o d_M_fails_10 (by decide) (fun hc => ?_) (fun hc => ?_)
    · have h := h.1 hc
      refine gw_iconst (pc := 17) (v := (0 : Int32)) o d_M_fails_17 (by decide) ?_
      exact gw_sub (lv' := [(0, .ref (τ.2.2 81))]) [0] rfl (wk_M_fails_b18 o h)
    · have h := h.2 hc
      refine gw_iconst (pc := 13) (v := (2 : Int32)) o d_M_fails_13 (by decide) ?_
      refine gw_goto (pc := 14) (tgt := 18) o d_M_fails_14 (by decide) ?_
      exact gw_sub (lv' := [(0, .ref (τ.2.2 81))]) [0] rfl (wk_M_fails_b18 o h)
  · have h := h.2 hc
    refine gw_iconst (pc := 5) (v := (1 : Int32)) o d_M_fails_5 (by decide) ?_
    refine gw_goto (pc := 6) (tgt := 18) o d_M_fails_6 (by decide) ?_
    exact gw_sub (lv' := [(0, .ref (τ.2.2 81))]) [0] rfl (wk_M_fails_b18 o h)
def w_M_fails  (M : xF) (J : (Nat → Int64)) (x1 : Int32) (x2 : Int32) (Z : Int32 → xF → Prop) : Prop := M_fails_b0  Z M J x1 x2
theorem ct_M_fails {l : Launch} {τ : xT} {M : xF} {J : (Nat → Int64)} {x1 : Int32} {x2 : Int32} {Z : Int32 → xF → Prop} (hD : xD (wdM τ)) (h : w_M_fails  M J x1 x2 Z) : CT l (wdM τ) y_M_fails (.code y_M_fails b_M_fails 3 (some .boolean)) (xR 0) [.ref (τ.2.2 81), .int x1, .int x2] (M, J) (z1_i J Z) := by
  subst_vars
  exact CT.of (by decide) (Nat.le_of_ble_eq_true rfl) hD (fun κ hl ha o => gw_sub (lv' := [(0, .ref (τ.2.2 81)), (1, .int x1), (2, .int x2)]) [0, 1, 2] rfl (wk_M_fails_b0 o h))
def M_isGate_b17 (Z : Int32 → Prop) (M : xF) (J : (Nat → Int64)) (s0 : Int32) : Prop := (s0 = 0 ∨ s0 = 1) ∧ (Z s0)
set_option maxRecDepth 10000 in
theorem wk_M_isGate_b17 {κ : Cx} {τ : xT} {Z : Int32 → Prop} {M : xF} {J : (Nat → Int64)} {s0 : Int32} (o : OKc κ (wdM τ) 2 b_M_isGate "StateExplorerModel" (some .boolean) (xR 0)) (h : M_isGate_b17 Z M J s0) : GW κ (wdM τ) 2 (0, 0) (xMQ κ (wdM τ) (xR 0) (zp_i (M, J) Z)) (M, J) 17 [] [.int s0] := by
  unfold M_isGate_b17 at h
  exact gw_zret (pc := 17) o ⟨Nat.le_refl _, Nat.le_refl _⟩ h.1 (zp_i.mk h.2) d_M_isGate_17
def M_isGate_b16 (Z : Int32 → Prop) (M : xF) (J : (Nat → Int64)) : Prop := M_isGate_b17 Z M J (0 : Int32)
set_option maxRecDepth 10000 in
theorem wk_M_isGate_b16 {κ : Cx} {τ : xT} {Z : Int32 → Prop} {M : xF} {J : (Nat → Int64)} (o : OKc κ (wdM τ) 2 b_M_isGate "StateExplorerModel" (some .boolean) (xR 0)) (h : M_isGate_b16 Z M J) : GW κ (wdM τ) 2 (0, 0) (xMQ κ (wdM τ) (xR 0) (zp_i (M, J) Z)) (M, J) 16 [] [] := by
  unfold M_isGate_b16 at h
  refine gw_iconst (pc := 16) (v := (0 : Int32)) o d_M_isGate_16 (by decide) ?_
  exact gw_sub (lv' := []) [] rfl (wk_M_isGate_b17 o h)
def M_isGate_b0 (Z : Int32 → Prop) (M : xF) (J : (Nat → Int64)) (x1 : Int32) : Prop := ((x1 < 0) → (M_isGate_b16 Z M J)) ∧ (¬ (x1 < 0) → ((((M 21 1) ≤ x1) → (M_isGate_b16 Z M J)) ∧ (¬ ((M 21 1) ≤ x1) → (M_isGate_b17 Z M J (1 : Int32)))))
set_option maxRecDepth 10000 in
theorem wk_M_isGate_b0 {κ : Cx} {τ : xT} {Z : Int32 → Prop} {M : xF} {J : (Nat → Int64)} {x1 : Int32} (o : OKc κ (wdM τ) 2 b_M_isGate "StateExplorerModel" (some .boolean) (xR 0)) (h : M_isGate_b0 Z M J x1) : GW κ (wdM τ) 2 (0, 0) (xMQ κ (wdM τ) (xR 0) (zp_i (M, J) Z)) (M, J) 0 [(0, .ref (τ.2.2 81)), (1, .int x1)] [] := by
  unfold M_isGate_b0 at h
  refine gw_iload_n (pc := 0) o d_M_isGate_0 rfl 1 rfl ?_
  refine gw_if_lt (pc := 1) (tgt := 16) o d_M_isGate_1 (by decide) (fun hc => ?_) (fun hc => ?_)
  · have h := h.1 hc
    exact gw_sub (lv' := []) [] rfl (wk_M_isGate_b16 o h)
  · have h := h.2 hc
    refine gw_iload_n (pc := 4) o d_M_isGate_4 rfl 1 rfl ?_
    refine gw_aload_n (pc := 5) o d_M_isGate_5 rfl 0 rfl ?_
    refine gM_get_gates (pc := 6) o q_547 d_M_isGate_6 ?_
    refine gw_icmp_ge (pc := 9) (tgt := 16) o d_M_isGate_9 (by decide) (fun hc => ?_) (fun hc => ?_)
    · have h := h.1 hc
      exact gw_sub (lv' := []) [] rfl (wk_M_isGate_b16 o h)
    · have h := h.2 hc
      refine gw_iconst (pc := 12) (v := (1 : Int32)) o d_M_isGate_12 (by decide) ?_
      refine gw_goto (pc := 13) (tgt := 17) o d_M_isGate_13 (by decide) ?_
      exact gw_sub (lv' := []) [] rfl (wk_M_isGate_b17 o h)
def w_M_isGate  (M : xF) (J : (Nat → Int64)) (x1 : Int32) (Z : Int32 → Prop) : Prop := M_isGate_b0  Z M J x1
theorem ct_M_isGate {l : Launch} {τ : xT} {M : xF} {J : (Nat → Int64)} {x1 : Int32} {Z : Int32 → Prop} (hD : xD (wdM τ)) (h : w_M_isGate  M J x1 Z) : CT l (wdM τ) y_M_isGate (.code y_M_isGate b_M_isGate 2 (some .boolean)) (xR 0) [.ref (τ.2.2 81), .int x1] (M, J) (zp_i (M, J) Z) := by
  subst_vars
  exact CT.of (by decide) (Nat.le_of_ble_eq_true rfl) hD (fun κ hl ha o => gw_sub (lv' := [(0, .ref (τ.2.2 81)), (1, .int x1)]) [0, 1] rfl (wk_M_isGate_b0 o h))
def M_gate_b144 (Z : Int32 → xF → Prop) (M : xF) (J : (Nat → Int64)) (s1 : Int32) : Prop := ∀ M_144 : xF, M_144 = xs M 21 4 s1 → (∀ M_154 : xF, M_154 = xs M_144 21 1 ((M_144 21 1) + (1 : Int32)) → (∀ M_159 : xF, M_159 = xs M_154 21 14 (0 : Int32) → (Z ((M_159 21 1) - (1 : Int32)) M_159)))
set_option maxRecDepth 10000 in
theorem wk_M_gate_b144 {κ : Cx} {τ : xT} {Z : Int32 → xF → Prop} {M : xF} {J : (Nat → Int64)} {s1 : Int32} (o : OKc κ (wdM τ) 2 b_M_gate "StateExplorerModel" (some .int) (xR 1)) (h : M_gate_b144 Z M J s1) : GW κ (wdM τ) 2 (0, 0) (xMQ κ (wdM τ) (xR 1) (z1_i J Z)) (M, J) 144 [(0, .ref (τ.2.2 81))] [.int s1, .ref (τ.2.2 81)] := by
  unfold M_gate_b144 at h
  refine gM_put_latches (pc := 144) o q_550 d_M_gate_144 (fun M_144 eM_144 => ?_)
  have h := h M_144 eM_144
  refine gw_aload_n (pc := 147) o d_M_gate_147 rfl 0 rfl ?_
  refine gw_dup (pc := 148) o d_M_gate_148 rfl ?_
  refine gM_get_gates (pc := 149) o q_547 d_M_gate_149 ?_
  refine gw_iconst (pc := 152) (v := (1 : Int32)) o d_M_gate_152 (by decide) ?_
  refine gw_iadd (pc := 153) o d_M_gate_153 ?_
  refine gM_put_gates (pc := 154) o q_547 d_M_gate_154 (fun M_154 eM_154 => ?_)
  have h := h M_154 eM_154
  refine gw_aload_n (pc := 157) o d_M_gate_157 rfl 0 rfl ?_
  refine gw_iconst (pc := 158) (v := (0 : Int32)) o d_M_gate_158 (by decide) ?_
  refine gM_put_explored (pc := 159) o q_560 (by decide) d_M_gate_159 (fun M_159 eM_159 => ?_)
  have h := h M_159 eM_159
  refine gw_aload_n (pc := 162) o d_M_gate_162 rfl 0 rfl ?_
  refine gM_get_gates (pc := 163) o q_547 d_M_gate_163 ?_
  refine gw_iconst (pc := 166) (v := (1 : Int32)) o d_M_gate_166 (by decide) ?_
  refine gw_isub (pc := 167) o d_M_gate_167 ?_
  exact gw_iret (pc := 168) o ⟨Nat.le_refl _, Nat.le_refl _⟩ (z1_i.mk h) d_M_gate_168
def M_gate_b122 (Z : Int32 → xF → Prop) (M : xF) (J : (Nat → Int64)) (x1 : Int32) (s1 : Int32) : Prop := ∀ M_122 : xF, M_122 = xs M 21 3 s1 → (((x1 = (1 : Int32)) → (M_gate_b144 Z M_122 J ((M_122 21 4) + (1 : Int32)))) ∧ (¬ (x1 = (1 : Int32)) → (M_gate_b144 Z M_122 J (M_122 21 4))))
set_option maxRecDepth 10000 in
theorem wk_M_gate_b122 {κ : Cx} {τ : xT} {Z : Int32 → xF → Prop} {M : xF} {J : (Nat → Int64)} {x1 : Int32} {s1 : Int32} (o : OKc κ (wdM τ) 2 b_M_gate "StateExplorerModel" (some .int) (xR 1)) (h : M_gate_b122 Z M J x1 s1) : GW κ (wdM τ) 2 (0, 0) (xMQ κ (wdM τ) (xR 1) (z1_i J Z)) (M, J) 122 [(0, .ref (τ.2.2 81)), (1, .int x1)] [.int s1, .ref (τ.2.2 81)] := by
  unfold M_gate_b122 at h
  refine gM_put_inputs (pc := 122) o q_549 d_M_gate_122 (fun M_122 eM_122 => ?_)
  have h := h M_122 eM_122
  refine gw_aload_n (pc := 125) o d_M_gate_125 rfl 0 rfl ?_
  refine gw_iload_n (pc := 126) o d_M_gate_126 rfl 1 rfl ?_
  refine gw_iconst (pc := 127) (v := (1 : Int32)) o d_M_gate_127 (by decide) ?_
  refine gw_icmp_ne (pc := 128) (tgt := 140) o d_M_gate_128 (by decide) (fun hc => ?_) (fun hc => ?_)
  · have h := h.2 hc
    refine gw_aload_n (pc := 140) o d_M_gate_140 rfl 0 rfl ?_
    refine gM_get_latches (pc := 141) o q_550 d_M_gate_141 ?_
    exact gw_sub (lv' := [(0, .ref (τ.2.2 81))]) [0] rfl (wk_M_gate_b144 o h)
  · have h := h.1 hc
    refine gw_aload_n (pc := 131) o d_M_gate_131 rfl 0 rfl ?_
    refine gM_get_latches (pc := 132) o q_550 d_M_gate_132 ?_
    refine gw_iconst (pc := 135) (v := (1 : Int32)) o d_M_gate_135 (by decide) ?_
    refine gw_iadd (pc := 136) o d_M_gate_136 ?_
    refine gw_goto (pc := 137) (tgt := 144) o d_M_gate_137 (by decide) ?_
    exact gw_sub (lv' := [(0, .ref (τ.2.2 81))]) [0] rfl (wk_M_gate_b144 o h)
def M_gate_b103 (Z : Int32 → xF → Prop) (M : xF) (J : (Nat → Int64)) (x1 : Int32) (s1 : Int32) (s2 : Int32) : Prop := vp_in s1 60 ∧ (∀ M_103 : xF, M_103 = xs M 7 s1.toNatClampNeg s2 → (((x1 = 0) → (M_gate_b122 Z M_103 J x1 ((M_103 21 3) + (1 : Int32)))) ∧ (¬ (x1 = 0) → (M_gate_b122 Z M_103 J x1 (M_103 21 3)))))
set_option maxRecDepth 10000 in
theorem wk_M_gate_b103 {κ : Cx} {τ : xT} {Z : Int32 → xF → Prop} {M : xF} {J : (Nat → Int64)} {x1 : Int32} {s1 : Int32} {s2 : Int32} (o : OKc κ (wdM τ) 2 b_M_gate "StateExplorerModel" (some .int) (xR 1)) (h : M_gate_b103 Z M J x1 s1 s2) : GW κ (wdM τ) 2 (0, 0) (xMQ κ (wdM τ) (xR 1) (z1_i J Z)) (M, J) 103 [(0, .ref (τ.2.2 81)), (1, .int x1)] [.int s2, .int s1, .ref (τ.2.2 67)] := by
  unfold M_gate_b103 at h
  have hi := h.1
  have h := h.2
  refine gM_ast_number (pc := 103) o hi d_M_gate_103 (fun M_103 eM_103 => ?_)
  have h := h M_103 eM_103
  refine gw_aload_n (pc := 104) o d_M_gate_104 rfl 0 rfl ?_
  refine gw_iload_n (pc := 105) o d_M_gate_105 rfl 1 rfl ?_
  refine gw_if_ne (pc := 106) (tgt := 118) o d_M_gate_106 (by decide) (fun hc => ?_) (fun hc => ?_)
  · have h := h.2 hc
    refine gw_aload_n (pc := 118) o d_M_gate_118 rfl 0 rfl ?_
    refine gM_get_inputs (pc := 119) o q_549 d_M_gate_119 ?_
    exact gw_sub (lv' := [(0, .ref (τ.2.2 81)), (1, .int x1)]) [0, 1] rfl (wk_M_gate_b122 o h)
  · have h := h.1 hc
    refine gw_aload_n (pc := 109) o d_M_gate_109 rfl 0 rfl ?_
    refine gM_get_inputs (pc := 110) o q_549 d_M_gate_110 ?_
    refine gw_iconst (pc := 113) (v := (1 : Int32)) o d_M_gate_113 (by decide) ?_
    refine gw_iadd (pc := 114) o d_M_gate_114 ?_
    refine gw_goto (pc := 115) (tgt := 122) o d_M_gate_115 (by decide) ?_
    exact gw_sub (lv' := [(0, .ref (τ.2.2 81)), (1, .int x1)]) [0, 1] rfl (wk_M_gate_b122 o h)
def M_gate_b61 (Z : Int32 → xF → Prop) (M : xF) (J : (Nat → Int64)) (x1 : Int32) : Prop := vp_in (M 21 1) 60 ∧ (∀ M_70 : xF, M_70 = xs M 6 (M 21 1).toNatClampNeg x1 → (((x1 = 0) → (M_gate_b103 Z M_70 J x1 (M_70 21 1) (M_70 21 3))) ∧ (¬ (x1 = 0) → (((x1 = (1 : Int32)) → (M_gate_b103 Z M_70 J x1 (M_70 21 1) (M_70 21 4))) ∧ (¬ (x1 = (1 : Int32)) → (M_gate_b103 Z M_70 J x1 (M_70 21 1) (-1 : Int32)))))))
set_option maxRecDepth 10000 in
theorem wk_M_gate_b61 {κ : Cx} {τ : xT} {Z : Int32 → xF → Prop} {M : xF} {J : (Nat → Int64)} {x1 : Int32} (o : OKc κ (wdM τ) 2 b_M_gate "StateExplorerModel" (some .int) (xR 1)) (h : M_gate_b61 Z M J x1) : GW κ (wdM τ) 2 (0, 0) (xMQ κ (wdM τ) (xR 1) (z1_i J Z)) (M, J) 61 [(0, .ref (τ.2.2 81)), (1, .int x1)] [] := by
  unfold M_gate_b61 at h
  refine gw_aload_n (pc := 61) o d_M_gate_61 rfl 0 rfl ?_
  refine gM_get_sort (pc := 62) o q_552 d_M_gate_62 ?_
  refine gw_aload_n (pc := 65) o d_M_gate_65 rfl 0 rfl ?_
  refine gM_get_gates (pc := 66) o q_547 d_M_gate_66 ?_
  refine gw_iload_n (pc := 69) o d_M_gate_69 rfl 1 rfl ?_
  have hi := h.1
  have h := h.2
  refine gM_ast_sort (pc := 70) o hi d_M_gate_70 (fun M_70 eM_70 => ?_)
  have h := h M_70 eM_70
  refine gw_aload_n (pc := 71) o d_M_gate_71 rfl 0 rfl ?_
  refine gM_get_number (pc := 72) o q_553 d_M_gate_72 ?_
  refine gw_aload_n (pc := 75) o d_M_gate_75 rfl 0 rfl ?_
  refine gM_get_gates (pc := 76) o q_547 d_M_gate_76 ?_
  refine gw_iload_n (pc := 79) o d_M_gate_79 rfl 1 rfl ?_
  refine gw_if_ne (pc := 80) (tgt := 90) o d_M_gate_80 (by decide) (fun hc => ?_) (fun hc => ?_)
  · have h := h.2 hc
    refine gw_iload_n (pc := 90) o d_M_gate_90 rfl 1 rfl ?_
    refine gw_iconst (pc := 91) (v := (1 : Int32)) o d_M_gate_91 (by decide) ?_
    refine gw_icmp_ne (pc := 92) (tgt := 102) o d_M_gate_92 (by decide) (fun hc => ?_) (fun hc => ?_)
    · have h := h.2 hc
      refine gw_iconst (pc := 102) (v := (-1 : Int32)) o d_M_gate_102 (by decide) ?_
      exact gw_sub (lv' := [(0, .ref (τ.2.2 81)), (1, .int x1)]) [0, 1] rfl (wk_M_gate_b103 o h)
    · have h := h.1 hc
      refine gw_aload_n (pc := 95) o d_M_gate_95 rfl 0 rfl ?_
      refine gM_get_latches (pc := 96) o q_550 d_M_gate_96 ?_
      refine gw_goto (pc := 99) (tgt := 103) o d_M_gate_99 (by decide) ?_
      exact gw_sub (lv' := [(0, .ref (τ.2.2 81)), (1, .int x1)]) [0, 1] rfl (wk_M_gate_b103 o h)
  · have h := h.1 hc
    refine gw_aload_n (pc := 83) o d_M_gate_83 rfl 0 rfl ?_
    refine gM_get_inputs (pc := 84) o q_549 d_M_gate_84 ?_
    refine gw_goto (pc := 87) (tgt := 103) o d_M_gate_87 (by decide) ?_
    exact gw_sub (lv' := [(0, .ref (τ.2.2 81)), (1, .int x1)]) [0, 1] rfl (wk_M_gate_b103 o h)
def M_gate_b45 (Z : Int32 → xF → Prop) (M : xF) (J : (Nat → Int64)) (x1 : Int32) : Prop := ((x1 = (1 : Int32)) → ((((M 21 4) = (8 : Int32)) → (Z (-1 : Int32) M)) ∧ (¬ ((M 21 4) = (8 : Int32)) → (M_gate_b61 Z M J x1)))) ∧ (¬ (x1 = (1 : Int32)) → (M_gate_b61 Z M J x1))
set_option maxRecDepth 10000 in
theorem wk_M_gate_b45 {κ : Cx} {τ : xT} {Z : Int32 → xF → Prop} {M : xF} {J : (Nat → Int64)} {x1 : Int32} (o : OKc κ (wdM τ) 2 b_M_gate "StateExplorerModel" (some .int) (xR 1)) (h : M_gate_b45 Z M J x1) : GW κ (wdM τ) 2 (0, 0) (xMQ κ (wdM τ) (xR 1) (z1_i J Z)) (M, J) 45 [(0, .ref (τ.2.2 81)), (1, .int x1)] [] := by
  unfold M_gate_b45 at h
  refine gw_iload_n (pc := 45) o d_M_gate_45 rfl 1 rfl ?_
  refine gw_iconst (pc := 46) (v := (1 : Int32)) o d_M_gate_46 (by decide) ?_
  refine gw_icmp_ne (pc := 47) (tgt := 61) o d_M_gate_47 (by decide) (fun hc => ?_) (fun hc => ?_)
  · have h := h.2 hc
    exact gw_sub (lv' := [(0, .ref (τ.2.2 81)), (1, .int x1)]) [0, 1] rfl (wk_M_gate_b61 o h)
  · have h := h.1 hc
    refine gw_aload_n (pc := 50) o d_M_gate_50 rfl 0 rfl ?_
    refine gM_get_latches (pc := 51) o q_550 d_M_gate_51 ?_
    refine gw_bipush (pc := 54) (v := (8 : Int32)) o d_M_gate_54 (by decide) ?_
    refine gw_icmp_ne (pc := 56) (tgt := 61) o d_M_gate_56 (by decide) (fun hc => ?_) (fun hc => ?_)
    · have h := h.2 hc
      exact gw_sub (lv' := [(0, .ref (τ.2.2 81)), (1, .int x1)]) [0, 1] rfl (wk_M_gate_b61 o h)
    · have h := h.1 hc
      refine gw_iconst (pc := 59) (v := (-1 : Int32)) o d_M_gate_59 (by decide) ?_
      exact gw_iret (pc := 60) o ⟨Nat.le_refl _, Nat.le_refl _⟩ (z1_i.mk h) d_M_gate_60
def M_gate_b15 (Z : Int32 → xF → Prop) (M : xF) (J : (Nat → Int64)) (x1 : Int32) (s1 : Int32) : Prop := w_M_fails M J s1 (0 : Int32) (fun r16 M_16 => ((r16 = 0) → ((((M_16 21 1) = (60 : Int32)) → (Z (-1 : Int32) M_16)) ∧ (¬ ((M_16 21 1) = (60 : Int32)) → (((x1 = 0) → ((((M_16 21 3) = (4 : Int32)) → (Z (-1 : Int32) M_16)) ∧ (¬ ((M_16 21 3) = (4 : Int32)) → (M_gate_b45 Z M_16 J x1)))) ∧ (¬ (x1 = 0) → (M_gate_b45 Z M_16 J x1)))))) ∧ (¬ (r16 = 0) → (Z (0 : Int32) M_16)))
set_option maxRecDepth 10000 in
theorem wk_M_gate_b15 {κ : Cx} {τ : xT} {Z : Int32 → xF → Prop} {M : xF} {J : (Nat → Int64)} {x1 : Int32} {s1 : Int32} (o : OKc κ (wdM τ) 2 b_M_gate "StateExplorerModel" (some .int) (xR 1)) (h : M_gate_b15 Z M J x1 s1) : GW κ (wdM τ) 2 (0, 0) (xMQ κ (wdM τ) (xR 1) (z1_i J Z)) (M, J) 15 [(0, .ref (τ.2.2 81)), (1, .int x1)] [.int s1, .ref (τ.2.2 81)] := by
  unfold M_gate_b15 at h
  refine gw_iconst (pc := 15) (v := (0 : Int32)) o d_M_gate_15 (by decide) ?_
  refine gw_callV (pc := 16) (b := τ.2.2 81) (As := [.int s1, .int (0 : Int32)]) (st := []) o (ct_M_fails o.hD h) mi_M_fails q_619 q_621 qs_29 0 rfl rfl (xRo_of (by omega) (by decide)) rfl rfl (Nat.le_of_ble_eq_true rfl) d_M_gate_16 (kk_1_i rfl (fun r16 M_16 h => ?_))
  refine gw_if_eq (pc := 19) (tgt := 24) o d_M_gate_19 (by decide) (fun hc => ?_) (fun hc => ?_)
  · have h := h.1 hc
    refine gw_aload_n (pc := 24) o d_M_gate_24 rfl 0 rfl ?_
    refine gM_get_gates (pc := 25) o q_547 d_M_gate_25 ?_
    refine gw_bipush (pc := 28) (v := (60 : Int32)) o d_M_gate_28 (by decide) ?_
    refine gw_icmp_eq (pc := 30) (tgt := 59) o d_M_gate_30 (by decide) (fun hc => ?_) (fun hc => ?_)
    · have h := h.1 hc
      refine gw_iconst (pc := 59) (v := (-1 : Int32)) o d_M_gate_59 (by decide) ?_
      exact gw_iret (pc := 60) o ⟨Nat.le_refl _, Nat.le_refl _⟩ (z1_i.mk h) d_M_gate_60
    · have h := h.2 hc
      refine gw_iload_n (pc := 33) o d_M_gate_33 rfl 1 rfl ?_
      refine gw_if_ne (pc := 34) (tgt := 45) o d_M_gate_34 (by decide) (fun hc => ?_) (fun hc => ?_)
      · have h := h.2 hc
        exact gw_sub (lv' := [(0, .ref (τ.2.2 81)), (1, .int x1)]) [0, 1] rfl (wk_M_gate_b45 o h)
      · have h := h.1 hc
        refine gw_aload_n (pc := 37) o d_M_gate_37 rfl 0 rfl ?_
        refine gM_get_inputs (pc := 38) o q_549 d_M_gate_38 ?_
        refine gw_iconst (pc := 41) (v := (4 : Int32)) o d_M_gate_41 (by decide) ?_
        refine gw_icmp_eq (pc := 42) (tgt := 59) o d_M_gate_42 (by decide) (fun hc => ?_) (fun hc => ?_)
        · have h := h.1 hc
          refine gw_iconst (pc := 59) (v := (-1 : Int32)) o d_M_gate_59 (by decide) ?_
          exact gw_iret (pc := 60) o ⟨Nat.le_refl _, Nat.le_refl _⟩ (z1_i.mk h) d_M_gate_60
        · have h := h.2 hc
          exact gw_sub (lv' := [(0, .ref (τ.2.2 81)), (1, .int x1)]) [0, 1] rfl (wk_M_gate_b45 o h)
  · have h := h.2 hc
    refine gw_iconst (pc := 22) (v := (0 : Int32)) o d_M_gate_22 (by decide) ?_
    exact gw_iret (pc := 23) o ⟨Nat.le_refl _, Nat.le_refl _⟩ (z1_i.mk h) d_M_gate_23
def M_gate_b0 (Z : Int32 → xF → Prop) (M : xF) (J : (Nat → Int64)) (x1 : Int32) : Prop := ((x1 < 0) → (M_gate_b15 Z M J x1 (1 : Int32))) ∧ (¬ (x1 < 0) → (((x1 ≤ (3 : Int32)) → (M_gate_b15 Z M J x1 (0 : Int32))) ∧ (¬ (x1 ≤ (3 : Int32)) → (M_gate_b15 Z M J x1 (1 : Int32)))))
set_option maxRecDepth 10000 in
theorem wk_M_gate_b0 {κ : Cx} {τ : xT} {Z : Int32 → xF → Prop} {M : xF} {J : (Nat → Int64)} {x1 : Int32} (o : OKc κ (wdM τ) 2 b_M_gate "StateExplorerModel" (some .int) (xR 1)) (h : M_gate_b0 Z M J x1) : GW κ (wdM τ) 2 (0, 0) (xMQ κ (wdM τ) (xR 1) (z1_i J Z)) (M, J) 0 [(0, .ref (τ.2.2 81)), (1, .int x1)] [] := by
  unfold M_gate_b0 at h
  refine gw_aload_n (pc := 0) o d_M_gate_0 rfl 0 rfl ?_
  refine gw_iload_n (pc := 1) o d_M_gate_1 rfl 1 rfl ?_
  refine gw_if_lt (pc := 2) (tgt := 10) o d_M_gate_2 (by decide) (fun hc => ?_) (fun hc => ?_)
  · have h := h.1 hc
    refine gw_iconst (pc := 10) (v := (1 : Int32)) o d_M_gate_10 (by decide) ?_
    refine gw_goto (pc := 11) (tgt := 15) o d_M_gate_11 (by decide) ?_
    exact gw_sub (lv' := [(0, .ref (τ.2.2 81)), (1, .int x1)]) [0, 1] rfl (wk_M_gate_b15 o h)
  · have h := h.2 hc
    refine gw_iload_n (pc := 5) o d_M_gate_5 rfl 1 rfl ?_
    refine gw_iconst (pc := 6) (v := (3 : Int32)) o d_M_gate_6 (by decide) ?_
    refine gw_icmp_le (pc := 7) (tgt := 14) o d_M_gate_7 (by decide) (fun hc => ?_) (fun hc => ?_)
    · have h := h.1 hc
      refine gw_iconst (pc := 14) (v := (0 : Int32)) o d_M_gate_14 (by decide) ?_
      exact gw_sub (lv' := [(0, .ref (τ.2.2 81)), (1, .int x1)]) [0, 1] rfl (wk_M_gate_b15 o h)
    · have h := h.2 hc
      refine gw_iconst (pc := 10) (v := (1 : Int32)) o d_M_gate_10 (by decide) ?_
      refine gw_goto (pc := 11) (tgt := 15) o d_M_gate_11 (by decide) ?_
      exact gw_sub (lv' := [(0, .ref (τ.2.2 81)), (1, .int x1)]) [0, 1] rfl (wk_M_gate_b15 o h)
def w_M_gate  (M : xF) (J : (Nat → Int64)) (x1 : Int32) (Z : Int32 → xF → Prop) : Prop := M_gate_b0  Z M J x1
theorem ct_M_gate {l : Launch} {τ : xT} {M : xF} {J : (Nat → Int64)} {x1 : Int32} {Z : Int32 → xF → Prop} (hD : xD (wdM τ)) (h : w_M_gate  M J x1 Z) : CT l (wdM τ) y_M_gate (.code y_M_gate b_M_gate 2 (some .int)) (xR 1) [.ref (τ.2.2 81), .int x1] (M, J) (z1_i J Z) := by
  subst_vars
  exact CT.of (by decide) (Nat.le_of_ble_eq_true rfl) hD (fun κ hl ha o => gw_sub (lv' := [(0, .ref (τ.2.2 81)), (1, .int x1)]) [0, 1] rfl (wk_M_gate_b0 o h))
def M_feedsOf_b29 (Z : Int32 → Prop) (k4 : Int32 → Int32 → Prop) (M : xF) (J : (Nat → Int64)) (x1 : Int32) (x3 : Int32) (s0 : Int32) : Prop := ∀ x3_30 : Int32, x3_30 = x3 + (1 : Int32) → (k4 s0 x3_30)
set_option maxRecDepth 10000 in
theorem wk_M_feedsOf_b29 {κ : Cx} {τ : xT} {Z : Int32 → Prop} {k4 : Int32 → Int32 → Prop} {M : xF} {J : (Nat → Int64)} {x1 : Int32} {x3 : Int32} {s0 : Int32} (o : OKc κ (wdM τ) 4 b_M_feedsOf "StateExplorerModel" (some .int) (xR 0)) (hk4 : ∀ (x2 : Int32) (x3 : Int32), k4 x2 x3 → GW κ (wdM τ) 4 (0, 0) (xMQ κ (wdM τ) (xR 0) (zp_i (M, J) Z)) (M, J) 4 [(0, .ref (τ.2.2 81)), (1, .int x1), (2, .int x2), (3, .int x3)] []) (h : M_feedsOf_b29 Z k4 M J x1 x3 s0) : GW κ (wdM τ) 4 (0, 0) (xMQ κ (wdM τ) (xR 0) (zp_i (M, J) Z)) (M, J) 29 [(0, .ref (τ.2.2 81)), (1, .int x1), (3, .int x3)] [.int s0] := by
  unfold M_feedsOf_b29 at h
  refine gw_istore_n (pc := 29) (lv' := [(2, .int s0), (0, .ref (τ.2.2 81)), (1, .int x1), (3, .int x3)]) o d_M_feedsOf_29 rfl (by decide) rfl ?_
  refine gw_iincN (pc := 30) (c := (1 : Int32)) (lw := fun x3_30 => [(3, .int x3_30), (2, .int s0), (0, .ref (τ.2.2 81)), (1, .int x1)]) o d_M_feedsOf_30 (by decide) 3 rfl (by decide) (fun _ => rfl) (fun x3_30 ex3_30 => ?_)
  have h := h x3_30 ex3_30
  refine gw_goto (pc := 33) (tgt := 4) o d_M_feedsOf_33 (by decide) ?_
  exact gw_sub (lv' := [(0, .ref (τ.2.2 81)), (1, .int x1), (2, .int s0), (3, .int x3_30)]) [2, 3, 1, 0] rfl (hk4 _ _ h)
def M_feedsOf_b4 (Z : Int32 → Prop) (k4 : Int32 → Int32 → Prop) (M : xF) (J : (Nat → Int64)) (x1 : Int32) (x2 : Int32) (x3 : Int32) : Prop := (((M 21 2) ≤ x3) → (Z x2)) ∧ (¬ ((M 21 2) ≤ x3) → (vp_in x3 240 ∧ ((((M 10 x3.toNatClampNeg) = x1) → (M_feedsOf_b29 Z k4 M J x1 x3 (x2 + (1 : Int32)))) ∧ (¬ ((M 10 x3.toNatClampNeg) = x1) → (M_feedsOf_b29 Z k4 M J x1 x3 x2)))))
set_option maxRecDepth 10000 in
theorem wk_M_feedsOf_b4 {κ : Cx} {τ : xT} {Z : Int32 → Prop} {k4 : Int32 → Int32 → Prop} {M : xF} {J : (Nat → Int64)} {x1 : Int32} {x2 : Int32} {x3 : Int32} (o : OKc κ (wdM τ) 4 b_M_feedsOf "StateExplorerModel" (some .int) (xR 0)) (hk4 : ∀ (x2 : Int32) (x3 : Int32), k4 x2 x3 → GW κ (wdM τ) 4 (0, 0) (xMQ κ (wdM τ) (xR 0) (zp_i (M, J) Z)) (M, J) 4 [(0, .ref (τ.2.2 81)), (1, .int x1), (2, .int x2), (3, .int x3)] []) (h : M_feedsOf_b4 Z k4 M J x1 x2 x3) : GW κ (wdM τ) 4 (0, 0) (xMQ κ (wdM τ) (xR 0) (zp_i (M, J) Z)) (M, J) 4 [(0, .ref (τ.2.2 81)), (1, .int x1), (2, .int x2), (3, .int x3)] [] := by
  unfold M_feedsOf_b4 at h
  refine gw_iload_n (pc := 4) o d_M_feedsOf_4 rfl 3 rfl ?_
  refine gw_aload_n (pc := 5) o d_M_feedsOf_5 rfl 0 rfl ?_
  refine gM_get_feeds (pc := 6) o q_548 d_M_feedsOf_6 ?_
  refine gw_icmp_ge (pc := 9) (tgt := 36) o d_M_feedsOf_9 (by decide) (fun hc => ?_) (fun hc => ?_)
  · have h := h.1 hc
    refine gw_iload_n (pc := 36) o d_M_feedsOf_36 rfl 2 rfl ?_
    exact gw_iret (pc := 37) o ⟨Nat.le_refl _, Nat.le_refl _⟩ (zp_i.mk h) d_M_feedsOf_37
  · have h := h.2 hc
    refine gw_aload_n (pc := 12) o d_M_feedsOf_12 rfl 0 rfl ?_
    refine gM_get_to (pc := 13) o q_556 d_M_feedsOf_13 ?_
    refine gw_iload_n (pc := 16) o d_M_feedsOf_16 rfl 3 rfl ?_
    have hi := h.1
    have h := h.2
    refine gM_ald_to (pc := 17) o hi d_M_feedsOf_17 ?_
    refine gw_iload_n (pc := 18) o d_M_feedsOf_18 rfl 1 rfl ?_
    refine gw_icmp_ne (pc := 19) (tgt := 28) o d_M_feedsOf_19 (by decide) (fun hc => ?_) (fun hc => ?_)
    · have h := h.2 hc
      refine gw_iload_n (pc := 28) o d_M_feedsOf_28 rfl 2 rfl ?_
      exact gw_sub (lv' := [(0, .ref (τ.2.2 81)), (1, .int x1), (3, .int x3)]) [0, 1, 3] rfl (wk_M_feedsOf_b29 o hk4 h)
    · have h := h.1 hc
      refine gw_iload_n (pc := 22) o d_M_feedsOf_22 rfl 2 rfl ?_
      refine gw_iconst (pc := 23) (v := (1 : Int32)) o d_M_feedsOf_23 (by decide) ?_
      refine gw_iadd (pc := 24) o d_M_feedsOf_24 ?_
      refine gw_goto (pc := 25) (tgt := 29) o d_M_feedsOf_25 (by decide) ?_
      exact gw_sub (lv' := [(0, .ref (τ.2.2 81)), (1, .int x1), (3, .int x3)]) [0, 1, 3] rfl (wk_M_feedsOf_b29 o hk4 h)
def M_feedsOf_L4 (Z : Int32 → Prop) (M : xF) (J : (Nat → Int64)) (x1 : Int32) (x2 : Int32) (x3 : Int32) : Prop := LOOP2 (fun k4 x2 x3 => M_feedsOf_b4 Z k4 M J x1 x2 x3) x2 x3
theorem wk_M_feedsOf_L4 {κ : Cx} {τ : xT} {Z : Int32 → Prop} {M : xF} {J : (Nat → Int64)} {x1 : Int32} {x2 : Int32} {x3 : Int32} (o : OKc κ (wdM τ) 4 b_M_feedsOf "StateExplorerModel" (some .int) (xR 0)) (h : M_feedsOf_L4 Z M J x1 x2 x3) : GW κ (wdM τ) 4 (0, 0) (xMQ κ (wdM τ) (xR 0) (zp_i (M, J) Z)) (M, J) 4 [(0, .ref (τ.2.2 81)), (1, .int x1), (2, .int x2), (3, .int x3)] [] := by
  unfold M_feedsOf_L4 at h
  exact LOOP2.use (G := fun x2 x3 => GW κ (wdM τ) 4 (0, 0) (xMQ κ (wdM τ) (xR 0) (zp_i (M, J) Z)) (M, J) 4 [(0, .ref (τ.2.2 81)), (1, .int x1), (2, .int x2), (3, .int x3)] []) (fun k4 x2 x3 hk4 h => wk_M_feedsOf_b4 o hk4 h) h
def M_feedsOf_b0 (Z : Int32 → Prop) (M : xF) (J : (Nat → Int64)) (x1 : Int32) : Prop := M_feedsOf_L4 Z M J x1 (0 : Int32) (0 : Int32)
set_option maxRecDepth 10000 in
theorem wk_M_feedsOf_b0 {κ : Cx} {τ : xT} {Z : Int32 → Prop} {M : xF} {J : (Nat → Int64)} {x1 : Int32} (o : OKc κ (wdM τ) 4 b_M_feedsOf "StateExplorerModel" (some .int) (xR 0)) (h : M_feedsOf_b0 Z M J x1) : GW κ (wdM τ) 4 (0, 0) (xMQ κ (wdM τ) (xR 0) (zp_i (M, J) Z)) (M, J) 0 [(0, .ref (τ.2.2 81)), (1, .int x1)] [] := by
  unfold M_feedsOf_b0 at h
  refine gw_iconst (pc := 0) (v := (0 : Int32)) o d_M_feedsOf_0 (by decide) ?_
  refine gw_istore_n (pc := 1) (lv' := [(2, .int (0 : Int32)), (0, .ref (τ.2.2 81)), (1, .int x1)]) o d_M_feedsOf_1 rfl (by decide) rfl ?_
  refine gw_iconst (pc := 2) (v := (0 : Int32)) o d_M_feedsOf_2 (by decide) ?_
  refine gw_istore_n (pc := 3) (lv' := [(3, .int (0 : Int32)), (2, .int (0 : Int32)), (0, .ref (τ.2.2 81)), (1, .int x1)]) o d_M_feedsOf_3 rfl (by decide) rfl ?_
  exact gw_sub (lv' := [(0, .ref (τ.2.2 81)), (1, .int x1), (2, .int (0 : Int32)), (3, .int (0 : Int32))]) [2, 3, 1, 0] rfl (wk_M_feedsOf_L4 o h)
def w_M_feedsOf  (M : xF) (J : (Nat → Int64)) (x1 : Int32) (Z : Int32 → Prop) : Prop := M_feedsOf_b0  Z M J x1
theorem ct_M_feedsOf {l : Launch} {τ : xT} {M : xF} {J : (Nat → Int64)} {x1 : Int32} {Z : Int32 → Prop} (hD : xD (wdM τ)) (h : w_M_feedsOf  M J x1 Z) : CT l (wdM τ) y_M_feedsOf (.code y_M_feedsOf b_M_feedsOf 4 (some .int)) (xR 0) [.ref (τ.2.2 81), .int x1] (M, J) (zp_i (M, J) Z) := by
  subst_vars
  exact CT.of (by decide) (Nat.le_of_ble_eq_true rfl) hD (fun κ hl ha o => gw_sub (lv' := [(0, .ref (τ.2.2 81)), (1, .int x1)]) [0, 1] rfl (wk_M_feedsOf_b0 o h))
def M_feed_b73 (Z : Int32 → xF → Prop) (M : xF) (J : (Nat → Int64)) (x1 : Int32) (x2 : Int32) (x3 : Int32) (x5 : Int32) (s1 : Int32) : Prop := w_M_fails M J s1 x5 (fun r75 M_75 => ((r75 = 0) → ((((M_75 21 2) = (240 : Int32)) → (Z (-1 : Int32) M_75)) ∧ (¬ ((M_75 21 2) = (240 : Int32)) → (vp_in (M_75 21 2) 240 ∧ (∀ M_104 : xF, M_104 = xs M_75 10 (M_75 21 2).toNatClampNeg x1 → (vp_in (M_104 21 2) 240 ∧ (∀ M_114 : xF, M_114 = xs M_104 11 (M_104 21 2).toNatClampNeg x2 → (vp_in (M_114 21 2) 240 ∧ ((x3 = 0 ∨ x3 = 1) ∧ (∀ M_124 : xF, M_124 = xs M_114 13 (M_114 21 2).toNatClampNeg x3 → (∀ M_132 : xF, M_132 = xs M_124 21 2 ((M_124 21 2) + (1 : Int32)) → (∀ M_137 : xF, M_137 = xs M_132 21 14 (0 : Int32) → (w_M_feedsOf M_137 J x1 (fun r142 => Z r142 M_137)))))))))))))) ∧ (¬ (r75 = 0) → (Z (0 : Int32) M_75)))
set_option maxRecDepth 10000 in
theorem wk_M_feed_b73 {κ : Cx} {τ : xT} {Z : Int32 → xF → Prop} {M : xF} {J : (Nat → Int64)} {x1 : Int32} {x2 : Int32} {x3 : Int32} {x5 : Int32} {s1 : Int32} (o : OKc κ (wdM τ) 6 b_M_feed "StateExplorerModel" (some .int) (xR 1)) (h : M_feed_b73 Z M J x1 x2 x3 x5 s1) : GW κ (wdM τ) 6 (0, 0) (xMQ κ (wdM τ) (xR 1) (z1_i J Z)) (M, J) 73 [(0, .ref (τ.2.2 81)), (1, .int x1), (2, .int x2), (3, .int x3), (5, .int x5)] [.int s1, .ref (τ.2.2 81)] := by
  unfold M_feed_b73 at h
  refine gw_iload (pc := 73) o d_M_feed_73 4 rfl ?_
  refine gw_callV (pc := 75) (b := τ.2.2 81) (As := [.int s1, .int x5]) (st := []) o (ct_M_fails o.hD h) mi_M_fails q_619 q_621 qs_29 0 rfl rfl (xRo_of (by omega) (by decide)) rfl rfl (Nat.le_of_ble_eq_true rfl) d_M_feed_75 (kk_1_i rfl (fun r75 M_75 h => ?_))
  refine gw_if_eq (pc := 78) (tgt := 83) o d_M_feed_78 (by decide) (fun hc => ?_) (fun hc => ?_)
  · have h := h.1 hc
    refine gw_aload_n (pc := 83) o d_M_feed_83 rfl 0 rfl ?_
    refine gM_get_feeds (pc := 84) o q_548 d_M_feed_84 ?_
    refine gw_sipush (pc := 87) (v := (240 : Int32)) o d_M_feed_87 (by decide) ?_
    refine gw_icmp_ne (pc := 90) (tgt := 95) o d_M_feed_90 (by decide) (fun hc => ?_) (fun hc => ?_)
    · have h := h.2 hc
      refine gw_aload_n (pc := 95) o d_M_feed_95 rfl 0 rfl ?_
      refine gM_get_to (pc := 96) o q_556 d_M_feed_96 ?_
      refine gw_aload_n (pc := 99) o d_M_feed_99 rfl 0 rfl ?_
      refine gM_get_feeds (pc := 100) o q_548 d_M_feed_100 ?_
      refine gw_iload_n (pc := 103) o d_M_feed_103 rfl 1 rfl ?_
      have hi := h.1
      have h := h.2
      refine gM_ast_to (pc := 104) o hi d_M_feed_104 (fun M_104 eM_104 => ?_)
      have h := h M_104 eM_104
      refine gw_aload_n (pc := 105) o d_M_feed_105 rfl 0 rfl ?_
      refine gM_get_from (pc := 106) o q_557 d_M_feed_106 ?_
      refine gw_aload_n (pc := 109) o d_M_feed_109 rfl 0 rfl ?_
      refine gM_get_feeds (pc := 110) o q_548 d_M_feed_110 ?_
      refine gw_iload_n (pc := 113) o d_M_feed_113 rfl 2 rfl ?_
      have hi := h.1
      have h := h.2
      refine gM_ast_from (pc := 114) o hi d_M_feed_114 (fun M_114 eM_114 => ?_)
      have h := h M_114 eM_114
      refine gw_aload_n (pc := 115) o d_M_feed_115 rfl 0 rfl ?_
      refine gM_get_negated (pc := 116) o q_559 d_M_feed_116 ?_
      refine gw_aload_n (pc := 119) o d_M_feed_119 rfl 0 rfl ?_
      refine gM_get_feeds (pc := 120) o q_548 d_M_feed_120 ?_
      refine gw_iload_n (pc := 123) o d_M_feed_123 rfl 3 rfl ?_
      have hi := h.1
      have h := h.2
      have hz0 := h.1
      have h := h.2
      refine gM_ast_negated (pc := 124) o hi (xnz hz0) d_M_feed_124 (fun M_124 eM_124 => ?_)
      have h := h M_124 eM_124
      refine gw_aload_n (pc := 125) o d_M_feed_125 rfl 0 rfl ?_
      refine gw_dup (pc := 126) o d_M_feed_126 rfl ?_
      refine gM_get_feeds (pc := 127) o q_548 d_M_feed_127 ?_
      refine gw_iconst (pc := 130) (v := (1 : Int32)) o d_M_feed_130 (by decide) ?_
      refine gw_iadd (pc := 131) o d_M_feed_131 ?_
      refine gM_put_feeds (pc := 132) o q_548 d_M_feed_132 (fun M_132 eM_132 => ?_)
      have h := h M_132 eM_132
      refine gw_aload_n (pc := 135) o d_M_feed_135 rfl 0 rfl ?_
      refine gw_iconst (pc := 136) (v := (0 : Int32)) o d_M_feed_136 (by decide) ?_
      refine gM_put_explored (pc := 137) o q_560 (by decide) d_M_feed_137 (fun M_137 eM_137 => ?_)
      have h := h M_137 eM_137
      refine gw_aload_n (pc := 140) o d_M_feed_140 rfl 0 rfl ?_
      refine gw_iload_n (pc := 141) o d_M_feed_141 rfl 1 rfl ?_
      refine gw_callV (pc := 142) (b := τ.2.2 81) (As := [.int x1]) (st := []) o (ct_M_feedsOf o.hD h) mi_M_feedsOf q_631 q_633 qs_31 0 rfl rfl (xRo_of (by omega) (by decide)) rfl rfl (Nat.le_of_ble_eq_true rfl) d_M_feed_142 (kk_p_i rfl (fun r142 h => ?_))
      exact gw_iret (pc := 145) o ⟨Nat.le_refl _, Nat.le_refl _⟩ (z1_i.mk h) d_M_feed_145
    · have h := h.1 hc
      refine gw_iconst (pc := 93) (v := (-1 : Int32)) o d_M_feed_93 (by decide) ?_
      exact gw_iret (pc := 94) o ⟨Nat.le_refl _, Nat.le_refl _⟩ (z1_i.mk h) d_M_feed_94
  · have h := h.2 hc
    refine gw_iconst (pc := 81) (v := (0 : Int32)) o d_M_feed_81 (by decide) ?_
    exact gw_iret (pc := 82) o ⟨Nat.le_refl _, Nat.le_refl _⟩ (z1_i.mk h) d_M_feed_82
def M_feed_b60 (Z : Int32 → xF → Prop) (M : xF) (J : (Nat → Int64)) (x1 : Int32) (x2 : Int32) (x3 : Int32) (x4 : Int32) (s0 : Int32) : Prop := ((x4 = 0) → (M_feed_b73 Z M J x1 x2 x3 s0 (1 : Int32))) ∧ (¬ (x4 = 0) → (M_feed_b73 Z M J x1 x2 x3 s0 (0 : Int32)))
set_option maxRecDepth 10000 in
theorem wk_M_feed_b60 {κ : Cx} {τ : xT} {Z : Int32 → xF → Prop} {M : xF} {J : (Nat → Int64)} {x1 : Int32} {x2 : Int32} {x3 : Int32} {x4 : Int32} {s0 : Int32} (o : OKc κ (wdM τ) 6 b_M_feed "StateExplorerModel" (some .int) (xR 1)) (h : M_feed_b60 Z M J x1 x2 x3 x4 s0) : GW κ (wdM τ) 6 (0, 0) (xMQ κ (wdM τ) (xR 1) (z1_i J Z)) (M, J) 60 [(0, .ref (τ.2.2 81)), (1, .int x1), (2, .int x2), (3, .int x3), (4, .int x4)] [.int s0] := by
  unfold M_feed_b60 at h
  refine gw_istore (pc := 60) (lv' := [(5, .int s0), (0, .ref (τ.2.2 81)), (1, .int x1), (2, .int x2), (3, .int x3), (4, .int x4)]) o d_M_feed_60 (by decide) rfl ?_
  refine gw_aload_n (pc := 62) o d_M_feed_62 rfl 1 rfl ?_
  refine gw_iload (pc := 63) o d_M_feed_63 5 rfl ?_
  refine gw_if_ne (pc := 65) (tgt := 72) o d_M_feed_65 (by decide) (fun hc => ?_) (fun hc => ?_)
  · have h := h.2 hc
    refine gw_iconst (pc := 72) (v := (0 : Int32)) o d_M_feed_72 (by decide) ?_
    exact gw_sub (lv' := [(0, .ref (τ.2.2 81)), (1, .int x1), (2, .int x2), (3, .int x3), (5, .int s0)]) [1, 2, 3, 4, 0] rfl (wk_M_feed_b73 o h)
  · have h := h.1 hc
    refine gw_iconst (pc := 68) (v := (1 : Int32)) o d_M_feed_68 (by decide) ?_
    refine gw_goto (pc := 69) (tgt := 73) o d_M_feed_69 (by decide) ?_
    exact gw_sub (lv' := [(0, .ref (τ.2.2 81)), (1, .int x1), (2, .int x2), (3, .int x3), (5, .int s0)]) [1, 2, 3, 4, 0] rfl (wk_M_feed_b73 o h)
def M_feed_b59 (Z : Int32 → xF → Prop) (M : xF) (J : (Nat → Int64)) (x1 : Int32) (x2 : Int32) (x3 : Int32) (x4 : Int32) : Prop := M_feed_b60 Z M J x1 x2 x3 x4 (0 : Int32)
set_option maxRecDepth 10000 in
theorem wk_M_feed_b59 {κ : Cx} {τ : xT} {Z : Int32 → xF → Prop} {M : xF} {J : (Nat → Int64)} {x1 : Int32} {x2 : Int32} {x3 : Int32} {x4 : Int32} (o : OKc κ (wdM τ) 6 b_M_feed "StateExplorerModel" (some .int) (xR 1)) (h : M_feed_b59 Z M J x1 x2 x3 x4) : GW κ (wdM τ) 6 (0, 0) (xMQ κ (wdM τ) (xR 1) (z1_i J Z)) (M, J) 59 [(0, .ref (τ.2.2 81)), (1, .int x1), (2, .int x2), (3, .int x3), (4, .int x4)] [] := by
  unfold M_feed_b59 at h
  refine gw_iconst (pc := 59) (v := (0 : Int32)) o d_M_feed_59 (by decide) ?_
  exact gw_sub (lv' := [(0, .ref (τ.2.2 81)), (1, .int x1), (2, .int x2), (3, .int x3), (4, .int x4)]) [0, 1, 2, 3, 4] rfl (wk_M_feed_b60 o h)
def M_feed_b21 (Z : Int32 → xF → Prop) (M : xF) (J : (Nat → Int64)) (x1 : Int32) (x2 : Int32) (x3 : Int32) (s0 : Int32) : Prop := ((s0 = 0) → (M_feed_b59 Z M J x1 x2 x3 s0)) ∧ (¬ (s0 = 0) → (vp_in x1 60 ∧ ((((M 6 x1.toNatClampNeg) = 0) → (M_feed_b60 Z M J x1 x2 x3 s0 (1 : Int32))) ∧ (¬ ((M 6 x1.toNatClampNeg) = 0) → (vp_in x1 60 ∧ ((((M 6 x1.toNatClampNeg) = (1 : Int32)) → (w_M_feedsOf M J x1 (fun r49 => ((r49 ≤ 0) → (M_feed_b59 Z M J x1 x2 x3 s0)) ∧ (¬ (r49 ≤ 0) → (M_feed_b60 Z M J x1 x2 x3 s0 (1 : Int32)))))) ∧ (¬ ((M 6 x1.toNatClampNeg) = (1 : Int32)) → (M_feed_b59 Z M J x1 x2 x3 s0))))))))
set_option maxRecDepth 10000 in
theorem wk_M_feed_b21 {κ : Cx} {τ : xT} {Z : Int32 → xF → Prop} {M : xF} {J : (Nat → Int64)} {x1 : Int32} {x2 : Int32} {x3 : Int32} {s0 : Int32} (o : OKc κ (wdM τ) 6 b_M_feed "StateExplorerModel" (some .int) (xR 1)) (h : M_feed_b21 Z M J x1 x2 x3 s0) : GW κ (wdM τ) 6 (0, 0) (xMQ κ (wdM τ) (xR 1) (z1_i J Z)) (M, J) 21 [(0, .ref (τ.2.2 81)), (1, .int x1), (2, .int x2), (3, .int x3)] [.int s0] := by
  unfold M_feed_b21 at h
  refine gw_istore (pc := 21) (lv' := [(4, .int s0), (0, .ref (τ.2.2 81)), (1, .int x1), (2, .int x2), (3, .int x3)]) o d_M_feed_21 (by decide) rfl ?_
  refine gw_iload (pc := 23) o d_M_feed_23 0 rfl ?_
  refine gw_if_eq (pc := 25) (tgt := 59) o d_M_feed_25 (by decide) (fun hc => ?_) (fun hc => ?_)
  · have h := h.1 hc
    exact gw_sub (lv' := [(0, .ref (τ.2.2 81)), (1, .int x1), (2, .int x2), (3, .int x3), (4, .int s0)]) [1, 2, 3, 4, 0] rfl (wk_M_feed_b59 o h)
  · have h := h.2 hc
    refine gw_aload_n (pc := 28) o d_M_feed_28 rfl 1 rfl ?_
    refine gM_get_sort (pc := 29) o q_552 d_M_feed_29 ?_
    refine gw_iload_n (pc := 32) o d_M_feed_32 rfl 2 rfl ?_
    have hi := h.1
    have h := h.2
    refine gM_ald_sort (pc := 33) o hi d_M_feed_33 ?_
    refine gw_if_eq (pc := 34) (tgt := 55) o d_M_feed_34 (by decide) (fun hc => ?_) (fun hc => ?_)
    · have h := h.1 hc
      refine gw_iconst (pc := 55) (v := (1 : Int32)) o d_M_feed_55 (by decide) ?_
      refine gw_goto (pc := 56) (tgt := 60) o d_M_feed_56 (by decide) ?_
      exact gw_sub (lv' := [(0, .ref (τ.2.2 81)), (1, .int x1), (2, .int x2), (3, .int x3), (4, .int s0)]) [1, 2, 3, 4, 0] rfl (wk_M_feed_b60 o h)
    · have h := h.2 hc
      refine gw_aload_n (pc := 37) o d_M_feed_37 rfl 1 rfl ?_
      refine gM_get_sort (pc := 38) o q_552 d_M_feed_38 ?_
      refine gw_iload_n (pc := 41) o d_M_feed_41 rfl 2 rfl ?_
      have hi := h.1
      have h := h.2
      refine gM_ald_sort (pc := 42) o hi d_M_feed_42 ?_
      refine gw_iconst (pc := 43) (v := (1 : Int32)) o d_M_feed_43 (by decide) ?_
      refine gw_icmp_ne (pc := 44) (tgt := 59) o d_M_feed_44 (by decide) (fun hc => ?_) (fun hc => ?_)
      · have h := h.2 hc
        exact gw_sub (lv' := [(0, .ref (τ.2.2 81)), (1, .int x1), (2, .int x2), (3, .int x3), (4, .int s0)]) [1, 2, 3, 4, 0] rfl (wk_M_feed_b59 o h)
      · have h := h.1 hc
        refine gw_aload_n (pc := 47) o d_M_feed_47 rfl 1 rfl ?_
        refine gw_iload_n (pc := 48) o d_M_feed_48 rfl 2 rfl ?_
        refine gw_callV (pc := 49) (b := τ.2.2 81) (As := [.int x1]) (st := []) o (ct_M_feedsOf o.hD h) mi_M_feedsOf q_631 q_633 qs_31 0 rfl rfl (xRo_of (by omega) (by decide)) rfl rfl (Nat.le_of_ble_eq_true rfl) d_M_feed_49 (kk_p_i rfl (fun r49 h => ?_))
        refine gw_if_le (pc := 52) (tgt := 59) o d_M_feed_52 (by decide) (fun hc => ?_) (fun hc => ?_)
        · have h := h.1 hc
          exact gw_sub (lv' := [(0, .ref (τ.2.2 81)), (1, .int x1), (2, .int x2), (3, .int x3), (4, .int s0)]) [1, 2, 3, 4, 0] rfl (wk_M_feed_b59 o h)
        · have h := h.2 hc
          refine gw_iconst (pc := 55) (v := (1 : Int32)) o d_M_feed_55 (by decide) ?_
          refine gw_goto (pc := 56) (tgt := 60) o d_M_feed_56 (by decide) ?_
          exact gw_sub (lv' := [(0, .ref (τ.2.2 81)), (1, .int x1), (2, .int x2), (3, .int x3), (4, .int s0)]) [1, 2, 3, 4, 0] rfl (wk_M_feed_b60 o h)
def M_feed_b20 (Z : Int32 → xF → Prop) (M : xF) (J : (Nat → Int64)) (x1 : Int32) (x2 : Int32) (x3 : Int32) : Prop := M_feed_b21 Z M J x1 x2 x3 (0 : Int32)
set_option maxRecDepth 10000 in
theorem wk_M_feed_b20 {κ : Cx} {τ : xT} {Z : Int32 → xF → Prop} {M : xF} {J : (Nat → Int64)} {x1 : Int32} {x2 : Int32} {x3 : Int32} (o : OKc κ (wdM τ) 6 b_M_feed "StateExplorerModel" (some .int) (xR 1)) (h : M_feed_b20 Z M J x1 x2 x3) : GW κ (wdM τ) 6 (0, 0) (xMQ κ (wdM τ) (xR 1) (z1_i J Z)) (M, J) 20 [(0, .ref (τ.2.2 81)), (1, .int x1), (2, .int x2), (3, .int x3)] [] := by
  unfold M_feed_b20 at h
  refine gw_iconst (pc := 20) (v := (0 : Int32)) o d_M_feed_20 (by decide) ?_
  exact gw_sub (lv' := [(0, .ref (τ.2.2 81)), (1, .int x1), (2, .int x2), (3, .int x3)]) [0, 1, 2, 3] rfl (wk_M_feed_b21 o h)
def M_feed_b0 (Z : Int32 → xF → Prop) (M : xF) (J : (Nat → Int64)) (x1 : Int32) (x2 : Int32) (x3 : Int32) : Prop := w_M_isGate M J x1 (fun r2 => ((r2 = 0) → (M_feed_b20 Z M J x1 x2 x3)) ∧ (¬ (r2 = 0) → (w_M_isGate M J x2 (fun r10 => ((r10 = 0) → (M_feed_b20 Z M J x1 x2 x3)) ∧ (¬ (r10 = 0) → (M_feed_b21 Z M J x1 x2 x3 (1 : Int32)))))))
set_option maxRecDepth 10000 in
theorem wk_M_feed_b0 {κ : Cx} {τ : xT} {Z : Int32 → xF → Prop} {M : xF} {J : (Nat → Int64)} {x1 : Int32} {x2 : Int32} {x3 : Int32} (o : OKc κ (wdM τ) 6 b_M_feed "StateExplorerModel" (some .int) (xR 1)) (h : M_feed_b0 Z M J x1 x2 x3) : GW κ (wdM τ) 6 (0, 0) (xMQ κ (wdM τ) (xR 1) (z1_i J Z)) (M, J) 0 [(0, .ref (τ.2.2 81)), (1, .int x1), (2, .int x2), (3, .int x3)] [] := by
  unfold M_feed_b0 at h
  refine gw_aload_n (pc := 0) o d_M_feed_0 rfl 0 rfl ?_
  refine gw_iload_n (pc := 1) o d_M_feed_1 rfl 1 rfl ?_
  refine gw_callV (pc := 2) (b := τ.2.2 81) (As := [.int x1]) (st := []) o (ct_M_isGate o.hD h) mi_M_isGate q_627 q_629 qs_30 0 rfl rfl (xRo_of (by omega) (by decide)) rfl rfl (Nat.le_of_ble_eq_true rfl) d_M_feed_2 (kk_p_i rfl (fun r2 h => ?_))
  refine gw_if_eq (pc := 5) (tgt := 20) o d_M_feed_5 (by decide) (fun hc => ?_) (fun hc => ?_)
  · have h := h.1 hc
    exact gw_sub (lv' := [(0, .ref (τ.2.2 81)), (1, .int x1), (2, .int x2), (3, .int x3)]) [0, 1, 2, 3] rfl (wk_M_feed_b20 o h)
  · have h := h.2 hc
    refine gw_aload_n (pc := 8) o d_M_feed_8 rfl 0 rfl ?_
    refine gw_iload_n (pc := 9) o d_M_feed_9 rfl 2 rfl ?_
    refine gw_callV (pc := 10) (b := τ.2.2 81) (As := [.int x2]) (st := []) o (ct_M_isGate o.hD h) mi_M_isGate q_627 q_629 qs_30 0 rfl rfl (xRo_of (by omega) (by decide)) rfl rfl (Nat.le_of_ble_eq_true rfl) d_M_feed_10 (kk_p_i rfl (fun r10 h => ?_))
    refine gw_if_eq (pc := 13) (tgt := 20) o d_M_feed_13 (by decide) (fun hc => ?_) (fun hc => ?_)
    · have h := h.1 hc
      exact gw_sub (lv' := [(0, .ref (τ.2.2 81)), (1, .int x1), (2, .int x2), (3, .int x3)]) [0, 1, 2, 3] rfl (wk_M_feed_b20 o h)
    · have h := h.2 hc
      refine gw_iconst (pc := 16) (v := (1 : Int32)) o d_M_feed_16 (by decide) ?_
      refine gw_goto (pc := 17) (tgt := 21) o d_M_feed_17 (by decide) ?_
      exact gw_sub (lv' := [(0, .ref (τ.2.2 81)), (1, .int x1), (2, .int x2), (3, .int x3)]) [0, 1, 2, 3] rfl (wk_M_feed_b21 o h)
def w_M_feed  (M : xF) (J : (Nat → Int64)) (x1 : Int32) (x2 : Int32) (x3 : Int32) (Z : Int32 → xF → Prop) : Prop := M_feed_b0  Z M J x1 x2 x3
theorem ct_M_feed {l : Launch} {τ : xT} {M : xF} {J : (Nat → Int64)} {x1 : Int32} {x2 : Int32} {x3 : Int32} {Z : Int32 → xF → Prop} (hD : xD (wdM τ)) (h : w_M_feed  M J x1 x2 x3 Z) : CT l (wdM τ) y_M_feed (.code y_M_feed b_M_feed 6 (some .int)) (xR 1) [.ref (τ.2.2 81), .int x1, .int x2, .int x3] (M, J) (z1_i J Z) := by
  subst_vars
  exact CT.of (by decide) (Nat.le_of_ble_eq_true rfl) hD (fun κ hl ha o => gw_sub (lv' := [(0, .ref (τ.2.2 81)), (1, .int x1), (2, .int x2), (3, .int x3)]) [0, 1, 2, 3] rfl (wk_M_feed_b0 o h))
def M_output_b14 (Z : Int32 → xF → Prop) (M : xF) (J : (Nat → Int64)) (x1 : Int32) (s1 : Int32) : Prop := w_M_fails M J s1 (0 : Int32) (fun r15 M_15 => ((r15 = 0) → ((((M_15 21 5) = (6 : Int32)) → (Z (-1 : Int32) M_15)) ∧ (¬ ((M_15 21 5) = (6 : Int32)) → (vp_in (M_15 21 5) 6 ∧ (∀ M_43 : xF, M_43 = xs M_15 12 (M_15 21 5).toNatClampNeg x1 → (∀ M_51 : xF, M_51 = xs M_43 21 5 ((M_43 21 5) + (1 : Int32)) → (∀ M_56 : xF, M_56 = xs M_51 21 14 (0 : Int32) → (Z (M_56 21 5) M_56)))))))) ∧ (¬ (r15 = 0) → (Z (0 : Int32) M_15)))
set_option maxRecDepth 10000 in
theorem wk_M_output_b14 {κ : Cx} {τ : xT} {Z : Int32 → xF → Prop} {M : xF} {J : (Nat → Int64)} {x1 : Int32} {s1 : Int32} (o : OKc κ (wdM τ) 2 b_M_output "StateExplorerModel" (some .int) (xR 1)) (h : M_output_b14 Z M J x1 s1) : GW κ (wdM τ) 2 (0, 0) (xMQ κ (wdM τ) (xR 1) (z1_i J Z)) (M, J) 14 [(0, .ref (τ.2.2 81)), (1, .int x1)] [.int s1, .ref (τ.2.2 81)] := by
  unfold M_output_b14 at h
  refine gw_iconst (pc := 14) (v := (0 : Int32)) o d_M_output_14 (by decide) ?_
  refine gw_callV (pc := 15) (b := τ.2.2 81) (As := [.int s1, .int (0 : Int32)]) (st := []) o (ct_M_fails o.hD h) mi_M_fails q_619 q_621 qs_29 0 rfl rfl (xRo_of (by omega) (by decide)) rfl rfl (Nat.le_of_ble_eq_true rfl) d_M_output_15 (kk_1_i rfl (fun r15 M_15 h => ?_))
  refine gw_if_eq (pc := 18) (tgt := 23) o d_M_output_18 (by decide) (fun hc => ?_) (fun hc => ?_)
  · have h := h.1 hc
    refine gw_aload_n (pc := 23) o d_M_output_23 rfl 0 rfl ?_
    refine gM_get_outputs (pc := 24) o q_551 d_M_output_24 ?_
    refine gw_bipush (pc := 27) (v := (6 : Int32)) o d_M_output_27 (by decide) ?_
    refine gw_icmp_ne (pc := 29) (tgt := 34) o d_M_output_29 (by decide) (fun hc => ?_) (fun hc => ?_)
    · have h := h.2 hc
      refine gw_aload_n (pc := 34) o d_M_output_34 rfl 0 rfl ?_
      refine gM_get_outputOf (pc := 35) o q_558 d_M_output_35 ?_
      refine gw_aload_n (pc := 38) o d_M_output_38 rfl 0 rfl ?_
      refine gM_get_outputs (pc := 39) o q_551 d_M_output_39 ?_
      refine gw_iload_n (pc := 42) o d_M_output_42 rfl 1 rfl ?_
      have hi := h.1
      have h := h.2
      refine gM_ast_outputOf (pc := 43) o hi d_M_output_43 (fun M_43 eM_43 => ?_)
      have h := h M_43 eM_43
      refine gw_aload_n (pc := 44) o d_M_output_44 rfl 0 rfl ?_
      refine gw_dup (pc := 45) o d_M_output_45 rfl ?_
      refine gM_get_outputs (pc := 46) o q_551 d_M_output_46 ?_
      refine gw_iconst (pc := 49) (v := (1 : Int32)) o d_M_output_49 (by decide) ?_
      refine gw_iadd (pc := 50) o d_M_output_50 ?_
      refine gM_put_outputs (pc := 51) o q_551 d_M_output_51 (fun M_51 eM_51 => ?_)
      have h := h M_51 eM_51
      refine gw_aload_n (pc := 54) o d_M_output_54 rfl 0 rfl ?_
      refine gw_iconst (pc := 55) (v := (0 : Int32)) o d_M_output_55 (by decide) ?_
      refine gM_put_explored (pc := 56) o q_560 (by decide) d_M_output_56 (fun M_56 eM_56 => ?_)
      have h := h M_56 eM_56
      refine gw_aload_n (pc := 59) o d_M_output_59 rfl 0 rfl ?_
      refine gM_get_outputs (pc := 60) o q_551 d_M_output_60 ?_
      exact gw_iret (pc := 63) o ⟨Nat.le_refl _, Nat.le_refl _⟩ (z1_i.mk h) d_M_output_63
    · have h := h.1 hc
      refine gw_iconst (pc := 32) (v := (-1 : Int32)) o d_M_output_32 (by decide) ?_
      exact gw_iret (pc := 33) o ⟨Nat.le_refl _, Nat.le_refl _⟩ (z1_i.mk h) d_M_output_33
  · have h := h.2 hc
    refine gw_iconst (pc := 21) (v := (0 : Int32)) o d_M_output_21 (by decide) ?_
    exact gw_iret (pc := 22) o ⟨Nat.le_refl _, Nat.le_refl _⟩ (z1_i.mk h) d_M_output_22
def M_output_b0 (Z : Int32 → xF → Prop) (M : xF) (J : (Nat → Int64)) (x1 : Int32) : Prop := w_M_isGate M J x1 (fun r3 => ((r3 = 0) → (M_output_b14 Z M J x1 (1 : Int32))) ∧ (¬ (r3 = 0) → (M_output_b14 Z M J x1 (0 : Int32))))
set_option maxRecDepth 10000 in
theorem wk_M_output_b0 {κ : Cx} {τ : xT} {Z : Int32 → xF → Prop} {M : xF} {J : (Nat → Int64)} {x1 : Int32} (o : OKc κ (wdM τ) 2 b_M_output "StateExplorerModel" (some .int) (xR 1)) (h : M_output_b0 Z M J x1) : GW κ (wdM τ) 2 (0, 0) (xMQ κ (wdM τ) (xR 1) (z1_i J Z)) (M, J) 0 [(0, .ref (τ.2.2 81)), (1, .int x1)] [] := by
  unfold M_output_b0 at h
  refine gw_aload_n (pc := 0) o d_M_output_0 rfl 0 rfl ?_
  refine gw_aload_n (pc := 1) o d_M_output_1 rfl 0 rfl ?_
  refine gw_iload_n (pc := 2) o d_M_output_2 rfl 1 rfl ?_
  refine gw_callV (pc := 3) (b := τ.2.2 81) (As := [.int x1]) (st := [.ref (τ.2.2 81)]) o (ct_M_isGate o.hD h) mi_M_isGate q_627 q_629 qs_30 0 rfl rfl (xRo_of (by omega) (by decide)) rfl rfl (Nat.le_of_ble_eq_true rfl) d_M_output_3 (kk_p_i rfl (fun r3 h => ?_))
  refine gw_if_ne (pc := 6) (tgt := 13) o d_M_output_6 (by decide) (fun hc => ?_) (fun hc => ?_)
  · have h := h.2 hc
    refine gw_iconst (pc := 13) (v := (0 : Int32)) o d_M_output_13 (by decide) ?_
    exact gw_sub (lv' := [(0, .ref (τ.2.2 81)), (1, .int x1)]) [0, 1] rfl (wk_M_output_b14 o h)
  · have h := h.1 hc
    refine gw_iconst (pc := 9) (v := (1 : Int32)) o d_M_output_9 (by decide) ?_
    refine gw_goto (pc := 10) (tgt := 14) o d_M_output_10 (by decide) ?_
    exact gw_sub (lv' := [(0, .ref (τ.2.2 81)), (1, .int x1)]) [0, 1] rfl (wk_M_output_b14 o h)
def w_M_output  (M : xF) (J : (Nat → Int64)) (x1 : Int32) (Z : Int32 → xF → Prop) : Prop := M_output_b0  Z M J x1
theorem ct_M_output {l : Launch} {τ : xT} {M : xF} {J : (Nat → Int64)} {x1 : Int32} {Z : Int32 → xF → Prop} (hD : xD (wdM τ)) (h : w_M_output  M J x1 Z) : CT l (wdM τ) y_M_output (.code y_M_output b_M_output 2 (some .int)) (xR 1) [.ref (τ.2.2 81), .int x1] (M, J) (z1_i J Z) := by
  subst_vars
  exact CT.of (by decide) (Nat.le_of_ble_eq_true rfl) hD (fun κ hl ha o => gw_sub (lv' := [(0, .ref (τ.2.2 81)), (1, .int x1)]) [0, 1] rfl (wk_M_output_b0 o h))
def M_clear_b0 (Z : Int32 → xF → Prop) (M : xF) (J : (Nat → Int64)) : Prop := ∀ M_2 : xF, M_2 = xs M 21 0 (0 : Int32) → (∀ x1_9 : Int32, x1_9 = M_2 21 1 → (∀ M_17 : xF, M_17 = xs M_2 21 5 (0 : Int32) → (∀ M_21 : xF, M_21 = xs M_17 21 4 (0 : Int32) → (∀ M_25 : xF, M_25 = xs M_21 21 3 (0 : Int32) → (∀ M_29 : xF, M_29 = xs M_25 21 2 (0 : Int32) → (∀ M_32 : xF, M_32 = xs M_29 21 1 (0 : Int32) → (∀ M_37 : xF, M_37 = xs M_32 21 14 (0 : Int32) → (Z x1_9 M_37))))))))
set_option maxRecDepth 10000 in
theorem wk_M_clear_b0 {κ : Cx} {τ : xT} {Z : Int32 → xF → Prop} {M : xF} {J : (Nat → Int64)} (o : OKc κ (wdM τ) 2 b_M_clear "StateExplorerModel" (some .int) (xR 0)) (h : M_clear_b0 Z M J) : GW κ (wdM τ) 2 (0, 0) (xMQ κ (wdM τ) (xR 0) (z1_i J Z)) (M, J) 0 [(0, .ref (τ.2.2 81))] [] := by
  unfold M_clear_b0 at h
  refine gw_aload_n (pc := 0) o d_M_clear_0 rfl 0 rfl ?_
  refine gw_iconst (pc := 1) (v := (0 : Int32)) o d_M_clear_1 (by decide) ?_
  refine gM_put_code (pc := 2) o q_546 d_M_clear_2 (fun M_2 eM_2 => ?_)
  have h := h M_2 eM_2
  refine gw_aload_n (pc := 5) o d_M_clear_5 rfl 0 rfl ?_
  refine gM_get_gates (pc := 6) o q_547 d_M_clear_6 ?_
  refine gw_topi (fun x1_9 ex1_9 => ?_)
  have h := h x1_9 ex1_9
  refine gw_istore_n (pc := 9) (lv' := [(1, .int x1_9), (0, .ref (τ.2.2 81))]) o d_M_clear_9 rfl (by decide) rfl ?_
  refine gw_aload_n (pc := 10) o d_M_clear_10 rfl 1 rfl ?_
  refine gw_aload_n (pc := 11) o d_M_clear_11 rfl 1 rfl ?_
  refine gw_aload_n (pc := 12) o d_M_clear_12 rfl 1 rfl ?_
  refine gw_aload_n (pc := 13) o d_M_clear_13 rfl 1 rfl ?_
  refine gw_aload_n (pc := 14) o d_M_clear_14 rfl 1 rfl ?_
  refine gw_iconst (pc := 15) (v := (0 : Int32)) o d_M_clear_15 (by decide) ?_
  refine gw_dup_x1 (pc := 16) o d_M_clear_16 rfl rfl ?_
  refine gM_put_outputs (pc := 17) o q_551 d_M_clear_17 (fun M_17 eM_17 => ?_)
  have h := h M_17 eM_17
  refine gw_dup_x1 (pc := 20) o d_M_clear_20 rfl rfl ?_
  refine gM_put_latches (pc := 21) o q_550 d_M_clear_21 (fun M_21 eM_21 => ?_)
  have h := h M_21 eM_21
  refine gw_dup_x1 (pc := 24) o d_M_clear_24 rfl rfl ?_
  refine gM_put_inputs (pc := 25) o q_549 d_M_clear_25 (fun M_25 eM_25 => ?_)
  have h := h M_25 eM_25
  refine gw_dup_x1 (pc := 28) o d_M_clear_28 rfl rfl ?_
  refine gM_put_feeds (pc := 29) o q_548 d_M_clear_29 (fun M_29 eM_29 => ?_)
  have h := h M_29 eM_29
  refine gM_put_gates (pc := 32) o q_547 d_M_clear_32 (fun M_32 eM_32 => ?_)
  have h := h M_32 eM_32
  refine gw_aload_n (pc := 35) o d_M_clear_35 rfl 1 rfl ?_
  refine gw_iconst (pc := 36) (v := (0 : Int32)) o d_M_clear_36 (by decide) ?_
  refine gM_put_explored (pc := 37) o q_560 (by decide) d_M_clear_37 (fun M_37 eM_37 => ?_)
  have h := h M_37 eM_37
  refine gw_iload_n (pc := 40) o d_M_clear_40 rfl 0 rfl ?_
  exact gw_iret (pc := 41) o ⟨Nat.le_refl _, Nat.le_refl _⟩ (z1_i.mk h) d_M_clear_41
def w_M_clear  (M : xF) (J : (Nat → Int64))  (Z : Int32 → xF → Prop) : Prop := M_clear_b0  Z M J
theorem ct_M_clear {l : Launch} {τ : xT} {M : xF} {J : (Nat → Int64)}  {Z : Int32 → xF → Prop} (hD : xD (wdM τ)) (h : w_M_clear  M J Z) : CT l (wdM τ) y_M_clear (.code y_M_clear b_M_clear 2 (some .int)) (xR 0) [.ref (τ.2.2 81)] (M, J) (z1_i J Z) := by
  subst_vars
  exact CT.of (by decide) (Nat.le_of_ble_eq_true rfl) hD (fun κ hl ha o => gw_sub (lv' := [(0, .ref (τ.2.2 81))]) [0] rfl (wk_M_clear_b0 o h))
def M_taken_b33 (Z : Int32 → Prop) (M : xF) (J : (Nat → Int64)) (s0 : Int32) : Prop := Z s0
set_option maxRecDepth 10000 in
theorem wk_M_taken_b33 {κ : Cx} {τ : xT} {Z : Int32 → Prop} {M : xF} {J : (Nat → Int64)} {s0 : Int32} (o : OKc κ (wdM τ) 3 b_M_taken "StateExplorerModel" (some .int) (xR 0)) (h : M_taken_b33 Z M J s0) : GW κ (wdM τ) 3 (0, 0) (xMQ κ (wdM τ) (xR 0) (zp_i (M, J) Z)) (M, J) 33 [] [.int s0] := by
  unfold M_taken_b33 at h
  exact gw_iret (pc := 33) o ⟨Nat.le_refl _, Nat.le_refl _⟩ (zp_i.mk h) d_M_taken_33
def M_taken_b26 (Z : Int32 → Prop) (M : xF) (J : (Nat → Int64)) (x2 : Int32) : Prop := M_taken_b33 Z M J x2
set_option maxRecDepth 10000 in
theorem wk_M_taken_b26 {κ : Cx} {τ : xT} {Z : Int32 → Prop} {M : xF} {J : (Nat → Int64)} {x2 : Int32} (o : OKc κ (wdM τ) 3 b_M_taken "StateExplorerModel" (some .int) (xR 0)) (h : M_taken_b26 Z M J x2) : GW κ (wdM τ) 3 (0, 0) (xMQ κ (wdM τ) (xR 0) (zp_i (M, J) Z)) (M, J) 26 [(2, .int x2)] [] := by
  unfold M_taken_b26 at h
  refine gw_iload_n (pc := 26) o d_M_taken_26 rfl 0 rfl ?_
  refine gw_goto (pc := 27) (tgt := 33) o d_M_taken_27 (by decide) ?_
  exact gw_sub (lv' := []) [] rfl (wk_M_taken_b33 o h)
def M_taken_b0 (Z : Int32 → Prop) (M : xF) (J : (Nat → Int64)) (x1 : Int32) : Prop := vp_in x1 240 ∧ (vp_in (M 11 x1.toNatClampNeg) 60 ∧ (∀ x2_11 : Int32, x2_11 = M 8 (M 11 x1.toNatClampNeg).toNatClampNeg → (((x2_11 = (2 : Int32)) → (M_taken_b26 Z M J x2_11)) ∧ (¬ (x2_11 = (2 : Int32)) → (vp_in x1 240 ∧ ((((M 13 x1.toNatClampNeg) = 0) → (M_taken_b26 Z M J x2_11)) ∧ (¬ ((M 13 x1.toNatClampNeg) = 0) → (M_taken_b33 Z M J ((1 : Int32) - x2_11)))))))))
set_option maxRecDepth 10000 in
theorem wk_M_taken_b0 {κ : Cx} {τ : xT} {Z : Int32 → Prop} {M : xF} {J : (Nat → Int64)} {x1 : Int32} (o : OKc κ (wdM τ) 3 b_M_taken "StateExplorerModel" (some .int) (xR 0)) (h : M_taken_b0 Z M J x1) : GW κ (wdM τ) 3 (0, 0) (xMQ κ (wdM τ) (xR 0) (zp_i (M, J) Z)) (M, J) 0 [(0, .ref (τ.2.2 81)), (1, .int x1)] [] := by
  unfold M_taken_b0 at h
  refine gw_aload_n (pc := 0) o d_M_taken_0 rfl 0 rfl ?_
  refine gM_get_value (pc := 1) o q_554 d_M_taken_1 ?_
  refine gw_aload_n (pc := 4) o d_M_taken_4 rfl 0 rfl ?_
  refine gM_get_from (pc := 5) o q_557 d_M_taken_5 ?_
  refine gw_iload_n (pc := 8) o d_M_taken_8 rfl 1 rfl ?_
  have hi := h.1
  have h := h.2
  refine gM_ald_from (pc := 9) o hi d_M_taken_9 ?_
  have hi := h.1
  have h := h.2
  refine gM_ald_value (pc := 10) o hi d_M_taken_10 ?_
  refine gw_topi (fun x2_11 ex2_11 => ?_)
  have h := h x2_11 ex2_11
  refine gw_istore_n (pc := 11) (lv' := [(2, .int x2_11), (0, .ref (τ.2.2 81)), (1, .int x1)]) o d_M_taken_11 rfl (by decide) rfl ?_
  refine gw_iload_n (pc := 12) o d_M_taken_12 rfl 0 rfl ?_
  refine gw_iconst (pc := 13) (v := (2 : Int32)) o d_M_taken_13 (by decide) ?_
  refine gw_icmp_eq (pc := 14) (tgt := 26) o d_M_taken_14 (by decide) (fun hc => ?_) (fun hc => ?_)
  · have h := h.1 hc
    exact gw_sub (lv' := [(2, .int x2_11)]) [0] rfl (wk_M_taken_b26 o h)
  · have h := h.2 hc
    refine gw_aload_n (pc := 17) o d_M_taken_17 rfl 1 rfl ?_
    refine gM_get_negated (pc := 18) o q_559 d_M_taken_18 ?_
    refine gw_iload_n (pc := 21) o d_M_taken_21 rfl 2 rfl ?_
    have hi := h.1
    have h := h.2
    refine gM_ald_negated (pc := 22) o hi d_M_taken_22 ?_
    refine gw_if_ne (pc := 23) (tgt := 30) o d_M_taken_23 (by decide) (fun hc => ?_) (fun hc => ?_)
    · have h := h.2 hc
      refine gw_iconst (pc := 30) (v := (1 : Int32)) o d_M_taken_30 (by decide) ?_
      refine gw_iload_n (pc := 31) o d_M_taken_31 rfl 0 rfl ?_
      refine gw_isub (pc := 32) o d_M_taken_32 ?_
      exact gw_sub (lv' := []) [] rfl (wk_M_taken_b33 o h)
    · have h := h.1 hc
      exact gw_sub (lv' := [(2, .int x2_11)]) [0] rfl (wk_M_taken_b26 o h)
def w_M_taken  (M : xF) (J : (Nat → Int64)) (x1 : Int32) (Z : Int32 → Prop) : Prop := M_taken_b0  Z M J x1
theorem ct_M_taken {l : Launch} {τ : xT} {M : xF} {J : (Nat → Int64)} {x1 : Int32} {Z : Int32 → Prop} (hD : xD (wdM τ)) (h : w_M_taken  M J x1 Z) : CT l (wdM τ) y_M_taken (.code y_M_taken b_M_taken 3 (some .int)) (xR 0) [.ref (τ.2.2 81), .int x1] (M, J) (zp_i (M, J) Z) := by
  subst_vars
  exact CT.of (by decide) (Nat.le_of_ble_eq_true rfl) hD (fun κ hl ha o => gw_sub (lv' := [(0, .ref (τ.2.2 81)), (1, .int x1)]) [0, 1] rfl (wk_M_taken_b0 o h))
