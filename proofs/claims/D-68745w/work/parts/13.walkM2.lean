/-! walks, printed by mk.py -/
def M_again_b32 (Z : Int32 → xF → Prop) (k4 : Int32 → xF → Prop) (M : xF) (J : (Nat → Int64)) (x1 : Int32) (x2 : Int32) (s1 : Int32) (s2 : Int32) : Prop := vp_in s1 60 ∧ (∀ M_32 : xF, M_32 = xs M 9 s1.toNatClampNeg s2 → (∀ x2_33 : Int32, x2_33 = x2 + (1 : Int32) → (k4 x2_33 M_32)))
set_option maxRecDepth 10000 in
theorem wk_M_again_b32 {κ : Cx} {τ : xT} {Z : Int32 → xF → Prop} {k4 : Int32 → xF → Prop} {M : xF} {J : (Nat → Int64)} {x1 : Int32} {x2 : Int32} {s1 : Int32} {s2 : Int32} (o : OKc κ (wdM τ) 6 b_M_again "StateExplorerModel" (some .boolean) (xR 1)) (hk4 : ∀ (x2 : Int32) (M : xF), k4 x2 M → GW κ (wdM τ) 6 (0, 0) (xMQ κ (wdM τ) (xR 1) (z1_i J Z)) (M, J) 4 [(0, .ref (τ.2.2 81)), (1, .int x1), (2, .int x2)] []) (h : M_again_b32 Z k4 M J x1 x2 s1 s2) : GW κ (wdM τ) 6 (0, 0) (xMQ κ (wdM τ) (xR 1) (z1_i J Z)) (M, J) 32 [(0, .ref (τ.2.2 81)), (1, .int x1), (2, .int x2)] [.int s2, .int s1, .ref (τ.2.2 69)] := by
  unfold M_again_b32 at h
  have hi := h.1
  have h := h.2
  refine gM_ast_made (pc := 32) o hi d_M_again_32 (fun M_32 eM_32 => ?_)
  have h := h M_32 eM_32
  refine gw_iincN (pc := 33) (c := (1 : Int32)) (lw := fun x2_33 => [(2, .int x2_33), (0, .ref (τ.2.2 81)), (1, .int x1)]) o d_M_again_33 (by decide) 2 rfl (by decide) (fun _ => rfl) (fun x2_33 ex2_33 => ?_)
  have h := h x2_33 ex2_33
  refine gw_goto (pc := 36) (tgt := 4) o d_M_again_36 (by decide) ?_
  exact gw_sub (lv' := [(0, .ref (τ.2.2 81)), (1, .int x1), (2, .int x2_33)]) [1, 2, 0] rfl (hk4 _ _ h)
def M_again_b119 (Z : Int32 → xF → Prop) (k41 : Int32 → xF → Prop) (M : xF) (J : (Nat → Int64)) (x1 : Int32) (x2 : Int32) : Prop := ∀ x2_119 : Int32, x2_119 = x2 + (1 : Int32) → (k41 x2_119 M)
set_option maxRecDepth 10000 in
theorem wk_M_again_b119 {κ : Cx} {τ : xT} {Z : Int32 → xF → Prop} {k41 : Int32 → xF → Prop} {M : xF} {J : (Nat → Int64)} {x1 : Int32} {x2 : Int32} (o : OKc κ (wdM τ) 6 b_M_again "StateExplorerModel" (some .boolean) (xR 1)) (hk41 : ∀ (x2 : Int32) (M : xF), k41 x2 M → GW κ (wdM τ) 6 (0, 0) (xMQ κ (wdM τ) (xR 1) (z1_i J Z)) (M, J) 41 [(0, .ref (τ.2.2 81)), (1, .int x1), (2, .int x2)] []) (h : M_again_b119 Z k41 M J x1 x2) : GW κ (wdM τ) 6 (0, 0) (xMQ κ (wdM τ) (xR 1) (z1_i J Z)) (M, J) 119 [(0, .ref (τ.2.2 81)), (1, .int x1), (2, .int x2)] [] := by
  unfold M_again_b119 at h
  refine gw_iincN (pc := 119) (c := (1 : Int32)) (lw := fun x2_119 => [(2, .int x2_119), (0, .ref (τ.2.2 81)), (1, .int x1)]) o d_M_again_119 (by decide) 2 rfl (by decide) (fun _ => rfl) (fun x2_119 ex2_119 => ?_)
  have h := h x2_119 ex2_119
  refine gw_goto (pc := 122) (tgt := 41) o d_M_again_122 (by decide) ?_
  exact gw_sub (lv' := [(0, .ref (τ.2.2 81)), (1, .int x1), (2, .int x2_119)]) [1, 2, 0] rfl (hk41 _ _ h)
def M_again_b95 (Z : Int32 → xF → Prop) (k41 : Int32 → xF → Prop) (M : xF) (J : (Nat → Int64)) (x1 : Int32) (x2 : Int32) (x3 : Int32) (x4 : Int32) (x5 : Int32) : Prop := ((x5 = (2 : Int32)) → (vp_in x3 60 ∧ ((((M 9 x3.toNatClampNeg) = x4) → (M_again_b119 Z k41 M J x1 x2)) ∧ (¬ ((M 9 x3.toNatClampNeg) = x4) → (vp_in x3 60 ∧ (∀ M_118 : xF, M_118 = xs M 9 x3.toNatClampNeg (2 : Int32) → (M_again_b119 Z k41 M_118 J x1 x2))))))) ∧ (¬ (x5 = (2 : Int32)) → (M_again_b119 Z k41 M J x1 x2))
set_option maxRecDepth 10000 in
theorem wk_M_again_b95 {κ : Cx} {τ : xT} {Z : Int32 → xF → Prop} {k41 : Int32 → xF → Prop} {M : xF} {J : (Nat → Int64)} {x1 : Int32} {x2 : Int32} {x3 : Int32} {x4 : Int32} {x5 : Int32} (o : OKc κ (wdM τ) 6 b_M_again "StateExplorerModel" (some .boolean) (xR 1)) (hk41 : ∀ (x2 : Int32) (M : xF), k41 x2 M → GW κ (wdM τ) 6 (0, 0) (xMQ κ (wdM τ) (xR 1) (z1_i J Z)) (M, J) 41 [(0, .ref (τ.2.2 81)), (1, .int x1), (2, .int x2)] []) (h : M_again_b95 Z k41 M J x1 x2 x3 x4 x5) : GW κ (wdM τ) 6 (0, 0) (xMQ κ (wdM τ) (xR 1) (z1_i J Z)) (M, J) 95 [(0, .ref (τ.2.2 81)), (1, .int x1), (2, .int x2), (3, .int x3), (4, .int x4), (5, .int x5)] [] := by
  unfold M_again_b95 at h
  refine gw_iload (pc := 95) o d_M_again_95 5 rfl ?_
  refine gw_iconst (pc := 97) (v := (2 : Int32)) o d_M_again_97 (by decide) ?_
  refine gw_icmp_ne (pc := 98) (tgt := 119) o d_M_again_98 (by decide) (fun hc => ?_) (fun hc => ?_)
  · have h := h.2 hc
    exact gw_sub (lv' := [(0, .ref (τ.2.2 81)), (1, .int x1), (2, .int x2)]) [0, 1, 2] rfl (wk_M_again_b119 o hk41 h)
  · have h := h.1 hc
    refine gw_aload_n (pc := 101) o d_M_again_101 rfl 0 rfl ?_
    refine gM_get_made (pc := 102) o q_555 d_M_again_102 ?_
    refine gw_iload_n (pc := 105) o d_M_again_105 rfl 3 rfl ?_
    have hi := h.1
    have h := h.2
    refine gM_ald_made (pc := 106) o hi d_M_again_106 ?_
    refine gw_iload (pc := 107) o d_M_again_107 4 rfl ?_
    refine gw_icmp_eq (pc := 109) (tgt := 119) o d_M_again_109 (by decide) (fun hc => ?_) (fun hc => ?_)
    · have h := h.1 hc
      exact gw_sub (lv' := [(0, .ref (τ.2.2 81)), (1, .int x1), (2, .int x2)]) [0, 1, 2] rfl (wk_M_again_b119 o hk41 h)
    · have h := h.2 hc
      refine gw_aload_n (pc := 112) o d_M_again_112 rfl 0 rfl ?_
      refine gM_get_made (pc := 113) o q_555 d_M_again_113 ?_
      refine gw_iload_n (pc := 116) o d_M_again_116 rfl 3 rfl ?_
      refine gw_iconst (pc := 117) (v := (2 : Int32)) o d_M_again_117 (by decide) ?_
      have hi := h.1
      have h := h.2
      refine gM_ast_made (pc := 118) o hi d_M_again_118 (fun M_118 eM_118 => ?_)
      have h := h M_118 eM_118
      exact gw_sub (lv' := [(0, .ref (τ.2.2 81)), (1, .int x1), (2, .int x2)]) [0, 1, 2] rfl (wk_M_again_b119 o hk41 h)
def M_again_b71 (Z : Int32 → xF → Prop) (k41 : Int32 → xF → Prop) (M : xF) (J : (Nat → Int64)) (x1 : Int32) (x2 : Int32) (x3 : Int32) (s0 : Int32) : Prop := w_M_taken M J x2 (fun r75 => ((r75 = s0) → (vp_in x3 60 ∧ (∀ M_94 : xF, M_94 = xs M 9 x3.toNatClampNeg s0 → (M_again_b95 Z k41 M_94 J x1 x2 x3 s0 r75)))) ∧ (¬ (r75 = s0) → (M_again_b95 Z k41 M J x1 x2 x3 s0 r75)))
set_option maxRecDepth 10000 in
theorem wk_M_again_b71 {κ : Cx} {τ : xT} {Z : Int32 → xF → Prop} {k41 : Int32 → xF → Prop} {M : xF} {J : (Nat → Int64)} {x1 : Int32} {x2 : Int32} {x3 : Int32} {s0 : Int32} (o : OKc κ (wdM τ) 6 b_M_again "StateExplorerModel" (some .boolean) (xR 1)) (hk41 : ∀ (x2 : Int32) (M : xF), k41 x2 M → GW κ (wdM τ) 6 (0, 0) (xMQ κ (wdM τ) (xR 1) (z1_i J Z)) (M, J) 41 [(0, .ref (τ.2.2 81)), (1, .int x1), (2, .int x2)] []) (h : M_again_b71 Z k41 M J x1 x2 x3 s0) : GW κ (wdM τ) 6 (0, 0) (xMQ κ (wdM τ) (xR 1) (z1_i J Z)) (M, J) 71 [(0, .ref (τ.2.2 81)), (1, .int x1), (2, .int x2), (3, .int x3)] [.int s0] := by
  unfold M_again_b71 at h
  refine gw_istore (pc := 71) (lv' := [(4, .int s0), (0, .ref (τ.2.2 81)), (1, .int x1), (2, .int x2), (3, .int x3)]) o d_M_again_71 (by decide) rfl ?_
  refine gw_aload_n (pc := 73) o d_M_again_73 rfl 1 rfl ?_
  refine gw_iload_n (pc := 74) o d_M_again_74 rfl 3 rfl ?_
  refine gw_callV (pc := 75) (b := τ.2.2 81) (As := [.int x2]) (st := []) o (ct_M_taken o.hD h) mi_M_taken q_663 q_665 qs_36 0 rfl rfl (xRo_of (by omega) (by decide)) rfl rfl (Nat.le_of_ble_eq_true rfl) d_M_again_75 (kk_p_i rfl (fun r75 h => ?_))
  refine gw_istore (pc := 78) (lv' := [(5, .int r75), (4, .int s0), (0, .ref (τ.2.2 81)), (1, .int x1), (2, .int x2), (3, .int x3)]) o d_M_again_78 (by decide) rfl ?_
  refine gw_iload (pc := 80) o d_M_again_80 0 rfl ?_
  refine gw_iload (pc := 82) o d_M_again_82 1 rfl ?_
  refine gw_icmp_ne (pc := 84) (tgt := 95) o d_M_again_84 (by decide) (fun hc => ?_) (fun hc => ?_)
  · have h := h.2 hc
    exact gw_sub (lv' := [(0, .ref (τ.2.2 81)), (1, .int x1), (2, .int x2), (3, .int x3), (4, .int s0), (5, .int r75)]) [2, 3, 4, 5, 1, 0] rfl (wk_M_again_b95 o hk41 h)
  · have h := h.1 hc
    refine gw_aload_n (pc := 87) o d_M_again_87 rfl 2 rfl ?_
    refine gM_get_made (pc := 88) o q_555 d_M_again_88 ?_
    refine gw_iload_n (pc := 91) o d_M_again_91 rfl 5 rfl ?_
    refine gw_iload (pc := 92) o d_M_again_92 1 rfl ?_
    have hi := h.1
    have h := h.2
    refine gM_ast_made (pc := 94) o hi d_M_again_94 (fun M_94 eM_94 => ?_)
    have h := h M_94 eM_94
    exact gw_sub (lv' := [(0, .ref (τ.2.2 81)), (1, .int x1), (2, .int x2), (3, .int x3), (4, .int s0), (5, .int r75)]) [2, 3, 4, 5, 1, 0] rfl (wk_M_again_b95 o hk41 h)
def M_again_b209 (Z : Int32 → xF → Prop) (k127 : Int32 → Int32 → xF → Prop) (M : xF) (J : (Nat → Int64)) (x2 : Int32) (s0 : Int32) : Prop := ∀ x2_210 : Int32, x2_210 = x2 + (1 : Int32) → (k127 s0 x2_210 M)
set_option maxRecDepth 10000 in
theorem wk_M_again_b209 {κ : Cx} {τ : xT} {Z : Int32 → xF → Prop} {k127 : Int32 → Int32 → xF → Prop} {M : xF} {J : (Nat → Int64)} {x2 : Int32} {s0 : Int32} (o : OKc κ (wdM τ) 6 b_M_again "StateExplorerModel" (some .boolean) (xR 1)) (hk127 : ∀ (x1 : Int32) (x2 : Int32) (M : xF), k127 x1 x2 M → GW κ (wdM τ) 6 (0, 0) (xMQ κ (wdM τ) (xR 1) (z1_i J Z)) (M, J) 127 [(0, .ref (τ.2.2 81)), (1, .int x1), (2, .int x2)] []) (h : M_again_b209 Z k127 M J x2 s0) : GW κ (wdM τ) 6 (0, 0) (xMQ κ (wdM τ) (xR 1) (z1_i J Z)) (M, J) 209 [(0, .ref (τ.2.2 81)), (2, .int x2)] [.int s0] := by
  unfold M_again_b209 at h
  refine gw_istore_n (pc := 209) (lv' := [(1, .int s0), (0, .ref (τ.2.2 81)), (2, .int x2)]) o d_M_again_209 rfl (by decide) rfl ?_
  refine gw_iincN (pc := 210) (c := (1 : Int32)) (lw := fun x2_210 => [(2, .int x2_210), (1, .int s0), (0, .ref (τ.2.2 81))]) o d_M_again_210 (by decide) 2 rfl (by decide) (fun _ => rfl) (fun x2_210 ex2_210 => ?_)
  have h := h x2_210 ex2_210
  refine gw_goto (pc := 213) (tgt := 127) o d_M_again_213 (by decide) ?_
  exact gw_sub (lv' := [(0, .ref (τ.2.2 81)), (1, .int s0), (2, .int x2_210)]) [2, 1, 0] rfl (hk127 _ _ _ h)
def M_again_b195 (Z : Int32 → xF → Prop) (k127 : Int32 → Int32 → xF → Prop) (M : xF) (J : (Nat → Int64)) (x1 : Int32) (x2 : Int32) (x3 : Int32) (s1 : Int32) (s2 : Int32) : Prop := vp_in s1 60 ∧ (∀ M_195 : xF, M_195 = xs M 8 s1.toNatClampNeg s2 → (((x1 = 0) → (((x3 = 0) → (M_again_b209 Z k127 M_195 J x2 (0 : Int32))) ∧ (¬ (x3 = 0) → (M_again_b209 Z k127 M_195 J x2 (1 : Int32))))) ∧ (¬ (x1 = 0) → (M_again_b209 Z k127 M_195 J x2 (1 : Int32)))))
set_option maxRecDepth 10000 in
theorem wk_M_again_b195 {κ : Cx} {τ : xT} {Z : Int32 → xF → Prop} {k127 : Int32 → Int32 → xF → Prop} {M : xF} {J : (Nat → Int64)} {x1 : Int32} {x2 : Int32} {x3 : Int32} {s1 : Int32} {s2 : Int32} (o : OKc κ (wdM τ) 6 b_M_again "StateExplorerModel" (some .boolean) (xR 1)) (hk127 : ∀ (x1 : Int32) (x2 : Int32) (M : xF), k127 x1 x2 M → GW κ (wdM τ) 6 (0, 0) (xMQ κ (wdM τ) (xR 1) (z1_i J Z)) (M, J) 127 [(0, .ref (τ.2.2 81)), (1, .int x1), (2, .int x2)] []) (h : M_again_b195 Z k127 M J x1 x2 x3 s1 s2) : GW κ (wdM τ) 6 (0, 0) (xMQ κ (wdM τ) (xR 1) (z1_i J Z)) (M, J) 195 [(0, .ref (τ.2.2 81)), (1, .int x1), (2, .int x2), (3, .int x3)] [.int s2, .int s1, .ref (τ.2.2 68)] := by
  unfold M_again_b195 at h
  have hi := h.1
  have h := h.2
  refine gM_ast_value (pc := 195) o hi d_M_again_195 (fun M_195 eM_195 => ?_)
  have h := h M_195 eM_195
  refine gw_iload_n (pc := 196) o d_M_again_196 rfl 1 rfl ?_
  refine gw_if_ne (pc := 197) (tgt := 204) o d_M_again_197 (by decide) (fun hc => ?_) (fun hc => ?_)
  · have h := h.2 hc
    refine gw_iconst (pc := 204) (v := (1 : Int32)) o d_M_again_204 (by decide) ?_
    refine gw_goto (pc := 205) (tgt := 209) o d_M_again_205 (by decide) ?_
    exact gw_sub (lv' := [(0, .ref (τ.2.2 81)), (2, .int x2)]) [0, 2] rfl (wk_M_again_b209 o hk127 h)
  · have h := h.1 hc
    refine gw_iload_n (pc := 200) o d_M_again_200 rfl 3 rfl ?_
    refine gw_if_eq (pc := 201) (tgt := 208) o d_M_again_201 (by decide) (fun hc => ?_) (fun hc => ?_)
    · have h := h.1 hc
      refine gw_iconst (pc := 208) (v := (0 : Int32)) o d_M_again_208 (by decide) ?_
      exact gw_sub (lv' := [(0, .ref (τ.2.2 81)), (2, .int x2)]) [0, 2] rfl (wk_M_again_b209 o hk127 h)
    · have h := h.2 hc
      refine gw_iconst (pc := 204) (v := (1 : Int32)) o d_M_again_204 (by decide) ?_
      refine gw_goto (pc := 205) (tgt := 209) o d_M_again_205 (by decide) ?_
      exact gw_sub (lv' := [(0, .ref (τ.2.2 81)), (2, .int x2)]) [0, 2] rfl (wk_M_again_b209 o hk127 h)
def M_again_b170 (Z : Int32 → xF → Prop) (k127 : Int32 → Int32 → xF → Prop) (M : xF) (J : (Nat → Int64)) (x1 : Int32) (x2 : Int32) (s0 : Int32) : Prop := ((s0 = 0) → (vp_in x2 60 ∧ (M_again_b195 Z k127 M J x1 x2 s0 x2 (M 8 x2.toNatClampNeg)))) ∧ (¬ (s0 = 0) → (vp_in x2 60 ∧ (M_again_b195 Z k127 M J x1 x2 s0 x2 (M 9 x2.toNatClampNeg))))
set_option maxRecDepth 10000 in
theorem wk_M_again_b170 {κ : Cx} {τ : xT} {Z : Int32 → xF → Prop} {k127 : Int32 → Int32 → xF → Prop} {M : xF} {J : (Nat → Int64)} {x1 : Int32} {x2 : Int32} {s0 : Int32} (o : OKc κ (wdM τ) 6 b_M_again "StateExplorerModel" (some .boolean) (xR 1)) (hk127 : ∀ (x1 : Int32) (x2 : Int32) (M : xF), k127 x1 x2 M → GW κ (wdM τ) 6 (0, 0) (xMQ κ (wdM τ) (xR 1) (z1_i J Z)) (M, J) 127 [(0, .ref (τ.2.2 81)), (1, .int x1), (2, .int x2)] []) (h : M_again_b170 Z k127 M J x1 x2 s0) : GW κ (wdM τ) 6 (0, 0) (xMQ κ (wdM τ) (xR 1) (z1_i J Z)) (M, J) 170 [(0, .ref (τ.2.2 81)), (1, .int x1), (2, .int x2)] [.int s0] := by
  unfold M_again_b170 at h
  refine gw_istore_n (pc := 170) (lv' := [(3, .int s0), (0, .ref (τ.2.2 81)), (1, .int x1), (2, .int x2)]) o d_M_again_170 rfl (by decide) rfl ?_
  refine gw_aload_n (pc := 171) o d_M_again_171 rfl 1 rfl ?_
  refine gM_get_value (pc := 172) o q_554 d_M_again_172 ?_
  refine gw_iload_n (pc := 175) o d_M_again_175 rfl 3 rfl ?_
  refine gw_iload_n (pc := 176) o d_M_again_176 rfl 0 rfl ?_
  refine gw_if_eq (pc := 177) (tgt := 189) o d_M_again_177 (by decide) (fun hc => ?_) (fun hc => ?_)
  · have h := h.1 hc
    refine gw_aload_n (pc := 189) o d_M_again_189 rfl 1 rfl ?_
    refine gM_get_value (pc := 190) o q_554 d_M_again_190 ?_
    refine gw_iload_n (pc := 193) o d_M_again_193 rfl 3 rfl ?_
    have hi := h.1
    have h := h.2
    refine gM_ald_value (pc := 194) o hi d_M_again_194 ?_
    exact gw_sub (lv' := [(0, .ref (τ.2.2 81)), (1, .int x1), (2, .int x2), (3, .int s0)]) [1, 2, 3, 0] rfl (wk_M_again_b195 o hk127 h)
  · have h := h.2 hc
    refine gw_aload_n (pc := 180) o d_M_again_180 rfl 1 rfl ?_
    refine gM_get_made (pc := 181) o q_555 d_M_again_181 ?_
    refine gw_iload_n (pc := 184) o d_M_again_184 rfl 3 rfl ?_
    have hi := h.1
    have h := h.2
    refine gM_ald_made (pc := 185) o hi d_M_again_185 ?_
    refine gw_goto (pc := 186) (tgt := 195) o d_M_again_186 (by decide) ?_
    exact gw_sub (lv' := [(0, .ref (τ.2.2 81)), (1, .int x1), (2, .int x2), (3, .int s0)]) [1, 2, 3, 0] rfl (wk_M_again_b195 o hk127 h)
def M_again_b169 (Z : Int32 → xF → Prop) (k127 : Int32 → Int32 → xF → Prop) (M : xF) (J : (Nat → Int64)) (x1 : Int32) (x2 : Int32) : Prop := M_again_b170 Z k127 M J x1 x2 (0 : Int32)
set_option maxRecDepth 10000 in
theorem wk_M_again_b169 {κ : Cx} {τ : xT} {Z : Int32 → xF → Prop} {k127 : Int32 → Int32 → xF → Prop} {M : xF} {J : (Nat → Int64)} {x1 : Int32} {x2 : Int32} (o : OKc κ (wdM τ) 6 b_M_again "StateExplorerModel" (some .boolean) (xR 1)) (hk127 : ∀ (x1 : Int32) (x2 : Int32) (M : xF), k127 x1 x2 M → GW κ (wdM τ) 6 (0, 0) (xMQ κ (wdM τ) (xR 1) (z1_i J Z)) (M, J) 127 [(0, .ref (τ.2.2 81)), (1, .int x1), (2, .int x2)] []) (h : M_again_b169 Z k127 M J x1 x2) : GW κ (wdM τ) 6 (0, 0) (xMQ κ (wdM τ) (xR 1) (z1_i J Z)) (M, J) 169 [(0, .ref (τ.2.2 81)), (1, .int x1), (2, .int x2)] [] := by
  unfold M_again_b169 at h
  refine gw_iconst (pc := 169) (v := (0 : Int32)) o d_M_again_169 (by decide) ?_
  exact gw_sub (lv' := [(0, .ref (τ.2.2 81)), (1, .int x1), (2, .int x2)]) [0, 1, 2] rfl (wk_M_again_b170 o hk127 h)
def M_again_b127 (Z : Int32 → xF → Prop) (k127 : Int32 → Int32 → xF → Prop) (M : xF) (J : (Nat → Int64)) (x1 : Int32) (x2 : Int32) : Prop := (((M 21 1) ≤ x2) → ((x1 = 0 ∨ x1 = 1) ∧ (Z x1 M))) ∧ (¬ ((M 21 1) ≤ x2) → (vp_in x2 60 ∧ ((((M 6 x2.toNatClampNeg) < (2 : Int32)) → (M_again_b169 Z k127 M J x1 x2)) ∧ (¬ ((M 6 x2.toNatClampNeg) < (2 : Int32)) → (vp_in x2 60 ∧ ((((M 8 x2.toNatClampNeg) = (2 : Int32)) → (vp_in x2 60 ∧ ((((M 9 x2.toNatClampNeg) = (2 : Int32)) → (M_again_b169 Z k127 M J x1 x2)) ∧ (¬ ((M 9 x2.toNatClampNeg) = (2 : Int32)) → (M_again_b170 Z k127 M J x1 x2 (1 : Int32)))))) ∧ (¬ ((M 8 x2.toNatClampNeg) = (2 : Int32)) → (M_again_b169 Z k127 M J x1 x2))))))))
set_option maxRecDepth 10000 in
theorem wk_M_again_b127 {κ : Cx} {τ : xT} {Z : Int32 → xF → Prop} {k127 : Int32 → Int32 → xF → Prop} {M : xF} {J : (Nat → Int64)} {x1 : Int32} {x2 : Int32} (o : OKc κ (wdM τ) 6 b_M_again "StateExplorerModel" (some .boolean) (xR 1)) (hk127 : ∀ (x1 : Int32) (x2 : Int32) (M : xF), k127 x1 x2 M → GW κ (wdM τ) 6 (0, 0) (xMQ κ (wdM τ) (xR 1) (z1_i J Z)) (M, J) 127 [(0, .ref (τ.2.2 81)), (1, .int x1), (2, .int x2)] []) (h : M_again_b127 Z k127 M J x1 x2) : GW κ (wdM τ) 6 (0, 0) (xMQ κ (wdM τ) (xR 1) (z1_i J Z)) (M, J) 127 [(0, .ref (τ.2.2 81)), (1, .int x1), (2, .int x2)] [] := by
  unfold M_again_b127 at h
  refine gw_iload_n (pc := 127) o d_M_again_127 rfl 2 rfl ?_
  refine gw_aload_n (pc := 128) o d_M_again_128 rfl 0 rfl ?_
  refine gM_get_gates (pc := 129) o q_547 d_M_again_129 ?_
  refine gw_icmp_ge (pc := 132) (tgt := 216) o d_M_again_132 (by decide) (fun hc => ?_) (fun hc => ?_)
  · have h := h.1 hc
    refine gw_iload_n (pc := 216) o d_M_again_216 rfl 1 rfl ?_
    exact gw_zret (pc := 217) o ⟨Nat.le_refl _, Nat.le_refl _⟩ h.1 (z1_i.mk h.2) d_M_again_217
  · have h := h.2 hc
    refine gw_aload_n (pc := 135) o d_M_again_135 rfl 0 rfl ?_
    refine gM_get_sort (pc := 136) o q_552 d_M_again_136 ?_
    refine gw_iload_n (pc := 139) o d_M_again_139 rfl 2 rfl ?_
    have hi := h.1
    have h := h.2
    refine gM_ald_sort (pc := 140) o hi d_M_again_140 ?_
    refine gw_iconst (pc := 141) (v := (2 : Int32)) o d_M_again_141 (by decide) ?_
    refine gw_icmp_lt (pc := 142) (tgt := 169) o d_M_again_142 (by decide) (fun hc => ?_) (fun hc => ?_)
    · have h := h.1 hc
      exact gw_sub (lv' := [(0, .ref (τ.2.2 81)), (1, .int x1), (2, .int x2)]) [0, 1, 2] rfl (wk_M_again_b169 o hk127 h)
    · have h := h.2 hc
      refine gw_aload_n (pc := 145) o d_M_again_145 rfl 0 rfl ?_
      refine gM_get_value (pc := 146) o q_554 d_M_again_146 ?_
      refine gw_iload_n (pc := 149) o d_M_again_149 rfl 2 rfl ?_
      have hi := h.1
      have h := h.2
      refine gM_ald_value (pc := 150) o hi d_M_again_150 ?_
      refine gw_iconst (pc := 151) (v := (2 : Int32)) o d_M_again_151 (by decide) ?_
      refine gw_icmp_ne (pc := 152) (tgt := 169) o d_M_again_152 (by decide) (fun hc => ?_) (fun hc => ?_)
      · have h := h.2 hc
        exact gw_sub (lv' := [(0, .ref (τ.2.2 81)), (1, .int x1), (2, .int x2)]) [0, 1, 2] rfl (wk_M_again_b169 o hk127 h)
      · have h := h.1 hc
        refine gw_aload_n (pc := 155) o d_M_again_155 rfl 0 rfl ?_
        refine gM_get_made (pc := 156) o q_555 d_M_again_156 ?_
        refine gw_iload_n (pc := 159) o d_M_again_159 rfl 2 rfl ?_
        have hi := h.1
        have h := h.2
        refine gM_ald_made (pc := 160) o hi d_M_again_160 ?_
        refine gw_iconst (pc := 161) (v := (2 : Int32)) o d_M_again_161 (by decide) ?_
        refine gw_icmp_eq (pc := 162) (tgt := 169) o d_M_again_162 (by decide) (fun hc => ?_) (fun hc => ?_)
        · have h := h.1 hc
          exact gw_sub (lv' := [(0, .ref (τ.2.2 81)), (1, .int x1), (2, .int x2)]) [0, 1, 2] rfl (wk_M_again_b169 o hk127 h)
        · have h := h.2 hc
          refine gw_iconst (pc := 165) (v := (1 : Int32)) o d_M_again_165 (by decide) ?_
          refine gw_goto (pc := 166) (tgt := 170) o d_M_again_166 (by decide) ?_
          exact gw_sub (lv' := [(0, .ref (τ.2.2 81)), (1, .int x1), (2, .int x2)]) [0, 1, 2] rfl (wk_M_again_b170 o hk127 h)
def M_again_L127 (Z : Int32 → xF → Prop) (M : xF) (J : (Nat → Int64)) (x1 : Int32) (x2 : Int32) : Prop := LOOP3 (fun k127 x1 x2 M => M_again_b127 Z k127 M J x1 x2) x1 x2 M
theorem wk_M_again_L127 {κ : Cx} {τ : xT} {Z : Int32 → xF → Prop} {M : xF} {J : (Nat → Int64)} {x1 : Int32} {x2 : Int32} (o : OKc κ (wdM τ) 6 b_M_again "StateExplorerModel" (some .boolean) (xR 1)) (h : M_again_L127 Z M J x1 x2) : GW κ (wdM τ) 6 (0, 0) (xMQ κ (wdM τ) (xR 1) (z1_i J Z)) (M, J) 127 [(0, .ref (τ.2.2 81)), (1, .int x1), (2, .int x2)] [] := by
  unfold M_again_L127 at h
  exact LOOP3.use (G := fun x1 x2 M => GW κ (wdM τ) 6 (0, 0) (xMQ κ (wdM τ) (xR 1) (z1_i J Z)) (M, J) 127 [(0, .ref (τ.2.2 81)), (1, .int x1), (2, .int x2)] []) (fun k127 x1 x2 M hk127 h => wk_M_again_b127 o hk127 h) h
def M_again_b41 (Z : Int32 → xF → Prop) (k41 : Int32 → xF → Prop) (M : xF) (J : (Nat → Int64)) (x1 : Int32) (x2 : Int32) : Prop := (((M 21 2) ≤ x2) → (M_again_L127 Z M J x1 (0 : Int32))) ∧ (¬ ((M 21 2) ≤ x2) → (vp_in x2 240 ∧ (∀ x3_55 : Int32, x3_55 = M 10 x2.toNatClampNeg → (vp_in x3_55 60 ∧ ((((M 6 x3_55.toNatClampNeg) = (2 : Int32)) → (M_again_b71 Z k41 M J x1 x2 x3_55 (0 : Int32))) ∧ (¬ ((M 6 x3_55.toNatClampNeg) = (2 : Int32)) → (M_again_b71 Z k41 M J x1 x2 x3_55 (1 : Int32))))))))
set_option maxRecDepth 10000 in
theorem wk_M_again_b41 {κ : Cx} {τ : xT} {Z : Int32 → xF → Prop} {k41 : Int32 → xF → Prop} {M : xF} {J : (Nat → Int64)} {x1 : Int32} {x2 : Int32} (o : OKc κ (wdM τ) 6 b_M_again "StateExplorerModel" (some .boolean) (xR 1)) (hk41 : ∀ (x2 : Int32) (M : xF), k41 x2 M → GW κ (wdM τ) 6 (0, 0) (xMQ κ (wdM τ) (xR 1) (z1_i J Z)) (M, J) 41 [(0, .ref (τ.2.2 81)), (1, .int x1), (2, .int x2)] []) (h : M_again_b41 Z k41 M J x1 x2) : GW κ (wdM τ) 6 (0, 0) (xMQ κ (wdM τ) (xR 1) (z1_i J Z)) (M, J) 41 [(0, .ref (τ.2.2 81)), (1, .int x1), (2, .int x2)] [] := by
  unfold M_again_b41 at h
  refine gw_iload_n (pc := 41) o d_M_again_41 rfl 2 rfl ?_
  refine gw_aload_n (pc := 42) o d_M_again_42 rfl 0 rfl ?_
  refine gM_get_feeds (pc := 43) o q_548 d_M_again_43 ?_
  refine gw_icmp_ge (pc := 46) (tgt := 125) o d_M_again_46 (by decide) (fun hc => ?_) (fun hc => ?_)
  · have h := h.1 hc
    refine gw_iconst (pc := 125) (v := (0 : Int32)) o d_M_again_125 (by decide) ?_
    refine gw_istore_n (pc := 126) (lv' := [(2, .int (0 : Int32)), (0, .ref (τ.2.2 81)), (1, .int x1)]) o d_M_again_126 rfl (by decide) rfl ?_
    exact gw_sub (lv' := [(0, .ref (τ.2.2 81)), (1, .int x1), (2, .int (0 : Int32))]) [1, 2, 0] rfl (wk_M_again_L127 o h)
  · have h := h.2 hc
    refine gw_aload_n (pc := 49) o d_M_again_49 rfl 0 rfl ?_
    refine gM_get_to (pc := 50) o q_556 d_M_again_50 ?_
    refine gw_iload_n (pc := 53) o d_M_again_53 rfl 2 rfl ?_
    have hi := h.1
    have h := h.2
    refine gM_ald_to (pc := 54) o hi d_M_again_54 ?_
    refine gw_topi (fun x3_55 ex3_55 => ?_)
    have h := h x3_55 ex3_55
    refine gw_istore_n (pc := 55) (lv' := [(3, .int x3_55), (0, .ref (τ.2.2 81)), (1, .int x1), (2, .int x2)]) o d_M_again_55 rfl (by decide) rfl ?_
    refine gw_aload_n (pc := 56) o d_M_again_56 rfl 1 rfl ?_
    refine gM_get_sort (pc := 57) o q_552 d_M_again_57 ?_
    refine gw_iload_n (pc := 60) o d_M_again_60 rfl 0 rfl ?_
    have hi := h.1
    have h := h.2
    refine gM_ald_sort (pc := 61) o hi d_M_again_61 ?_
    refine gw_iconst (pc := 62) (v := (2 : Int32)) o d_M_again_62 (by decide) ?_
    refine gw_icmp_ne (pc := 63) (tgt := 70) o d_M_again_63 (by decide) (fun hc => ?_) (fun hc => ?_)
    · have h := h.2 hc
      refine gw_iconst (pc := 70) (v := (1 : Int32)) o d_M_again_70 (by decide) ?_
      exact gw_sub (lv' := [(0, .ref (τ.2.2 81)), (1, .int x1), (2, .int x2), (3, .int x3_55)]) [1, 2, 3, 0] rfl (wk_M_again_b71 o hk41 h)
    · have h := h.1 hc
      refine gw_iconst (pc := 66) (v := (0 : Int32)) o d_M_again_66 (by decide) ?_
      refine gw_goto (pc := 67) (tgt := 71) o d_M_again_67 (by decide) ?_
      exact gw_sub (lv' := [(0, .ref (τ.2.2 81)), (1, .int x1), (2, .int x2), (3, .int x3_55)]) [1, 2, 3, 0] rfl (wk_M_again_b71 o hk41 h)
def M_again_L41 (Z : Int32 → xF → Prop) (M : xF) (J : (Nat → Int64)) (x1 : Int32) (x2 : Int32) : Prop := LOOP2 (fun k41 x2 M => M_again_b41 Z k41 M J x1 x2) x2 M
theorem wk_M_again_L41 {κ : Cx} {τ : xT} {Z : Int32 → xF → Prop} {M : xF} {J : (Nat → Int64)} {x1 : Int32} {x2 : Int32} (o : OKc κ (wdM τ) 6 b_M_again "StateExplorerModel" (some .boolean) (xR 1)) (h : M_again_L41 Z M J x1 x2) : GW κ (wdM τ) 6 (0, 0) (xMQ κ (wdM τ) (xR 1) (z1_i J Z)) (M, J) 41 [(0, .ref (τ.2.2 81)), (1, .int x1), (2, .int x2)] [] := by
  unfold M_again_L41 at h
  exact LOOP2.use (G := fun x2 M => GW κ (wdM τ) 6 (0, 0) (xMQ κ (wdM τ) (xR 1) (z1_i J Z)) (M, J) 41 [(0, .ref (τ.2.2 81)), (1, .int x1), (2, .int x2)] []) (fun k41 x2 M hk41 h => wk_M_again_b41 o hk41 h) h
def M_again_b4 (Z : Int32 → xF → Prop) (k4 : Int32 → xF → Prop) (M : xF) (J : (Nat → Int64)) (x1 : Int32) (x2 : Int32) : Prop := (((M 21 1) ≤ x2) → (M_again_L41 Z M J x1 (0 : Int32))) ∧ (¬ ((M 21 1) ≤ x2) → (vp_in x2 60 ∧ ((((M 6 x2.toNatClampNeg) = (2 : Int32)) → (M_again_b32 Z k4 M J x1 x2 x2 (1 : Int32))) ∧ (¬ ((M 6 x2.toNatClampNeg) = (2 : Int32)) → (M_again_b32 Z k4 M J x1 x2 x2 (0 : Int32))))))
set_option maxRecDepth 10000 in
theorem wk_M_again_b4 {κ : Cx} {τ : xT} {Z : Int32 → xF → Prop} {k4 : Int32 → xF → Prop} {M : xF} {J : (Nat → Int64)} {x1 : Int32} {x2 : Int32} (o : OKc κ (wdM τ) 6 b_M_again "StateExplorerModel" (some .boolean) (xR 1)) (hk4 : ∀ (x2 : Int32) (M : xF), k4 x2 M → GW κ (wdM τ) 6 (0, 0) (xMQ κ (wdM τ) (xR 1) (z1_i J Z)) (M, J) 4 [(0, .ref (τ.2.2 81)), (1, .int x1), (2, .int x2)] []) (h : M_again_b4 Z k4 M J x1 x2) : GW κ (wdM τ) 6 (0, 0) (xMQ κ (wdM τ) (xR 1) (z1_i J Z)) (M, J) 4 [(0, .ref (τ.2.2 81)), (1, .int x1), (2, .int x2)] [] := by
  unfold M_again_b4 at h
  refine gw_iload_n (pc := 4) o d_M_again_4 rfl 2 rfl ?_
  refine gw_aload_n (pc := 5) o d_M_again_5 rfl 0 rfl ?_
  refine gM_get_gates (pc := 6) o q_547 d_M_again_6 ?_
  refine gw_icmp_ge (pc := 9) (tgt := 39) o d_M_again_9 (by decide) (fun hc => ?_) (fun hc => ?_)
  · have h := h.1 hc
    refine gw_iconst (pc := 39) (v := (0 : Int32)) o d_M_again_39 (by decide) ?_
    refine gw_istore_n (pc := 40) (lv' := [(2, .int (0 : Int32)), (0, .ref (τ.2.2 81)), (1, .int x1)]) o d_M_again_40 rfl (by decide) rfl ?_
    exact gw_sub (lv' := [(0, .ref (τ.2.2 81)), (1, .int x1), (2, .int (0 : Int32))]) [1, 2, 0] rfl (wk_M_again_L41 o h)
  · have h := h.2 hc
    refine gw_aload_n (pc := 12) o d_M_again_12 rfl 0 rfl ?_
    refine gM_get_made (pc := 13) o q_555 d_M_again_13 ?_
    refine gw_iload_n (pc := 16) o d_M_again_16 rfl 2 rfl ?_
    refine gw_aload_n (pc := 17) o d_M_again_17 rfl 0 rfl ?_
    refine gM_get_sort (pc := 18) o q_552 d_M_again_18 ?_
    refine gw_iload_n (pc := 21) o d_M_again_21 rfl 2 rfl ?_
    have hi := h.1
    have h := h.2
    refine gM_ald_sort (pc := 22) o hi d_M_again_22 ?_
    refine gw_iconst (pc := 23) (v := (2 : Int32)) o d_M_again_23 (by decide) ?_
    refine gw_icmp_ne (pc := 24) (tgt := 31) o d_M_again_24 (by decide) (fun hc => ?_) (fun hc => ?_)
    · have h := h.2 hc
      refine gw_iconst (pc := 31) (v := (0 : Int32)) o d_M_again_31 (by decide) ?_
      exact gw_sub (lv' := [(0, .ref (τ.2.2 81)), (1, .int x1), (2, .int x2)]) [0, 1, 2] rfl (wk_M_again_b32 o hk4 h)
    · have h := h.1 hc
      refine gw_iconst (pc := 27) (v := (1 : Int32)) o d_M_again_27 (by decide) ?_
      refine gw_goto (pc := 28) (tgt := 32) o d_M_again_28 (by decide) ?_
      exact gw_sub (lv' := [(0, .ref (τ.2.2 81)), (1, .int x1), (2, .int x2)]) [0, 1, 2] rfl (wk_M_again_b32 o hk4 h)
def M_again_L4 (Z : Int32 → xF → Prop) (M : xF) (J : (Nat → Int64)) (x1 : Int32) (x2 : Int32) : Prop := LOOP2 (fun k4 x2 M => M_again_b4 Z k4 M J x1 x2) x2 M
theorem wk_M_again_L4 {κ : Cx} {τ : xT} {Z : Int32 → xF → Prop} {M : xF} {J : (Nat → Int64)} {x1 : Int32} {x2 : Int32} (o : OKc κ (wdM τ) 6 b_M_again "StateExplorerModel" (some .boolean) (xR 1)) (h : M_again_L4 Z M J x1 x2) : GW κ (wdM τ) 6 (0, 0) (xMQ κ (wdM τ) (xR 1) (z1_i J Z)) (M, J) 4 [(0, .ref (τ.2.2 81)), (1, .int x1), (2, .int x2)] [] := by
  unfold M_again_L4 at h
  exact LOOP2.use (G := fun x2 M => GW κ (wdM τ) 6 (0, 0) (xMQ κ (wdM τ) (xR 1) (z1_i J Z)) (M, J) 4 [(0, .ref (τ.2.2 81)), (1, .int x1), (2, .int x2)] []) (fun k4 x2 M hk4 h => wk_M_again_b4 o hk4 h) h
def M_again_b0 (Z : Int32 → xF → Prop) (M : xF) (J : (Nat → Int64)) : Prop := M_again_L4 Z M J (0 : Int32) (0 : Int32)
set_option maxRecDepth 10000 in
theorem wk_M_again_b0 {κ : Cx} {τ : xT} {Z : Int32 → xF → Prop} {M : xF} {J : (Nat → Int64)} (o : OKc κ (wdM τ) 6 b_M_again "StateExplorerModel" (some .boolean) (xR 1)) (h : M_again_b0 Z M J) : GW κ (wdM τ) 6 (0, 0) (xMQ κ (wdM τ) (xR 1) (z1_i J Z)) (M, J) 0 [(0, .ref (τ.2.2 81))] [] := by
  unfold M_again_b0 at h
  refine gw_iconst (pc := 0) (v := (0 : Int32)) o d_M_again_0 (by decide) ?_
  refine gw_istore_n (pc := 1) (lv' := [(1, .int (0 : Int32)), (0, .ref (τ.2.2 81))]) o d_M_again_1 rfl (by decide) rfl ?_
  refine gw_iconst (pc := 2) (v := (0 : Int32)) o d_M_again_2 (by decide) ?_
  refine gw_istore_n (pc := 3) (lv' := [(2, .int (0 : Int32)), (1, .int (0 : Int32)), (0, .ref (τ.2.2 81))]) o d_M_again_3 rfl (by decide) rfl ?_
  exact gw_sub (lv' := [(0, .ref (τ.2.2 81)), (1, .int (0 : Int32)), (2, .int (0 : Int32))]) [2, 1, 0] rfl (wk_M_again_L4 o h)
def w_M_again  (M : xF) (J : (Nat → Int64))  (Z : Int32 → xF → Prop) : Prop := M_again_b0  Z M J
theorem ct_M_again {l : Launch} {τ : xT} {M : xF} {J : (Nat → Int64)}  {Z : Int32 → xF → Prop} (hD : xD (wdM τ)) (h : w_M_again  M J Z) : CT l (wdM τ) y_M_again (.code y_M_again b_M_again 6 (some .boolean)) (xR 1) [.ref (τ.2.2 81)] (M, J) (z1_i J Z) := by
  subst_vars
  exact CT.of (by decide) (Nat.le_of_ble_eq_true rfl) hD (fun κ hl ha o => gw_sub (lv' := [(0, .ref (τ.2.2 81))]) [0] rfl (wk_M_again_b0 o h))
def M_work_b75 (Z : xF → (Nat → Int64) → Prop) (k10 : Int32 → xF → Prop) (M : xF) (J : (Nat → Int64)) (x1 : Int32) (x2 : Int32) (x3 : Int32) (x4 : Int32) (s1 : Int32) (s2 : Int32) : Prop := vp_in s1 60 ∧ (∀ M_75 : xF, M_75 = xs M 8 s1.toNatClampNeg s2 → (∀ x4_76 : Int32, x4_76 = x4 + (1 : Int32) → (k10 x4_76 M_75)))
set_option maxRecDepth 10000 in
theorem wk_M_work_b75 {κ : Cx} {τ : xT} {Z : xF → (Nat → Int64) → Prop} {k10 : Int32 → xF → Prop} {M : xF} {J : (Nat → Int64)} {x1 : Int32} {x2 : Int32} {x3 : Int32} {x4 : Int32} {s1 : Int32} {s2 : Int32} (o : OKc κ (wdM τ) 6 b_M_work "StateExplorerModel" none (xR 2)) (hk10 : ∀ (x4 : Int32) (M : xF), k10 x4 M → GW κ (wdM τ) 6 (0, 0) (xMQ κ (wdM τ) (xR 2) (z12_v Z)) (M, J) 10 [(0, .ref (τ.2.2 81)), (1, .int x1), (2, .int x2), (3, .int x3), (4, .int x4)] []) (h : M_work_b75 Z k10 M J x1 x2 x3 x4 s1 s2) : GW κ (wdM τ) 6 (0, 0) (xMQ κ (wdM τ) (xR 2) (z12_v Z)) (M, J) 75 [(0, .ref (τ.2.2 81)), (1, .int x1), (2, .int x2), (3, .int x3), (4, .int x4)] [.int s2, .int s1, .ref (τ.2.2 68)] := by
  unfold M_work_b75 at h
  have hi := h.1
  have h := h.2
  refine gM_ast_value (pc := 75) o hi d_M_work_75 (fun M_75 eM_75 => ?_)
  have h := h M_75 eM_75
  refine gw_iincN (pc := 76) (c := (1 : Int32)) (lw := fun x4_76 => [(4, .int x4_76), (0, .ref (τ.2.2 81)), (1, .int x1), (2, .int x2), (3, .int x3)]) o d_M_work_76 (by decide) 4 rfl (by decide) (fun _ => rfl) (fun x4_76 ex4_76 => ?_)
  have h := h x4_76 ex4_76
  refine gw_goto (pc := 79) (tgt := 10) o d_M_work_79 (by decide) ?_
  exact gw_sub (lv' := [(0, .ref (τ.2.2 81)), (1, .int x1), (2, .int x2), (3, .int x3), (4, .int x4_76)]) [1, 2, 3, 4, 0] rfl (hk10 _ _ h)
def M_work_b192 (Z : xF → (Nat → Int64) → Prop) (k116 : Int32 → xF → (Nat → Int64) → Prop) (M : xF) (J : (Nat → Int64)) (x1 : Int32) (x3 : Int32) (x5 : Int32) (s1 : Int32) (s2 : Int64) : Prop := vp_in s1 4096 ∧ (∀ J_192 : (Nat → Int64), J_192 = vp_updL J s1.toNatClampNeg s2 → (∀ x5_193 : Int32, x5_193 = x5 + (1 : Int32) → (k116 x5_193 M J_192)))
set_option maxRecDepth 10000 in
theorem wk_M_work_b192 {κ : Cx} {τ : xT} {Z : xF → (Nat → Int64) → Prop} {k116 : Int32 → xF → (Nat → Int64) → Prop} {M : xF} {J : (Nat → Int64)} {x1 : Int32} {x3 : Int32} {x5 : Int32} {s1 : Int32} {s2 : Int64} (o : OKc κ (wdM τ) 6 b_M_work "StateExplorerModel" none (xR 2)) (hk116 : ∀ (x5 : Int32) (M : xF) (J : (Nat → Int64)), k116 x5 M J → GW κ (wdM τ) 6 (0, 0) (xMQ κ (wdM τ) (xR 2) (z12_v Z)) (M, J) 116 [(0, .ref (τ.2.2 81)), (1, .int x1), (3, .int x3), (5, .int x5)] []) (h : M_work_b192 Z k116 M J x1 x3 x5 s1 s2) : GW κ (wdM τ) 6 (0, 0) (xMQ κ (wdM τ) (xR 2) (z12_v Z)) (M, J) 192 [(0, .ref (τ.2.2 81)), (1, .int x1), (3, .int x3), (5, .int x5)] [.long s2, .int s1, .ref (τ.2.2 77)] := by
  unfold M_work_b192 at h
  have hi := h.1
  have h := h.2
  refine gM_ast_ones (pc := 192) o hi d_M_work_192 (fun J_192 eJ_192 => ?_)
  have h := h J_192 eJ_192
  refine gw_iincN (pc := 193) (c := (1 : Int32)) (lw := fun x5_193 => [(5, .int x5_193), (0, .ref (τ.2.2 81)), (1, .int x1), (3, .int x3)]) o d_M_work_193 (by decide) 3 rfl (by decide) (fun _ => rfl) (fun x5_193 ex5_193 => ?_)
  have h := h x5_193 ex5_193
  refine gw_goto (pc := 196) (tgt := 116) o d_M_work_196 (by decide) ?_
  exact gw_sub (lv' := [(0, .ref (τ.2.2 81)), (1, .int x1), (3, .int x3), (5, .int x5_193)]) [1, 2, 3, 0] rfl (hk116 _ _ _ h)
def M_work_b155 (Z : xF → (Nat → Int64) → Prop) (k116 : Int32 → xF → (Nat → Int64) → Prop) (M : xF) (J : (Nat → Int64)) (x1 : Int32) (x3 : Int32) (x5 : Int32) (s1 : Int32) (s2 : Int32) : Prop := vp_in s1 4096 ∧ ((s2 = 0 ∨ s2 = 1) ∧ (∀ M_155 : xF, M_155 = xs M 15 s1.toNatClampNeg s2 → (vp_in x5 60 ∧ ((((M_155 8 x5.toNatClampNeg) = (1 : Int32)) → (vp_in x3 4096 ∧ (M_work_b192 Z k116 M_155 J x1 x3 x5 x3 ((J x3.toNatClampNeg) ||| ((1 : Int64) <<< (x5.toInt64 &&& 63)))))) ∧ (¬ ((M_155 8 x5.toNatClampNeg) = (1 : Int32)) → (vp_in x3 4096 ∧ (M_work_b192 Z k116 M_155 J x1 x3 x5 x3 (J x3.toNatClampNeg))))))))
set_option maxRecDepth 10000 in
theorem wk_M_work_b155 {κ : Cx} {τ : xT} {Z : xF → (Nat → Int64) → Prop} {k116 : Int32 → xF → (Nat → Int64) → Prop} {M : xF} {J : (Nat → Int64)} {x1 : Int32} {x3 : Int32} {x5 : Int32} {s1 : Int32} {s2 : Int32} (o : OKc κ (wdM τ) 6 b_M_work "StateExplorerModel" none (xR 2)) (hk116 : ∀ (x5 : Int32) (M : xF) (J : (Nat → Int64)), k116 x5 M J → GW κ (wdM τ) 6 (0, 0) (xMQ κ (wdM τ) (xR 2) (z12_v Z)) (M, J) 116 [(0, .ref (τ.2.2 81)), (1, .int x1), (3, .int x3), (5, .int x5)] []) (h : M_work_b155 Z k116 M J x1 x3 x5 s1 s2) : GW κ (wdM τ) 6 (0, 0) (xMQ κ (wdM τ) (xR 2) (z12_v Z)) (M, J) 155 [(0, .ref (τ.2.2 81)), (1, .int x1), (3, .int x3), (5, .int x5)] [.int s2, .int s1, .ref (τ.2.2 75)] := by
  unfold M_work_b155 at h
  have hi := h.1
  have h := h.2
  have hz0 := h.1
  have h := h.2
  refine gM_ast_settles (pc := 155) o hi (xnz hz0) d_M_work_155 (fun M_155 eM_155 => ?_)
  have h := h M_155 eM_155
  refine gw_aload_n (pc := 156) o d_M_work_156 rfl 0 rfl ?_
  refine gM_get_ones (pc := 157) o q_563 d_M_work_157 ?_
  refine gw_iload_n (pc := 160) o d_M_work_160 rfl 2 rfl ?_
  refine gw_aload_n (pc := 161) o d_M_work_161 rfl 0 rfl ?_
  refine gM_get_value (pc := 162) o q_554 d_M_work_162 ?_
  refine gw_iload (pc := 165) o d_M_work_165 3 rfl ?_
  have hi := h.1
  have h := h.2
  refine gM_ald_value (pc := 167) o hi d_M_work_167 ?_
  refine gw_iconst (pc := 168) (v := (1 : Int32)) o d_M_work_168 (by decide) ?_
  refine gw_icmp_ne (pc := 169) (tgt := 186) o d_M_work_169 (by decide) (fun hc => ?_) (fun hc => ?_)
  · have h := h.2 hc
    refine gw_aload_n (pc := 186) o d_M_work_186 rfl 0 rfl ?_
    refine gM_get_ones (pc := 187) o q_563 d_M_work_187 ?_
    refine gw_iload_n (pc := 190) o d_M_work_190 rfl 2 rfl ?_
    have hi := h.1
    have h := h.2
    refine gM_ald_ones (pc := 191) o hi d_M_work_191 ?_
    exact gw_sub (lv' := [(0, .ref (τ.2.2 81)), (1, .int x1), (3, .int x3), (5, .int x5)]) [0, 1, 2, 3] rfl (wk_M_work_b192 o hk116 h)
  · have h := h.1 hc
    refine gw_aload_n (pc := 172) o d_M_work_172 rfl 0 rfl ?_
    refine gM_get_ones (pc := 173) o q_563 d_M_work_173 ?_
    refine gw_iload_n (pc := 176) o d_M_work_176 rfl 2 rfl ?_
    have hi := h.1
    have h := h.2
    refine gM_ald_ones (pc := 177) o hi d_M_work_177 ?_
    refine gw_lconst (pc := 178) (v := (1 : Int64)) o d_M_work_178 (by decide) ?_
    refine gw_iload (pc := 179) o d_M_work_179 3 rfl ?_
    refine gw_lshl (pc := 181) o d_M_work_181 ?_
    refine gw_lor (pc := 182) o d_M_work_182 ?_
    refine gw_goto (pc := 183) (tgt := 192) o d_M_work_183 (by decide) ?_
    exact gw_sub (lv' := [(0, .ref (τ.2.2 81)), (1, .int x1), (3, .int x3), (5, .int x5)]) [0, 1, 2, 3] rfl (wk_M_work_b192 o hk116 h)
def M_work_b154 (Z : xF → (Nat → Int64) → Prop) (k116 : Int32 → xF → (Nat → Int64) → Prop) (M : xF) (J : (Nat → Int64)) (x1 : Int32) (x3 : Int32) (x5 : Int32) (s1 : Int32) : Prop := M_work_b155 Z k116 M J x1 x3 x5 s1 (0 : Int32)
set_option maxRecDepth 10000 in
theorem wk_M_work_b154 {κ : Cx} {τ : xT} {Z : xF → (Nat → Int64) → Prop} {k116 : Int32 → xF → (Nat → Int64) → Prop} {M : xF} {J : (Nat → Int64)} {x1 : Int32} {x3 : Int32} {x5 : Int32} {s1 : Int32} (o : OKc κ (wdM τ) 6 b_M_work "StateExplorerModel" none (xR 2)) (hk116 : ∀ (x5 : Int32) (M : xF) (J : (Nat → Int64)), k116 x5 M J → GW κ (wdM τ) 6 (0, 0) (xMQ κ (wdM τ) (xR 2) (z12_v Z)) (M, J) 116 [(0, .ref (τ.2.2 81)), (1, .int x1), (3, .int x3), (5, .int x5)] []) (h : M_work_b154 Z k116 M J x1 x3 x5 s1) : GW κ (wdM τ) 6 (0, 0) (xMQ κ (wdM τ) (xR 2) (z12_v Z)) (M, J) 154 [(0, .ref (τ.2.2 81)), (1, .int x1), (3, .int x3), (5, .int x5)] [.int s1, .ref (τ.2.2 75)] := by
  unfold M_work_b154 at h
  refine gw_iconst (pc := 154) (v := (0 : Int32)) o d_M_work_154 (by decide) ?_
  exact gw_sub (lv' := [(0, .ref (τ.2.2 81)), (1, .int x1), (3, .int x3), (5, .int x5)]) [0, 1, 2, 3] rfl (wk_M_work_b155 o hk116 h)
def M_work_b292 (Z : xF → (Nat → Int64) → Prop) (k209 : Int32 → xF → Prop) (M : xF) (J : (Nat → Int64)) (x3 : Int32) (x5 : Int32) : Prop := ∀ x5_292 : Int32, x5_292 = x5 + (1 : Int32) → (k209 x5_292 M)
set_option maxRecDepth 10000 in
theorem wk_M_work_b292 {κ : Cx} {τ : xT} {Z : xF → (Nat → Int64) → Prop} {k209 : Int32 → xF → Prop} {M : xF} {J : (Nat → Int64)} {x3 : Int32} {x5 : Int32} (o : OKc κ (wdM τ) 6 b_M_work "StateExplorerModel" none (xR 2)) (hk209 : ∀ (x5 : Int32) (M : xF), k209 x5 M → GW κ (wdM τ) 6 (0, 0) (xMQ κ (wdM τ) (xR 2) (z12_v Z)) (M, J) 209 [(0, .ref (τ.2.2 81)), (3, .int x3), (5, .int x5)] []) (h : M_work_b292 Z k209 M J x3 x5) : GW κ (wdM τ) 6 (0, 0) (xMQ κ (wdM τ) (xR 2) (z12_v Z)) (M, J) 292 [(0, .ref (τ.2.2 81)), (3, .int x3), (5, .int x5)] [] := by
  unfold M_work_b292 at h
  refine gw_iincN (pc := 292) (c := (1 : Int32)) (lw := fun x5_292 => [(5, .int x5_292), (0, .ref (τ.2.2 81)), (3, .int x3)]) o d_M_work_292 (by decide) 2 rfl (by decide) (fun _ => rfl) (fun x5_292 ex5_292 => ?_)
  have h := h x5_292 ex5_292
  refine gw_goto (pc := 295) (tgt := 209) o d_M_work_295 (by decide) ?_
  exact gw_sub (lv' := [(0, .ref (τ.2.2 81)), (3, .int x3), (5, .int x5_292)]) [1, 2, 0] rfl (hk209 _ _ h)
def M_work_b298 (Z : xF → (Nat → Int64) → Prop) (M : xF) (J : (Nat → Int64)) : Prop := Z M J
set_option maxRecDepth 10000 in
theorem wk_M_work_b298 {κ : Cx} {τ : xT} {Z : xF → (Nat → Int64) → Prop} {M : xF} {J : (Nat → Int64)} (o : OKc κ (wdM τ) 6 b_M_work "StateExplorerModel" none (xR 2)) (h : M_work_b298 Z M J) : GW κ (wdM τ) 6 (0, 0) (xMQ κ (wdM τ) (xR 2) (z12_v Z)) (M, J) 298 [] [] := by
  unfold M_work_b298 at h
  exact gw_vret (pc := 298) o ⟨Nat.le_refl _, Nat.le_refl _⟩ (z12_v.mk h) d_M_work_298
def M_work_b209 (Z : xF → (Nat → Int64) → Prop) (k209 : Int32 → xF → Prop) (M : xF) (J : (Nat → Int64)) (x3 : Int32) (x5 : Int32) : Prop := (((M 21 2) ≤ x5) → (M_work_b298 Z M J)) ∧ (¬ ((M 21 2) ≤ x5) → (vp_in x3 4096 ∧ ((((M 15 x3.toNatClampNeg) = 0) → (M_work_b298 Z M J)) ∧ (¬ ((M 15 x3.toNatClampNeg) = 0) → (vp_in x5 240 ∧ (vp_in (M 10 x5.toNatClampNeg) 60 ∧ ((((M 6 (M 10 x5.toNatClampNeg).toNatClampNeg) = (1 : Int32)) → (vp_in x3 4096 ∧ (vp_in x5 240 ∧ (vp_in (M 10 x5.toNatClampNeg) 60 ∧ (w_M_taken M J x5 (fun r274 => vp_in x5 240 ∧ (vp_in (M 10 x5.toNatClampNeg) 60 ∧ (vp_in x3 4096 ∧ (∀ M_291 : xF, M_291 = xs M 16 x3.toNatClampNeg (((M 16 x3.toNatClampNeg) &&& (((1 : Int32) <<< ((M 7 (M 10 x5.toNatClampNeg).toNatClampNeg) &&& 31)) ^^^ (-1 : Int32))) ||| (r274 <<< ((M 7 (M 10 x5.toNatClampNeg).toNatClampNeg) &&& 31))) → (M_work_b292 Z k209 M_291 J x3 x5)))))))))) ∧ (¬ ((M 6 (M 10 x5.toNatClampNeg).toNatClampNeg) = (1 : Int32)) → (M_work_b292 Z k209 M J x3 x5)))))))))
set_option maxRecDepth 10000 in
theorem wk_M_work_b209 {κ : Cx} {τ : xT} {Z : xF → (Nat → Int64) → Prop} {k209 : Int32 → xF → Prop} {M : xF} {J : (Nat → Int64)} {x3 : Int32} {x5 : Int32} (o : OKc κ (wdM τ) 6 b_M_work "StateExplorerModel" none (xR 2)) (hk209 : ∀ (x5 : Int32) (M : xF), k209 x5 M → GW κ (wdM τ) 6 (0, 0) (xMQ κ (wdM τ) (xR 2) (z12_v Z)) (M, J) 209 [(0, .ref (τ.2.2 81)), (3, .int x3), (5, .int x5)] []) (h : M_work_b209 Z k209 M J x3 x5) : GW κ (wdM τ) 6 (0, 0) (xMQ κ (wdM τ) (xR 2) (z12_v Z)) (M, J) 209 [(0, .ref (τ.2.2 81)), (3, .int x3), (5, .int x5)] [] := by
  unfold M_work_b209 at h
  refine gw_iload (pc := 209) o d_M_work_209 2 rfl ?_
  refine gw_aload_n (pc := 211) o d_M_work_211 rfl 0 rfl ?_
  refine gM_get_feeds (pc := 212) o q_548 d_M_work_212 ?_
  refine gw_icmp_ge (pc := 215) (tgt := 298) o d_M_work_215 (by decide) (fun hc => ?_) (fun hc => ?_)
  · have h := h.1 hc
    exact gw_sub (lv' := []) [] rfl (wk_M_work_b298 o h)
  · have h := h.2 hc
    refine gw_aload_n (pc := 218) o d_M_work_218 rfl 0 rfl ?_
    refine gM_get_settles (pc := 219) o q_561 d_M_work_219 ?_
    refine gw_iload_n (pc := 222) o d_M_work_222 rfl 1 rfl ?_
    have hi := h.1
    have h := h.2
    refine gM_ald_settles (pc := 223) o hi d_M_work_223 ?_
    refine gw_if_eq (pc := 224) (tgt := 298) o d_M_work_224 (by decide) (fun hc => ?_) (fun hc => ?_)
    · have h := h.1 hc
      exact gw_sub (lv' := []) [] rfl (wk_M_work_b298 o h)
    · have h := h.2 hc
      refine gw_aload_n (pc := 227) o d_M_work_227 rfl 0 rfl ?_
      refine gM_get_sort (pc := 228) o q_552 d_M_work_228 ?_
      refine gw_aload_n (pc := 231) o d_M_work_231 rfl 0 rfl ?_
      refine gM_get_to (pc := 232) o q_556 d_M_work_232 ?_
      refine gw_iload (pc := 235) o d_M_work_235 2 rfl ?_
      have hi := h.1
      have h := h.2
      refine gM_ald_to (pc := 237) o hi d_M_work_237 ?_
      have hi := h.1
      have h := h.2
      refine gM_ald_sort (pc := 238) o hi d_M_work_238 ?_
      refine gw_iconst (pc := 239) (v := (1 : Int32)) o d_M_work_239 (by decide) ?_
      refine gw_icmp_ne (pc := 240) (tgt := 292) o d_M_work_240 (by decide) (fun hc => ?_) (fun hc => ?_)
      · have h := h.2 hc
        exact gw_sub (lv' := [(0, .ref (τ.2.2 81)), (3, .int x3), (5, .int x5)]) [0, 1, 2] rfl (wk_M_work_b292 o hk209 h)
      · have h := h.1 hc
        refine gw_aload_n (pc := 243) o d_M_work_243 rfl 0 rfl ?_
        refine gM_get_next (pc := 244) o q_562 d_M_work_244 ?_
        refine gw_iload_n (pc := 247) o d_M_work_247 rfl 1 rfl ?_
        refine gw_aload_n (pc := 248) o d_M_work_248 rfl 0 rfl ?_
        refine gM_get_next (pc := 249) o q_562 d_M_work_249 ?_
        refine gw_iload_n (pc := 252) o d_M_work_252 rfl 1 rfl ?_
        have hi := h.1
        have h := h.2
        refine gM_ald_next (pc := 253) o hi d_M_work_253 ?_
        refine gw_iconst (pc := 254) (v := (1 : Int32)) o d_M_work_254 (by decide) ?_
        refine gw_aload_n (pc := 255) o d_M_work_255 rfl 0 rfl ?_
        refine gM_get_number (pc := 256) o q_553 d_M_work_256 ?_
        refine gw_aload_n (pc := 259) o d_M_work_259 rfl 0 rfl ?_
        refine gM_get_to (pc := 260) o q_556 d_M_work_260 ?_
        refine gw_iload (pc := 263) o d_M_work_263 2 rfl ?_
        have hi := h.1
        have h := h.2
        refine gM_ald_to (pc := 265) o hi d_M_work_265 ?_
        have hi := h.1
        have h := h.2
        refine gM_ald_number (pc := 266) o hi d_M_work_266 ?_
        refine gw_ishl (pc := 267) o d_M_work_267 ?_
        refine gw_iconst (pc := 268) (v := (-1 : Int32)) o d_M_work_268 (by decide) ?_
        refine gw_ixor (pc := 269) o d_M_work_269 ?_
        refine gw_iand (pc := 270) o d_M_work_270 ?_
        refine gw_aload_n (pc := 271) o d_M_work_271 rfl 0 rfl ?_
        refine gw_iload (pc := 272) o d_M_work_272 2 rfl ?_
        refine gw_callV (pc := 274) (b := τ.2.2 81) (As := [.int x5]) (st := [.int ((M 16 x3.toNatClampNeg) &&& (((1 : Int32) <<< ((M 7 (M 10 x5.toNatClampNeg).toNatClampNeg) &&& 31)) ^^^ (-1 : Int32))), .int x3, .ref (τ.2.2 76)]) o (ct_M_taken o.hD h) mi_M_taken q_663 q_665 qs_36 0 rfl rfl (xRo_of (by omega) (by decide)) rfl rfl (Nat.le_of_ble_eq_true rfl) d_M_work_274 (kk_p_i rfl (fun r274 h => ?_))
        refine gw_aload_n (pc := 277) o d_M_work_277 rfl 0 rfl ?_
        refine gM_get_number (pc := 278) o q_553 d_M_work_278 ?_
        refine gw_aload_n (pc := 281) o d_M_work_281 rfl 0 rfl ?_
        refine gM_get_to (pc := 282) o q_556 d_M_work_282 ?_
        refine gw_iload (pc := 285) o d_M_work_285 2 rfl ?_
        have hi := h.1
        have h := h.2
        refine gM_ald_to (pc := 287) o hi d_M_work_287 ?_
        have hi := h.1
        have h := h.2
        refine gM_ald_number (pc := 288) o hi d_M_work_288 ?_
        refine gw_ishl (pc := 289) o d_M_work_289 ?_
        refine gw_ior (pc := 290) o d_M_work_290 ?_
        have hi := h.1
        have h := h.2
        refine gM_ast_next (pc := 291) o hi d_M_work_291 (fun M_291 eM_291 => ?_)
        have h := h M_291 eM_291
        exact gw_sub (lv' := [(0, .ref (τ.2.2 81)), (3, .int x3), (5, .int x5)]) [0, 1, 2] rfl (wk_M_work_b292 o hk209 h)
def M_work_L209 (Z : xF → (Nat → Int64) → Prop) (M : xF) (J : (Nat → Int64)) (x3 : Int32) (x5 : Int32) : Prop := LOOP2 (fun k209 x5 M => M_work_b209 Z k209 M J x3 x5) x5 M
theorem wk_M_work_L209 {κ : Cx} {τ : xT} {Z : xF → (Nat → Int64) → Prop} {M : xF} {J : (Nat → Int64)} {x3 : Int32} {x5 : Int32} (o : OKc κ (wdM τ) 6 b_M_work "StateExplorerModel" none (xR 2)) (h : M_work_L209 Z M J x3 x5) : GW κ (wdM τ) 6 (0, 0) (xMQ κ (wdM τ) (xR 2) (z12_v Z)) (M, J) 209 [(0, .ref (τ.2.2 81)), (3, .int x3), (5, .int x5)] [] := by
  unfold M_work_L209 at h
  exact LOOP2.use (G := fun x5 M => GW κ (wdM τ) 6 (0, 0) (xMQ κ (wdM τ) (xR 2) (z12_v Z)) (M, J) 209 [(0, .ref (τ.2.2 81)), (3, .int x3), (5, .int x5)] []) (fun k209 x5 M hk209 h => wk_M_work_b209 o hk209 h) h
def M_work_b116 (Z : xF → (Nat → Int64) → Prop) (k116 : Int32 → xF → (Nat → Int64) → Prop) (M : xF) (J : (Nat → Int64)) (x1 : Int32) (x3 : Int32) (x5 : Int32) : Prop := (((M 21 1) ≤ x5) → (vp_in x3 4096 ∧ (∀ M_205 : xF, M_205 = xs M 16 x3.toNatClampNeg x1 → (M_work_L209 Z M_205 J x3 (0 : Int32))))) ∧ (¬ ((M 21 1) ≤ x5) → (vp_in x3 4096 ∧ ((((M 15 x3.toNatClampNeg) = 0) → (M_work_b154 Z k116 M J x1 x3 x5 x3)) ∧ (¬ ((M 15 x3.toNatClampNeg) = 0) → (vp_in x5 60 ∧ ((((M 8 x5.toNatClampNeg) = (2 : Int32)) → (M_work_b154 Z k116 M J x1 x3 x5 x3)) ∧ (¬ ((M 8 x5.toNatClampNeg) = (2 : Int32)) → (M_work_b155 Z k116 M J x1 x3 x5 x3 (1 : Int32)))))))))
set_option maxRecDepth 10000 in
theorem wk_M_work_b116 {κ : Cx} {τ : xT} {Z : xF → (Nat → Int64) → Prop} {k116 : Int32 → xF → (Nat → Int64) → Prop} {M : xF} {J : (Nat → Int64)} {x1 : Int32} {x3 : Int32} {x5 : Int32} (o : OKc κ (wdM τ) 6 b_M_work "StateExplorerModel" none (xR 2)) (hk116 : ∀ (x5 : Int32) (M : xF) (J : (Nat → Int64)), k116 x5 M J → GW κ (wdM τ) 6 (0, 0) (xMQ κ (wdM τ) (xR 2) (z12_v Z)) (M, J) 116 [(0, .ref (τ.2.2 81)), (1, .int x1), (3, .int x3), (5, .int x5)] []) (h : M_work_b116 Z k116 M J x1 x3 x5) : GW κ (wdM τ) 6 (0, 0) (xMQ κ (wdM τ) (xR 2) (z12_v Z)) (M, J) 116 [(0, .ref (τ.2.2 81)), (1, .int x1), (3, .int x3), (5, .int x5)] [] := by
  unfold M_work_b116 at h
  refine gw_iload (pc := 116) o d_M_work_116 3 rfl ?_
  refine gw_aload_n (pc := 118) o d_M_work_118 rfl 0 rfl ?_
  refine gM_get_gates (pc := 119) o q_547 d_M_work_119 ?_
  refine gw_icmp_ge (pc := 122) (tgt := 199) o d_M_work_122 (by decide) (fun hc => ?_) (fun hc => ?_)
  · have h := h.1 hc
    refine gw_aload_n (pc := 199) o d_M_work_199 rfl 0 rfl ?_
    refine gM_get_next (pc := 200) o q_562 d_M_work_200 ?_
    refine gw_iload_n (pc := 203) o d_M_work_203 rfl 2 rfl ?_
    refine gw_iload_n (pc := 204) o d_M_work_204 rfl 1 rfl ?_
    have hi := h.1
    have h := h.2
    refine gM_ast_next (pc := 205) o hi d_M_work_205 (fun M_205 eM_205 => ?_)
    have h := h M_205 eM_205
    refine gw_iconst (pc := 206) (v := (0 : Int32)) o d_M_work_206 (by decide) ?_
    refine gw_istore (pc := 207) (lv' := [(5, .int (0 : Int32)), (0, .ref (τ.2.2 81)), (1, .int x1), (3, .int x3)]) o d_M_work_207 (by decide) rfl ?_
    exact gw_sub (lv' := [(0, .ref (τ.2.2 81)), (3, .int x3), (5, .int (0 : Int32))]) [1, 3, 0] rfl (wk_M_work_L209 o h)
  · have h := h.2 hc
    refine gw_aload_n (pc := 125) o d_M_work_125 rfl 0 rfl ?_
    refine gM_get_settles (pc := 126) o q_561 d_M_work_126 ?_
    refine gw_iload_n (pc := 129) o d_M_work_129 rfl 2 rfl ?_
    refine gw_aload_n (pc := 130) o d_M_work_130 rfl 0 rfl ?_
    refine gM_get_settles (pc := 131) o q_561 d_M_work_131 ?_
    refine gw_iload_n (pc := 134) o d_M_work_134 rfl 2 rfl ?_
    have hi := h.1
    have h := h.2
    refine gM_ald_settles (pc := 135) o hi d_M_work_135 ?_
    refine gw_if_eq (pc := 136) (tgt := 154) o d_M_work_136 (by decide) (fun hc => ?_) (fun hc => ?_)
    · have h := h.1 hc
      exact gw_sub (lv' := [(0, .ref (τ.2.2 81)), (1, .int x1), (3, .int x3), (5, .int x5)]) [0, 1, 2, 3] rfl (wk_M_work_b154 o hk116 h)
    · have h := h.2 hc
      refine gw_aload_n (pc := 139) o d_M_work_139 rfl 0 rfl ?_
      refine gM_get_value (pc := 140) o q_554 d_M_work_140 ?_
      refine gw_iload (pc := 143) o d_M_work_143 3 rfl ?_
      have hi := h.1
      have h := h.2
      refine gM_ald_value (pc := 145) o hi d_M_work_145 ?_
      refine gw_iconst (pc := 146) (v := (2 : Int32)) o d_M_work_146 (by decide) ?_
      refine gw_icmp_eq (pc := 147) (tgt := 154) o d_M_work_147 (by decide) (fun hc => ?_) (fun hc => ?_)
      · have h := h.1 hc
        exact gw_sub (lv' := [(0, .ref (τ.2.2 81)), (1, .int x1), (3, .int x3), (5, .int x5)]) [0, 1, 2, 3] rfl (wk_M_work_b154 o hk116 h)
      · have h := h.2 hc
        refine gw_iconst (pc := 150) (v := (1 : Int32)) o d_M_work_150 (by decide) ?_
        refine gw_goto (pc := 151) (tgt := 155) o d_M_work_151 (by decide) ?_
        exact gw_sub (lv' := [(0, .ref (τ.2.2 81)), (1, .int x1), (3, .int x3), (5, .int x5)]) [0, 1, 2, 3] rfl (wk_M_work_b155 o hk116 h)
def M_work_L116 (Z : xF → (Nat → Int64) → Prop) (M : xF) (J : (Nat → Int64)) (x1 : Int32) (x3 : Int32) (x5 : Int32) : Prop := LOOP3 (fun k116 x5 M J => M_work_b116 Z k116 M J x1 x3 x5) x5 M J
theorem wk_M_work_L116 {κ : Cx} {τ : xT} {Z : xF → (Nat → Int64) → Prop} {M : xF} {J : (Nat → Int64)} {x1 : Int32} {x3 : Int32} {x5 : Int32} (o : OKc κ (wdM τ) 6 b_M_work "StateExplorerModel" none (xR 2)) (h : M_work_L116 Z M J x1 x3 x5) : GW κ (wdM τ) 6 (0, 0) (xMQ κ (wdM τ) (xR 2) (z12_v Z)) (M, J) 116 [(0, .ref (τ.2.2 81)), (1, .int x1), (3, .int x3), (5, .int x5)] [] := by
  unfold M_work_L116 at h
  exact LOOP3.use (G := fun x5 M J => GW κ (wdM τ) 6 (0, 0) (xMQ κ (wdM τ) (xR 2) (z12_v Z)) (M, J) 116 [(0, .ref (τ.2.2 81)), (1, .int x1), (3, .int x3), (5, .int x5)] []) (fun k116 x5 M J hk116 h => wk_M_work_b116 o hk116 h) h
def M_work_b85 (Z : xF → (Nat → Int64) → Prop) (k85 : Int32 → xF → Prop) (M : xF) (J : (Nat → Int64)) (x1 : Int32) (x3 : Int32) (x4 : Int32) : Prop := ((x4 = 0) → (vp_in x3 4096 ∧ (∀ M_105 : xF, M_105 = xs M 15 x3.toNatClampNeg (1 : Int32) → (vp_in x3 4096 ∧ (∀ J_112 : (Nat → Int64), J_112 = vp_updL J x3.toNatClampNeg (0 : Int64) → (M_work_L116 Z M_105 J_112 x1 x3 (0 : Int32))))))) ∧ (¬ (x4 = 0) → (w_M_again M J (fun r91 M_91 => k85 r91 M_91)))
set_option maxRecDepth 10000 in
theorem wk_M_work_b85 {κ : Cx} {τ : xT} {Z : xF → (Nat → Int64) → Prop} {k85 : Int32 → xF → Prop} {M : xF} {J : (Nat → Int64)} {x1 : Int32} {x3 : Int32} {x4 : Int32} (o : OKc κ (wdM τ) 6 b_M_work "StateExplorerModel" none (xR 2)) (hk85 : ∀ (x4 : Int32) (M : xF), k85 x4 M → GW κ (wdM τ) 6 (0, 0) (xMQ κ (wdM τ) (xR 2) (z12_v Z)) (M, J) 85 [(0, .ref (τ.2.2 81)), (1, .int x1), (3, .int x3), (4, .int x4)] []) (h : M_work_b85 Z k85 M J x1 x3 x4) : GW κ (wdM τ) 6 (0, 0) (xMQ κ (wdM τ) (xR 2) (z12_v Z)) (M, J) 85 [(0, .ref (τ.2.2 81)), (1, .int x1), (3, .int x3), (4, .int x4)] [] := by
  unfold M_work_b85 at h
  refine gw_iload (pc := 85) o d_M_work_85 3 rfl ?_
  refine gw_if_eq (pc := 87) (tgt := 99) o d_M_work_87 (by decide) (fun hc => ?_) (fun hc => ?_)
  · have h := h.1 hc
    refine gw_aload_n (pc := 99) o d_M_work_99 rfl 0 rfl ?_
    refine gM_get_settles (pc := 100) o q_561 d_M_work_100 ?_
    refine gw_iload_n (pc := 103) o d_M_work_103 rfl 2 rfl ?_
    refine gw_iconst (pc := 104) (v := (1 : Int32)) o d_M_work_104 (by decide) ?_
    have hi := h.1
    have h := h.2
    refine gM_ast_settles (pc := 105) (y := (1 : Int32)) o hi rfl d_M_work_105 (fun M_105 eM_105 => ?_)
    have h := h M_105 eM_105
    refine gw_aload_n (pc := 106) o d_M_work_106 rfl 0 rfl ?_
    refine gM_get_ones (pc := 107) o q_563 d_M_work_107 ?_
    refine gw_iload_n (pc := 110) o d_M_work_110 rfl 2 rfl ?_
    refine gw_lconst (pc := 111) (v := (0 : Int64)) o d_M_work_111 (by decide) ?_
    have hi := h.1
    have h := h.2
    refine gM_ast_ones (pc := 112) o hi d_M_work_112 (fun J_112 eJ_112 => ?_)
    have h := h J_112 eJ_112
    refine gw_iconst (pc := 113) (v := (0 : Int32)) o d_M_work_113 (by decide) ?_
    refine gw_istore (pc := 114) (lv' := [(5, .int (0 : Int32)), (0, .ref (τ.2.2 81)), (1, .int x1), (3, .int x3), (4, .int x4)]) o d_M_work_114 (by decide) rfl ?_
    exact gw_sub (lv' := [(0, .ref (τ.2.2 81)), (1, .int x1), (3, .int x3), (5, .int (0 : Int32))]) [1, 2, 3, 0] rfl (wk_M_work_L116 o h)
  · have h := h.2 hc
    refine gw_aload_n (pc := 90) o d_M_work_90 rfl 0 rfl ?_
    refine gw_callV (pc := 91) (b := τ.2.2 81) (As := []) (st := []) o (ct_M_again o.hD h) mi_M_again q_659 q_661 qs_35 0 rfl rfl (xRo_of (by omega) (by decide)) rfl rfl (Nat.le_of_ble_eq_true rfl) d_M_work_91 (kk_1_i rfl (fun r91 M_91 h => ?_))
    refine gw_istore (pc := 94) (lv' := [(4, .int r91), (0, .ref (τ.2.2 81)), (1, .int x1), (3, .int x3)]) o d_M_work_94 (by decide) rfl ?_
    refine gw_goto (pc := 96) (tgt := 85) o d_M_work_96 (by decide) ?_
    exact gw_sub (lv' := [(0, .ref (τ.2.2 81)), (1, .int x1), (3, .int x3), (4, .int r91)]) [1, 2, 3, 0] rfl (hk85 _ _ h)
def M_work_L85 (Z : xF → (Nat → Int64) → Prop) (M : xF) (J : (Nat → Int64)) (x1 : Int32) (x3 : Int32) (x4 : Int32) : Prop := LOOP2 (fun k85 x4 M => M_work_b85 Z k85 M J x1 x3 x4) x4 M
theorem wk_M_work_L85 {κ : Cx} {τ : xT} {Z : xF → (Nat → Int64) → Prop} {M : xF} {J : (Nat → Int64)} {x1 : Int32} {x3 : Int32} {x4 : Int32} (o : OKc κ (wdM τ) 6 b_M_work "StateExplorerModel" none (xR 2)) (h : M_work_L85 Z M J x1 x3 x4) : GW κ (wdM τ) 6 (0, 0) (xMQ κ (wdM τ) (xR 2) (z12_v Z)) (M, J) 85 [(0, .ref (τ.2.2 81)), (1, .int x1), (3, .int x3), (4, .int x4)] [] := by
  unfold M_work_L85 at h
  exact LOOP2.use (G := fun x4 M => GW κ (wdM τ) 6 (0, 0) (xMQ κ (wdM τ) (xR 2) (z12_v Z)) (M, J) 85 [(0, .ref (τ.2.2 81)), (1, .int x1), (3, .int x3), (4, .int x4)] []) (fun k85 x4 M hk85 h => wk_M_work_b85 o hk85 h) h
def M_work_b10 (Z : xF → (Nat → Int64) → Prop) (k10 : Int32 → xF → Prop) (M : xF) (J : (Nat → Int64)) (x1 : Int32) (x2 : Int32) (x3 : Int32) (x4 : Int32) : Prop := (((M 21 1) ≤ x4) → (M_work_L85 Z M J x1 x3 (1 : Int32))) ∧ (¬ ((M 21 1) ≤ x4) → (vp_in x4 60 ∧ ((((M 6 x4.toNatClampNeg) = 0) → (vp_in x4 60 ∧ (M_work_b75 Z k10 M J x1 x2 x3 x4 x4 ((x2 >>> ((M 7 x4.toNatClampNeg) &&& 31)) &&& (1 : Int32))))) ∧ (¬ ((M 6 x4.toNatClampNeg) = 0) → (vp_in x4 60 ∧ ((((M 6 x4.toNatClampNeg) = (1 : Int32)) → (vp_in x4 60 ∧ (M_work_b75 Z k10 M J x1 x2 x3 x4 x4 ((x1 >>> ((M 7 x4.toNatClampNeg) &&& 31)) &&& (1 : Int32))))) ∧ (¬ ((M 6 x4.toNatClampNeg) = (1 : Int32)) → (M_work_b75 Z k10 M J x1 x2 x3 x4 x4 (2 : Int32)))))))))
set_option maxRecDepth 10000 in
theorem wk_M_work_b10 {κ : Cx} {τ : xT} {Z : xF → (Nat → Int64) → Prop} {k10 : Int32 → xF → Prop} {M : xF} {J : (Nat → Int64)} {x1 : Int32} {x2 : Int32} {x3 : Int32} {x4 : Int32} (o : OKc κ (wdM τ) 6 b_M_work "StateExplorerModel" none (xR 2)) (hk10 : ∀ (x4 : Int32) (M : xF), k10 x4 M → GW κ (wdM τ) 6 (0, 0) (xMQ κ (wdM τ) (xR 2) (z12_v Z)) (M, J) 10 [(0, .ref (τ.2.2 81)), (1, .int x1), (2, .int x2), (3, .int x3), (4, .int x4)] []) (h : M_work_b10 Z k10 M J x1 x2 x3 x4) : GW κ (wdM τ) 6 (0, 0) (xMQ κ (wdM τ) (xR 2) (z12_v Z)) (M, J) 10 [(0, .ref (τ.2.2 81)), (1, .int x1), (2, .int x2), (3, .int x3), (4, .int x4)] [] := by
  unfold M_work_b10 at h
  refine gw_iload (pc := 10) o d_M_work_10 4 rfl ?_
  refine gw_aload_n (pc := 12) o d_M_work_12 rfl 0 rfl ?_
  refine gM_get_gates (pc := 13) o q_547 d_M_work_13 ?_
  refine gw_icmp_ge (pc := 16) (tgt := 82) o d_M_work_16 (by decide) (fun hc => ?_) (fun hc => ?_)
  · have h := h.1 hc
    refine gw_iconst (pc := 82) (v := (1 : Int32)) o d_M_work_82 (by decide) ?_
    refine gw_istore (pc := 83) (lv' := [(4, .int (1 : Int32)), (0, .ref (τ.2.2 81)), (1, .int x1), (2, .int x2), (3, .int x3)]) o d_M_work_83 (by decide) rfl ?_
    exact gw_sub (lv' := [(0, .ref (τ.2.2 81)), (1, .int x1), (3, .int x3), (4, .int (1 : Int32))]) [1, 2, 4, 0] rfl (wk_M_work_L85 o h)
  · have h := h.2 hc
    refine gw_aload_n (pc := 19) o d_M_work_19 rfl 0 rfl ?_
    refine gM_get_value (pc := 20) o q_554 d_M_work_20 ?_
    refine gw_iload (pc := 23) o d_M_work_23 4 rfl ?_
    refine gw_aload_n (pc := 25) o d_M_work_25 rfl 0 rfl ?_
    refine gM_get_sort (pc := 26) o q_552 d_M_work_26 ?_
    refine gw_iload (pc := 29) o d_M_work_29 4 rfl ?_
    have hi := h.1
    have h := h.2
    refine gM_ald_sort (pc := 31) o hi d_M_work_31 ?_
    refine gw_if_ne (pc := 32) (tgt := 49) o d_M_work_32 (by decide) (fun hc => ?_) (fun hc => ?_)
    · have h := h.2 hc
      refine gw_aload_n (pc := 49) o d_M_work_49 rfl 0 rfl ?_
      refine gM_get_sort (pc := 50) o q_552 d_M_work_50 ?_
      refine gw_iload (pc := 53) o d_M_work_53 4 rfl ?_
      have hi := h.1
      have h := h.2
      refine gM_ald_sort (pc := 55) o hi d_M_work_55 ?_
      refine gw_iconst (pc := 56) (v := (1 : Int32)) o d_M_work_56 (by decide) ?_
      refine gw_icmp_ne (pc := 57) (tgt := 74) o d_M_work_57 (by decide) (fun hc => ?_) (fun hc => ?_)
      · have h := h.2 hc
        refine gw_iconst (pc := 74) (v := (2 : Int32)) o d_M_work_74 (by decide) ?_
        exact gw_sub (lv' := [(0, .ref (τ.2.2 81)), (1, .int x1), (2, .int x2), (3, .int x3), (4, .int x4)]) [0, 1, 2, 3, 4] rfl (wk_M_work_b75 o hk10 h)
      · have h := h.1 hc
        refine gw_iload_n (pc := 60) o d_M_work_60 rfl 1 rfl ?_
        refine gw_aload_n (pc := 61) o d_M_work_61 rfl 0 rfl ?_
        refine gM_get_number (pc := 62) o q_553 d_M_work_62 ?_
        refine gw_iload (pc := 65) o d_M_work_65 4 rfl ?_
        have hi := h.1
        have h := h.2
        refine gM_ald_number (pc := 67) o hi d_M_work_67 ?_
        refine gw_ishr (pc := 68) o d_M_work_68 ?_
        refine gw_iconst (pc := 69) (v := (1 : Int32)) o d_M_work_69 (by decide) ?_
        refine gw_iand (pc := 70) o d_M_work_70 ?_
        refine gw_goto (pc := 71) (tgt := 75) o d_M_work_71 (by decide) ?_
        exact gw_sub (lv' := [(0, .ref (τ.2.2 81)), (1, .int x1), (2, .int x2), (3, .int x3), (4, .int x4)]) [0, 1, 2, 3, 4] rfl (wk_M_work_b75 o hk10 h)
    · have h := h.1 hc
      refine gw_iload_n (pc := 35) o d_M_work_35 rfl 2 rfl ?_
      refine gw_aload_n (pc := 36) o d_M_work_36 rfl 0 rfl ?_
      refine gM_get_number (pc := 37) o q_553 d_M_work_37 ?_
      refine gw_iload (pc := 40) o d_M_work_40 4 rfl ?_
      have hi := h.1
      have h := h.2
      refine gM_ald_number (pc := 42) o hi d_M_work_42 ?_
      refine gw_ishr (pc := 43) o d_M_work_43 ?_
      refine gw_iconst (pc := 44) (v := (1 : Int32)) o d_M_work_44 (by decide) ?_
      refine gw_iand (pc := 45) o d_M_work_45 ?_
      refine gw_goto (pc := 46) (tgt := 75) o d_M_work_46 (by decide) ?_
      exact gw_sub (lv' := [(0, .ref (τ.2.2 81)), (1, .int x1), (2, .int x2), (3, .int x3), (4, .int x4)]) [0, 1, 2, 3, 4] rfl (wk_M_work_b75 o hk10 h)
def M_work_L10 (Z : xF → (Nat → Int64) → Prop) (M : xF) (J : (Nat → Int64)) (x1 : Int32) (x2 : Int32) (x3 : Int32) (x4 : Int32) : Prop := LOOP2 (fun k10 x4 M => M_work_b10 Z k10 M J x1 x2 x3 x4) x4 M
theorem wk_M_work_L10 {κ : Cx} {τ : xT} {Z : xF → (Nat → Int64) → Prop} {M : xF} {J : (Nat → Int64)} {x1 : Int32} {x2 : Int32} {x3 : Int32} {x4 : Int32} (o : OKc κ (wdM τ) 6 b_M_work "StateExplorerModel" none (xR 2)) (h : M_work_L10 Z M J x1 x2 x3 x4) : GW κ (wdM τ) 6 (0, 0) (xMQ κ (wdM τ) (xR 2) (z12_v Z)) (M, J) 10 [(0, .ref (τ.2.2 81)), (1, .int x1), (2, .int x2), (3, .int x3), (4, .int x4)] [] := by
  unfold M_work_L10 at h
  exact LOOP2.use (G := fun x4 M => GW κ (wdM τ) 6 (0, 0) (xMQ κ (wdM τ) (xR 2) (z12_v Z)) (M, J) 10 [(0, .ref (τ.2.2 81)), (1, .int x1), (2, .int x2), (3, .int x3), (4, .int x4)] []) (fun k10 x4 M hk10 h => wk_M_work_b10 o hk10 h) h
def M_work_b0 (Z : xF → (Nat → Int64) → Prop) (M : xF) (J : (Nat → Int64)) (x1 : Int32) (x2 : Int32) : Prop := ∀ x3_6 : Int32, x3_6 = ((16 : Int32) * x1) + x2 → (M_work_L10 Z M J x1 x2 x3_6 (0 : Int32))
set_option maxRecDepth 10000 in
theorem wk_M_work_b0 {κ : Cx} {τ : xT} {Z : xF → (Nat → Int64) → Prop} {M : xF} {J : (Nat → Int64)} {x1 : Int32} {x2 : Int32} (o : OKc κ (wdM τ) 6 b_M_work "StateExplorerModel" none (xR 2)) (h : M_work_b0 Z M J x1 x2) : GW κ (wdM τ) 6 (0, 0) (xMQ κ (wdM τ) (xR 2) (z12_v Z)) (M, J) 0 [(0, .ref (τ.2.2 81)), (1, .int x1), (2, .int x2)] [] := by
  unfold M_work_b0 at h
  refine gw_bipush (pc := 0) (v := (16 : Int32)) o d_M_work_0 (by decide) ?_
  refine gw_iload_n (pc := 2) o d_M_work_2 rfl 1 rfl ?_
  refine gw_imul (pc := 3) o d_M_work_3 ?_
  refine gw_iload_n (pc := 4) o d_M_work_4 rfl 2 rfl ?_
  refine gw_iadd (pc := 5) o d_M_work_5 ?_
  refine gw_topi (fun x3_6 ex3_6 => ?_)
  have h := h x3_6 ex3_6
  refine gw_istore_n (pc := 6) (lv' := [(3, .int x3_6), (0, .ref (τ.2.2 81)), (1, .int x1), (2, .int x2)]) o d_M_work_6 rfl (by decide) rfl ?_
  refine gw_iconst (pc := 7) (v := (0 : Int32)) o d_M_work_7 (by decide) ?_
  refine gw_istore (pc := 8) (lv' := [(4, .int (0 : Int32)), (3, .int x3_6), (0, .ref (τ.2.2 81)), (1, .int x1), (2, .int x2)]) o d_M_work_8 (by decide) rfl ?_
  exact gw_sub (lv' := [(0, .ref (τ.2.2 81)), (1, .int x1), (2, .int x2), (3, .int x3_6), (4, .int (0 : Int32))]) [2, 3, 4, 1, 0] rfl (wk_M_work_L10 o h)
def w_M_work  (M : xF) (J : (Nat → Int64)) (x1 : Int32) (x2 : Int32) (Z : xF → (Nat → Int64) → Prop) : Prop := M_work_b0  Z M J x1 x2
theorem ct_M_work {l : Launch} {τ : xT} {M : xF} {J : (Nat → Int64)} {x1 : Int32} {x2 : Int32} {Z : xF → (Nat → Int64) → Prop} (hD : xD (wdM τ)) (h : w_M_work  M J x1 x2 Z) : CT l (wdM τ) y_M_work (.code y_M_work b_M_work 6 none) (xR 2) [.ref (τ.2.2 81), .int x1, .int x2] (M, J) (z12_v Z) := by
  subst_vars
  exact CT.of (by decide) (Nat.le_of_ble_eq_true rfl) hD (fun κ hl ha o => gw_sub (lv' := [(0, .ref (τ.2.2 81)), (1, .int x1), (2, .int x2)]) [0, 1, 2] rfl (wk_M_work_b0 o h))
def M_states_b0 (Z : Int32 → Prop) (M : xF) (J : (Nat → Int64)) : Prop := Z ((1 : Int32) <<< ((M 21 4) &&& 31))
set_option maxRecDepth 10000 in
theorem wk_M_states_b0 {κ : Cx} {τ : xT} {Z : Int32 → Prop} {M : xF} {J : (Nat → Int64)} (o : OKc κ (wdM τ) 1 b_M_states "StateExplorerModel" (some .int) (xR 0)) (h : M_states_b0 Z M J) : GW κ (wdM τ) 1 (0, 0) (xMQ κ (wdM τ) (xR 0) (zp_i (M, J) Z)) (M, J) 0 [(0, .ref (τ.2.2 81))] [] := by
  unfold M_states_b0 at h
  refine gw_iconst (pc := 0) (v := (1 : Int32)) o d_M_states_0 (by decide) ?_
  refine gw_aload_n (pc := 1) o d_M_states_1 rfl 0 rfl ?_
  refine gM_get_latches (pc := 2) o q_550 d_M_states_2 ?_
  refine gw_ishl (pc := 5) o d_M_states_5 ?_
  exact gw_iret (pc := 6) o ⟨Nat.le_refl _, Nat.le_refl _⟩ (zp_i.mk h) d_M_states_6
def w_M_states  (M : xF) (J : (Nat → Int64))  (Z : Int32 → Prop) : Prop := M_states_b0  Z M J
theorem ct_M_states {l : Launch} {τ : xT} {M : xF} {J : (Nat → Int64)}  {Z : Int32 → Prop} (hD : xD (wdM τ)) (h : w_M_states  M J Z) : CT l (wdM τ) y_M_states (.code y_M_states b_M_states 1 (some .int)) (xR 0) [.ref (τ.2.2 81)] (M, J) (zp_i (M, J) Z) := by
  subst_vars
  exact CT.of (by decide) (Nat.le_of_ble_eq_true rfl) hD (fun κ hl ha o => gw_sub (lv' := [(0, .ref (τ.2.2 81))]) [0] rfl (wk_M_states_b0 o h))
def M_choices_b0 (Z : Int32 → Prop) (M : xF) (J : (Nat → Int64)) : Prop := Z ((1 : Int32) <<< ((M 21 3) &&& 31))
set_option maxRecDepth 10000 in
theorem wk_M_choices_b0 {κ : Cx} {τ : xT} {Z : Int32 → Prop} {M : xF} {J : (Nat → Int64)} (o : OKc κ (wdM τ) 1 b_M_choices "StateExplorerModel" (some .int) (xR 0)) (h : M_choices_b0 Z M J) : GW κ (wdM τ) 1 (0, 0) (xMQ κ (wdM τ) (xR 0) (zp_i (M, J) Z)) (M, J) 0 [(0, .ref (τ.2.2 81))] [] := by
  unfold M_choices_b0 at h
  refine gw_iconst (pc := 0) (v := (1 : Int32)) o d_M_choices_0 (by decide) ?_
  refine gw_aload_n (pc := 1) o d_M_choices_1 rfl 0 rfl ?_
  refine gM_get_inputs (pc := 2) o q_549 d_M_choices_2 ?_
  refine gw_ishl (pc := 5) o d_M_choices_5 ?_
  exact gw_iret (pc := 6) o ⟨Nat.le_refl _, Nat.le_refl _⟩ (zp_i.mk h) d_M_choices_6
def w_M_choices  (M : xF) (J : (Nat → Int64))  (Z : Int32 → Prop) : Prop := M_choices_b0  Z M J
theorem ct_M_choices {l : Launch} {τ : xT} {M : xF} {J : (Nat → Int64)}  {Z : Int32 → Prop} (hD : xD (wdM τ)) (h : w_M_choices  M J Z) : CT l (wdM τ) y_M_choices (.code y_M_choices b_M_choices 1 (some .int)) (xR 0) [.ref (τ.2.2 81)] (M, J) (zp_i (M, J) Z) := by
  subst_vars
  exact CT.of (by decide) (Nat.le_of_ble_eq_true rfl) hD (fun κ hl ha o => gw_sub (lv' := [(0, .ref (τ.2.2 81))]) [0] rfl (wk_M_choices_b0 o h))
