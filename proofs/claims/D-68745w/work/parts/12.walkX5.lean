/-! walks, printed by mk.py -/
def X_find_b171 (Z : xF → xF → Prop) (k124 : Int32 → Int32 → xF → Prop) (k133 : Int32 → Prop) (E : xF) (N : xF) (x1 : Int32) (x2 : Int32) (x3 : Int32) (x4 : Int32) (x5 : Int32) : Prop := ∀ x5_171 : Int32, x5_171 = x5 + (1 : Int32) → (k133 x5_171)
set_option maxRecDepth 10000 in
theorem wk_X_find_b171 {κ : Cx} {τ : xT} {Z : xF → xF → Prop} {k124 : Int32 → Int32 → xF → Prop} {k133 : Int32 → Prop} {E : xF} {N : xF} {x1 : Int32} {x2 : Int32} {x3 : Int32} {x4 : Int32} {x5 : Int32} (o : OKc κ (wdX τ) 6 b_X_find "StateExplorer" none (xR 37)) (hk124 : ∀ (x3 : Int32) (x4 : Int32) (E : xF), k124 x3 x4 E → GW κ (wdX τ) 6 (0, 0) (xMQ κ (wdX τ) (xR 37) (z12_v Z)) (E, N) 124 [(0, .ref (τ.2.2 30)), (1, .int x1), (2, .int x2), (3, .int x3), (4, .int x4)] []) (hk133 : ∀ (x5 : Int32), k133 x5 → GW κ (wdX τ) 6 (0, 0) (xMQ κ (wdX τ) (xR 37) (z12_v Z)) (E, N) 133 [(0, .ref (τ.2.2 30)), (1, .int x1), (2, .int x2), (3, .int x3), (4, .int x4), (5, .int x5)] []) (h : X_find_b171 Z k124 k133 E N x1 x2 x3 x4 x5) : GW κ (wdX τ) 6 (0, 0) (xMQ κ (wdX τ) (xR 37) (z12_v Z)) (E, N) 171 [(0, .ref (τ.2.2 30)), (1, .int x1), (2, .int x2), (3, .int x3), (4, .int x4), (5, .int x5)] [] := by
  unfold X_find_b171 at h
  refine gw_iincN (pc := 171) (c := (1 : Int32)) (lw := fun x5_171 => [(5, .int x5_171), (0, .ref (τ.2.2 30)), (1, .int x1), (2, .int x2), (3, .int x3), (4, .int x4)]) o d_X_find_171 (by decide) 5 rfl (by decide) (fun _ => rfl) (fun x5_171 ex5_171 => ?_)
  have h := h x5_171 ex5_171
  refine gw_goto (pc := 174) (tgt := 133) o d_X_find_174 (by decide) ?_
  exact gw_sub (lv' := [(0, .ref (τ.2.2 30)), (1, .int x1), (2, .int x2), (3, .int x3), (4, .int x4), (5, .int x5_171)]) [1, 2, 3, 4, 5, 0] rfl (hk133 _ h)
def X_find_b133 (Z : xF → xF → Prop) (k124 : Int32 → Int32 → xF → Prop) (k133 : Int32 → Prop) (E : xF) (N : xF) (x1 : Int32) (x2 : Int32) (x3 : Int32) (x4 : Int32) (x5 : Int32) : Prop := w_X_at E N (E 30 20) x3 x5 (fun r141 => ((r141 = 0) → (X_find_b171 Z k124 k133 E N x1 x2 x3 x4 x5)) ∧ (¬ (r141 = 0) → (vp_in (x4 + (1 : Int32)) 256 ∧ (w_X_nextOf E N x3 x5 (fun r161 => w_X_at E N (E 29 (x4 + (1 : Int32)).toNatClampNeg) r161 (0 : Int32) (fun r165 => ((r165 = 0) → (X_find_b171 Z k124 k133 E N x1 x2 x3 x4 x5)) ∧ (¬ (r165 = 0) → (vp_in x4 256 ∧ (∀ E_185 : xF, E_185 = xs E 28 x4.toNatClampNeg x5 → (w_X_nextOf E_185 N x3 x5 (fun r190 => ∀ x4_194 : Int32, x4_194 = x4 + (1 : Int32) → (k124 r190 x4_194 E_185))))))))))))
set_option maxRecDepth 10000 in
theorem wk_X_find_b133 {κ : Cx} {τ : xT} {Z : xF → xF → Prop} {k124 : Int32 → Int32 → xF → Prop} {k133 : Int32 → Prop} {E : xF} {N : xF} {x1 : Int32} {x2 : Int32} {x3 : Int32} {x4 : Int32} {x5 : Int32} (o : OKc κ (wdX τ) 6 b_X_find "StateExplorer" none (xR 37)) (hk124 : ∀ (x3 : Int32) (x4 : Int32) (E : xF), k124 x3 x4 E → GW κ (wdX τ) 6 (0, 0) (xMQ κ (wdX τ) (xR 37) (z12_v Z)) (E, N) 124 [(0, .ref (τ.2.2 30)), (1, .int x1), (2, .int x2), (3, .int x3), (4, .int x4)] []) (hk133 : ∀ (x5 : Int32), k133 x5 → GW κ (wdX τ) 6 (0, 0) (xMQ κ (wdX τ) (xR 37) (z12_v Z)) (E, N) 133 [(0, .ref (τ.2.2 30)), (1, .int x1), (2, .int x2), (3, .int x3), (4, .int x4), (5, .int x5)] []) (h : X_find_b133 Z k124 k133 E N x1 x2 x3 x4 x5) : GW κ (wdX τ) 6 (0, 0) (xMQ κ (wdX τ) (xR 37) (z12_v Z)) (E, N) 133 [(0, .ref (τ.2.2 30)), (1, .int x1), (2, .int x2), (3, .int x3), (4, .int x4), (5, .int x5)] [] := by
  unfold X_find_b133 at h
  refine gw_aload_n (pc := 133) o d_X_find_133 rfl 0 rfl ?_
  refine gw_aload_n (pc := 134) o d_X_find_134 rfl 0 rfl ?_
  refine gE_get_settles (pc := 135) o q_100 d_X_find_135 ?_
  refine gw_iload_n (pc := 138) o d_X_find_138 rfl 3 rfl ?_
  refine gw_iload (pc := 139) o d_X_find_139 5 rfl ?_
  refine gw_callV (pc := 141) (b := τ.2.2 30) (As := [.int (E 30 20), .int x3, .int x5]) (st := []) o (ct_X_at o.hD h) mi_X_at q_301 q_303 qs_16 0 rfl rfl (xRo_of (by omega) (by decide)) rfl rfl (Nat.le_of_ble_eq_true rfl) d_X_find_141 (kk_p_i rfl (fun r141 h => ?_))
  refine gw_if_eq (pc := 144) (tgt := 171) o d_X_find_144 (by decide) (fun hc => ?_) (fun hc => ?_)
  · have h := h.1 hc
    exact gw_sub (lv' := [(0, .ref (τ.2.2 30)), (1, .int x1), (2, .int x2), (3, .int x3), (4, .int x4), (5, .int x5)]) [0, 1, 2, 3, 4, 5] rfl (wk_X_find_b171 o hk124 hk133 h)
  · have h := h.2 hc
    refine gw_aload_n (pc := 147) o d_X_find_147 rfl 0 rfl ?_
    refine gw_aload_n (pc := 148) o d_X_find_148 rfl 0 rfl ?_
    refine gE_get_through (pc := 149) o q_109 d_X_find_149 ?_
    refine gw_iload (pc := 152) o d_X_find_152 4 rfl ?_
    refine gw_iconst (pc := 154) (v := (1 : Int32)) o d_X_find_154 (by decide) ?_
    refine gw_iadd (pc := 155) o d_X_find_155 ?_
    have hi := h.1
    have h := h.2
    refine gE_ald_through (pc := 156) o hi d_X_find_156 ?_
    refine gw_aload_n (pc := 157) o d_X_find_157 rfl 0 rfl ?_
    refine gw_iload_n (pc := 158) o d_X_find_158 rfl 3 rfl ?_
    refine gw_iload (pc := 159) o d_X_find_159 5 rfl ?_
    refine gw_callV (pc := 161) (b := τ.2.2 30) (As := [.int x3, .int x5]) (st := [.int (E 29 (x4 + (1 : Int32)).toNatClampNeg), .ref (τ.2.2 30)]) o (ct_X_nextOf o.hD h) mi_X_nextOf q_313 q_315 qs_19 0 rfl rfl (xRo_of (by omega) (by decide)) rfl rfl (Nat.le_of_ble_eq_true rfl) d_X_find_161 (kk_p_i rfl (fun r161 h => ?_))
    refine gw_iconst (pc := 164) (v := (0 : Int32)) o d_X_find_164 (by decide) ?_
    refine gw_callV (pc := 165) (b := τ.2.2 30) (As := [.int (E 29 (x4 + (1 : Int32)).toNatClampNeg), .int r161, .int (0 : Int32)]) (st := []) o (ct_X_at o.hD h) mi_X_at q_301 q_303 qs_16 0 rfl rfl (xRo_of (by omega) (by decide)) rfl rfl (Nat.le_of_ble_eq_true rfl) d_X_find_165 (kk_p_i rfl (fun r165 h => ?_))
    refine gw_if_ne (pc := 168) (tgt := 177) o d_X_find_168 (by decide) (fun hc => ?_) (fun hc => ?_)
    · have h := h.2 hc
      refine gw_aload_n (pc := 177) o d_X_find_177 rfl 0 rfl ?_
      refine gE_get_steps (pc := 178) o q_108 d_X_find_178 ?_
      refine gw_iload (pc := 181) o d_X_find_181 4 rfl ?_
      refine gw_iload (pc := 183) o d_X_find_183 5 rfl ?_
      have hi := h.1
      have h := h.2
      refine gE_ast_steps (pc := 185) o hi d_X_find_185 (fun E_185 eE_185 => ?_)
      have h := h E_185 eE_185
      refine gw_aload_n (pc := 186) o d_X_find_186 rfl 0 rfl ?_
      refine gw_iload_n (pc := 187) o d_X_find_187 rfl 3 rfl ?_
      refine gw_iload (pc := 188) o d_X_find_188 5 rfl ?_
      refine gw_callV (pc := 190) (b := τ.2.2 30) (As := [.int x3, .int x5]) (st := []) o (ct_X_nextOf o.hD h) mi_X_nextOf q_313 q_315 qs_19 0 rfl rfl (xRo_of (by omega) (by decide)) rfl rfl (Nat.le_of_ble_eq_true rfl) d_X_find_190 (kk_p_i rfl (fun r190 h => ?_))
      refine gw_istore_n (pc := 193) (lv' := [(3, .int r190), (0, .ref (τ.2.2 30)), (1, .int x1), (2, .int x2), (4, .int x4), (5, .int x5)]) o d_X_find_193 rfl (by decide) rfl ?_
      refine gw_iincN (pc := 194) (c := (1 : Int32)) (lw := fun x4_194 => [(4, .int x4_194), (3, .int r190), (0, .ref (τ.2.2 30)), (1, .int x1), (2, .int x2), (5, .int x5)]) o d_X_find_194 (by decide) 4 rfl (by decide) (fun _ => rfl) (fun x4_194 ex4_194 => ?_)
      have h := h x4_194 ex4_194
      refine gw_goto (pc := 197) (tgt := 124) o d_X_find_197 (by decide) ?_
      exact gw_sub (lv' := [(0, .ref (τ.2.2 30)), (1, .int x1), (2, .int x2), (3, .int r190), (4, .int x4_194)]) [2, 3, 4, 1, 0] rfl (hk124 _ _ _ h)
    · have h := h.1 hc
      exact gw_sub (lv' := [(0, .ref (τ.2.2 30)), (1, .int x1), (2, .int x2), (3, .int x3), (4, .int x4), (5, .int x5)]) [0, 1, 2, 3, 4, 5] rfl (wk_X_find_b171 o hk124 hk133 h)
def X_find_L133 (Z : xF → xF → Prop) (k124 : Int32 → Int32 → xF → Prop) (E : xF) (N : xF) (x1 : Int32) (x2 : Int32) (x3 : Int32) (x4 : Int32) (x5 : Int32) : Prop := LOOP1 (fun k133 x5 => X_find_b133 Z k124 k133 E N x1 x2 x3 x4 x5) x5
theorem wk_X_find_L133 {κ : Cx} {τ : xT} {Z : xF → xF → Prop} {k124 : Int32 → Int32 → xF → Prop} {E : xF} {N : xF} {x1 : Int32} {x2 : Int32} {x3 : Int32} {x4 : Int32} {x5 : Int32} (o : OKc κ (wdX τ) 6 b_X_find "StateExplorer" none (xR 37)) (hk124 : ∀ (x3 : Int32) (x4 : Int32) (E : xF), k124 x3 x4 E → GW κ (wdX τ) 6 (0, 0) (xMQ κ (wdX τ) (xR 37) (z12_v Z)) (E, N) 124 [(0, .ref (τ.2.2 30)), (1, .int x1), (2, .int x2), (3, .int x3), (4, .int x4)] []) (h : X_find_L133 Z k124 E N x1 x2 x3 x4 x5) : GW κ (wdX τ) 6 (0, 0) (xMQ κ (wdX τ) (xR 37) (z12_v Z)) (E, N) 133 [(0, .ref (τ.2.2 30)), (1, .int x1), (2, .int x2), (3, .int x3), (4, .int x4), (5, .int x5)] [] := by
  unfold X_find_L133 at h
  exact LOOP1.use (G := fun x5 => GW κ (wdX τ) 6 (0, 0) (xMQ κ (wdX τ) (xR 37) (z12_v Z)) (E, N) 133 [(0, .ref (τ.2.2 30)), (1, .int x1), (2, .int x2), (3, .int x3), (4, .int x4), (5, .int x5)] []) (fun k133 x5 hk133 h => wk_X_find_b133 o hk124 hk133 h) h
def X_find_b124 (Z : xF → xF → Prop) (k124 : Int32 → Int32 → xF → Prop) (E : xF) (N : xF) (x1 : Int32) (x2 : Int32) (x3 : Int32) (x4 : Int32) : Prop := ((x2 ≤ x4) → (∀ E_202 : xF, E_202 = xs E 30 27 x1 → (Z E_202 N))) ∧ (¬ (x2 ≤ x4) → (X_find_L133 Z k124 E N x1 x2 x3 x4 (0 : Int32)))
set_option maxRecDepth 10000 in
theorem wk_X_find_b124 {κ : Cx} {τ : xT} {Z : xF → xF → Prop} {k124 : Int32 → Int32 → xF → Prop} {E : xF} {N : xF} {x1 : Int32} {x2 : Int32} {x3 : Int32} {x4 : Int32} (o : OKc κ (wdX τ) 6 b_X_find "StateExplorer" none (xR 37)) (hk124 : ∀ (x3 : Int32) (x4 : Int32) (E : xF), k124 x3 x4 E → GW κ (wdX τ) 6 (0, 0) (xMQ κ (wdX τ) (xR 37) (z12_v Z)) (E, N) 124 [(0, .ref (τ.2.2 30)), (1, .int x1), (2, .int x2), (3, .int x3), (4, .int x4)] []) (h : X_find_b124 Z k124 E N x1 x2 x3 x4) : GW κ (wdX τ) 6 (0, 0) (xMQ κ (wdX τ) (xR 37) (z12_v Z)) (E, N) 124 [(0, .ref (τ.2.2 30)), (1, .int x1), (2, .int x2), (3, .int x3), (4, .int x4)] [] := by
  unfold X_find_b124 at h
  refine gw_iload (pc := 124) o d_X_find_124 4 rfl ?_
  refine gw_iload_n (pc := 126) o d_X_find_126 rfl 2 rfl ?_
  refine gw_icmp_ge (pc := 127) (tgt := 200) o d_X_find_127 (by decide) (fun hc => ?_) (fun hc => ?_)
  · have h := h.1 hc
    refine gw_aload_n (pc := 200) o d_X_find_200 rfl 0 rfl ?_
    refine gw_iload_n (pc := 201) o d_X_find_201 rfl 1 rfl ?_
    refine gE_put_wayTo (pc := 202) o q_107 d_X_find_202 (fun E_202 eE_202 => ?_)
    have h := h E_202 eE_202
    exact gw_vret (pc := 205) o ⟨Nat.le_refl _, Nat.le_refl _⟩ (z12_v.mk h) d_X_find_205
  · have h := h.2 hc
    refine gw_iconst (pc := 130) (v := (0 : Int32)) o d_X_find_130 (by decide) ?_
    refine gw_istore (pc := 131) (lv' := [(5, .int (0 : Int32)), (0, .ref (τ.2.2 30)), (1, .int x1), (2, .int x2), (3, .int x3), (4, .int x4)]) o d_X_find_131 (by decide) rfl ?_
    exact gw_sub (lv' := [(0, .ref (τ.2.2 30)), (1, .int x1), (2, .int x2), (3, .int x3), (4, .int x4), (5, .int (0 : Int32))]) [1, 2, 3, 4, 5, 0] rfl (wk_X_find_L133 o hk124 h)
def X_find_L124 (Z : xF → xF → Prop) (E : xF) (N : xF) (x1 : Int32) (x2 : Int32) (x3 : Int32) (x4 : Int32) : Prop := LOOP3 (fun k124 x3 x4 E => X_find_b124 Z k124 E N x1 x2 x3 x4) x3 x4 E
theorem wk_X_find_L124 {κ : Cx} {τ : xT} {Z : xF → xF → Prop} {E : xF} {N : xF} {x1 : Int32} {x2 : Int32} {x3 : Int32} {x4 : Int32} (o : OKc κ (wdX τ) 6 b_X_find "StateExplorer" none (xR 37)) (h : X_find_L124 Z E N x1 x2 x3 x4) : GW κ (wdX τ) 6 (0, 0) (xMQ κ (wdX τ) (xR 37) (z12_v Z)) (E, N) 124 [(0, .ref (τ.2.2 30)), (1, .int x1), (2, .int x2), (3, .int x3), (4, .int x4)] [] := by
  unfold X_find_L124 at h
  exact LOOP3.use (G := fun x3 x4 E => GW κ (wdX τ) 6 (0, 0) (xMQ κ (wdX τ) (xR 37) (z12_v Z)) (E, N) 124 [(0, .ref (τ.2.2 30)), (1, .int x1), (2, .int x2), (3, .int x3), (4, .int x4)] []) (fun k124 x3 x4 E hk124 h => wk_X_find_b124 o hk124 h) h
def X_find_b15 (Z : xF → xF → Prop) (k15 : Int32 → xF → xF → Prop) (E : xF) (N : xF) (x1 : Int32) (x2 : Int32) (x3 : Int32) : Prop := ((x3 < 0) → (X_find_L124 Z E N x1 x2 (0 : Int32) (0 : Int32))) ∧ (¬ (x3 < 0) → (w_X_begin E N (fun N_20 => vp_in (x3 + (1 : Int32)) 256 ∧ (w_X_before 16 E N_20 (E 29 (x3 + (1 : Int32)).toNatClampNeg) (fun r44 N_44 => ∀ E_47 : xF, E_47 = xs E 24 (0 : Int32).toNatClampNeg r44 → (w_X_and E_47 N_44 (E_47 24 (0 : Int32).toNatClampNeg) (E_47 30 20) (fun r64 E_64 N_64 => ∀ E_67 : xF, E_67 = xs E_64 24 (0 : Int32).toNatClampNeg r64 → (w_X_begin E_67 N_64 (fun N_69 => w_X_anyChoice 16 N_69 (E_67 24 (0 : Int32).toNatClampNeg) (fun r87 N_87 => ∀ E_90 : xF, E_90 = xs E_67 24 (0 : Int32).toNatClampNeg r87 → (vp_in x3 256 ∧ (w_X_and E_90 N_87 (E_90 24 (0 : Int32).toNatClampNeg) (E_90 17 x3.toNatClampNeg) (fun r109 E_109 N_109 => vp_in x3 256 ∧ (∀ E_112 : xF, E_112 = xs E_109 29 x3.toNatClampNeg r109 → (∀ x3_113 : Int32, x3_113 = x3 + (-1 : Int32) → (k15 x3_113 E_112 N_109))))))))))))))))
set_option maxRecDepth 10000 in
theorem wk_X_find_b15 {κ : Cx} {τ : xT} {Z : xF → xF → Prop} {k15 : Int32 → xF → xF → Prop} {E : xF} {N : xF} {x1 : Int32} {x2 : Int32} {x3 : Int32} (o : OKc κ (wdX τ) 6 b_X_find "StateExplorer" none (xR 37)) (hk15 : ∀ (x3 : Int32) (E : xF) (N : xF), k15 x3 E N → GW κ (wdX τ) 6 (0, 0) (xMQ κ (wdX τ) (xR 37) (z12_v Z)) (E, N) 15 [(0, .ref (τ.2.2 30)), (1, .int x1), (2, .int x2), (3, .int x3)] []) (h : X_find_b15 Z k15 E N x1 x2 x3) : GW κ (wdX τ) 6 (0, 0) (xMQ κ (wdX τ) (xR 37) (z12_v Z)) (E, N) 15 [(0, .ref (τ.2.2 30)), (1, .int x1), (2, .int x2), (3, .int x3)] [] := by
  unfold X_find_b15 at h
  refine gw_iload_n (pc := 15) o d_X_find_15 rfl 3 rfl ?_
  refine gw_if_lt (pc := 16) (tgt := 119) o d_X_find_16 (by decide) (fun hc => ?_) (fun hc => ?_)
  · have h := h.1 hc
    refine gw_iconst (pc := 119) (v := (0 : Int32)) o d_X_find_119 (by decide) ?_
    refine gw_istore_n (pc := 120) (lv' := [(3, .int (0 : Int32)), (0, .ref (τ.2.2 30)), (1, .int x1), (2, .int x2)]) o d_X_find_120 rfl (by decide) rfl ?_
    refine gw_iconst (pc := 121) (v := (0 : Int32)) o d_X_find_121 (by decide) ?_
    refine gw_istore (pc := 122) (lv' := [(4, .int (0 : Int32)), (3, .int (0 : Int32)), (0, .ref (τ.2.2 30)), (1, .int x1), (2, .int x2)]) o d_X_find_122 (by decide) rfl ?_
    exact gw_sub (lv' := [(0, .ref (τ.2.2 30)), (1, .int x1), (2, .int x2), (3, .int (0 : Int32)), (4, .int (0 : Int32))]) [2, 3, 4, 1, 0] rfl (wk_X_find_L124 o h)
  · have h := h.2 hc
    refine gw_aload_n (pc := 19) o d_X_find_19 rfl 0 rfl ?_
    refine gw_callV (pc := 20) (b := τ.2.2 30) (As := []) (st := []) o (ct_X_begin o.hD h) mi_X_begin q_193 q_195 qs_3 0 rfl rfl (xRo_of (by omega) (by decide)) rfl rfl (Nat.le_of_ble_eq_true rfl) d_X_find_20 (kk_2_v rfl (fun N_20 h => ?_))
    refine gw_aload_n (pc := 23) o d_X_find_23 rfl 0 rfl ?_
    refine gE_get_spare (pc := 24) o q_104 d_X_find_24 ?_
    refine gw_iconst (pc := 27) (v := (0 : Int32)) o d_X_find_27 (by decide) ?_
    refine gw_aload_n (pc := 28) o d_X_find_28 rfl 0 rfl ?_
    refine gE_get_nodes (pc := 29) o q_80 d_X_find_29 ?_
    refine gw_aload_n (pc := 32) o d_X_find_32 rfl 0 rfl ?_
    refine gE_get_through (pc := 33) o q_109 d_X_find_33 ?_
    refine gw_iload_n (pc := 36) o d_X_find_36 rfl 3 rfl ?_
    refine gw_iconst (pc := 37) (v := (1 : Int32)) o d_X_find_37 (by decide) ?_
    refine gw_iadd (pc := 38) o d_X_find_38 ?_
    have hi := h.1
    have h := h.2
    refine gE_ald_through (pc := 39) o hi d_X_find_39 ?_
    refine gw_aload_n (pc := 40) o d_X_find_40 rfl 0 rfl ?_
    refine gE_get_nexts (pc := 41) o q_96 d_X_find_41 ?_
    refine gw_callS (pc := 44) (As := [.ref (τ.2.2 54), .int (E 29 (x3 + (1 : Int32)).toNatClampNeg), .ref (τ.2.2 16)]) (st := [.int (0 : Int32), .ref (τ.2.2 24)]) o (ct_X_before o.hD h) mi_X_before q_487 q_488 (xRo_of (by omega) (by decide)) rfl rfl (Nat.le_of_ble_eq_true rfl) d_X_find_44 (kk_2_i rfl (fun r44 N_44 h => ?_))
    refine gE_ast_spare (pc := 47) o (by unfold vp_in; decide) d_X_find_47 (fun E_47 eE_47 => ?_)
    have h := h E_47 eE_47
    refine gw_aload_n (pc := 48) o d_X_find_48 rfl 0 rfl ?_
    refine gE_get_spare (pc := 49) o q_104 d_X_find_49 ?_
    refine gw_iconst (pc := 52) (v := (0 : Int32)) o d_X_find_52 (by decide) ?_
    refine gw_aload_n (pc := 53) o d_X_find_53 rfl 0 rfl ?_
    refine gw_aload_n (pc := 54) o d_X_find_54 rfl 0 rfl ?_
    refine gE_get_spare (pc := 55) o q_104 d_X_find_55 ?_
    refine gw_iconst (pc := 58) (v := (0 : Int32)) o d_X_find_58 (by decide) ?_
    refine gE_ald_spare (pc := 59) o (by unfold vp_in; decide) d_X_find_59 ?_
    refine gw_aload_n (pc := 60) o d_X_find_60 rfl 0 rfl ?_
    refine gE_get_settles (pc := 61) o q_100 d_X_find_61 ?_
    refine gw_callV (pc := 64) (b := τ.2.2 30) (As := [.int (E_47 24 (0 : Int32).toNatClampNeg), .int (E_47 30 20)]) (st := [.int (0 : Int32), .ref (τ.2.2 24)]) o (ct_X_and o.hD h) mi_X_and q_273 q_275 qs_10 0 rfl rfl (xRo_of (by omega) (by decide)) rfl rfl (Nat.le_of_ble_eq_true rfl) d_X_find_64 (kk_12_i rfl (fun r64 E_64 N_64 h => ?_))
    refine gE_ast_spare (pc := 67) o (by unfold vp_in; decide) d_X_find_67 (fun E_67 eE_67 => ?_)
    have h := h E_67 eE_67
    refine gw_aload_n (pc := 68) o d_X_find_68 rfl 0 rfl ?_
    refine gw_callV (pc := 69) (b := τ.2.2 30) (As := []) (st := []) o (ct_X_begin o.hD h) mi_X_begin q_193 q_195 qs_3 0 rfl rfl (xRo_of (by omega) (by decide)) rfl rfl (Nat.le_of_ble_eq_true rfl) d_X_find_69 (kk_2_v rfl (fun N_69 h => ?_))
    refine gw_aload_n (pc := 72) o d_X_find_72 rfl 0 rfl ?_
    refine gE_get_spare (pc := 73) o q_104 d_X_find_73 ?_
    refine gw_iconst (pc := 76) (v := (0 : Int32)) o d_X_find_76 (by decide) ?_
    refine gw_aload_n (pc := 77) o d_X_find_77 rfl 0 rfl ?_
    refine gE_get_nodes (pc := 78) o q_80 d_X_find_78 ?_
    refine gw_aload_n (pc := 81) o d_X_find_81 rfl 0 rfl ?_
    refine gE_get_spare (pc := 82) o q_104 d_X_find_82 ?_
    refine gw_iconst (pc := 85) (v := (0 : Int32)) o d_X_find_85 (by decide) ?_
    refine gE_ald_spare (pc := 86) o (by unfold vp_in; decide) d_X_find_86 ?_
    refine gw_callS (pc := 87) (As := [.ref (τ.2.2 54), .int (E_67 24 (0 : Int32).toNatClampNeg)]) (st := [.int (0 : Int32), .ref (τ.2.2 24)]) o (CT.lfN_i (ct_X_anyChoice o.hD.N h) o.hD) mi_X_anyChoice q_490 q_491 (xRo_of (by omega) (by decide)) rfl rfl (Nat.le_of_ble_eq_true rfl) d_X_find_87 (kk_2_i rfl (fun r87 N_87 h => ?_))
    refine gE_ast_spare (pc := 90) o (by unfold vp_in; decide) d_X_find_90 (fun E_90 eE_90 => ?_)
    have h := h E_90 eE_90
    refine gw_aload_n (pc := 91) o d_X_find_91 rfl 0 rfl ?_
    refine gE_get_through (pc := 92) o q_109 d_X_find_92 ?_
    refine gw_iload_n (pc := 95) o d_X_find_95 rfl 3 rfl ?_
    refine gw_aload_n (pc := 96) o d_X_find_96 rfl 0 rfl ?_
    refine gw_aload_n (pc := 97) o d_X_find_97 rfl 0 rfl ?_
    refine gE_get_spare (pc := 98) o q_104 d_X_find_98 ?_
    refine gw_iconst (pc := 101) (v := (0 : Int32)) o d_X_find_101 (by decide) ?_
    refine gE_ald_spare (pc := 102) o (by unfold vp_in; decide) d_X_find_102 ?_
    refine gw_aload_n (pc := 103) o d_X_find_103 rfl 0 rfl ?_
    refine gE_get_layers (pc := 104) o q_97 d_X_find_104 ?_
    refine gw_iload_n (pc := 107) o d_X_find_107 rfl 3 rfl ?_
    have hi := h.1
    have h := h.2
    refine gE_ald_layers (pc := 108) o hi d_X_find_108 ?_
    refine gw_callV (pc := 109) (b := τ.2.2 30) (As := [.int (E_90 24 (0 : Int32).toNatClampNeg), .int (E_90 17 x3.toNatClampNeg)]) (st := [.int x3, .ref (τ.2.2 29)]) o (ct_X_and o.hD h) mi_X_and q_273 q_275 qs_10 0 rfl rfl (xRo_of (by omega) (by decide)) rfl rfl (Nat.le_of_ble_eq_true rfl) d_X_find_109 (kk_12_i rfl (fun r109 E_109 N_109 h => ?_))
    have hi := h.1
    have h := h.2
    refine gE_ast_through (pc := 112) o hi d_X_find_112 (fun E_112 eE_112 => ?_)
    have h := h E_112 eE_112
    refine gw_iincN (pc := 113) (c := (-1 : Int32)) (lw := fun x3_113 => [(3, .int x3_113), (0, .ref (τ.2.2 30)), (1, .int x1), (2, .int x2)]) o d_X_find_113 (by decide) 3 rfl (by decide) (fun _ => rfl) (fun x3_113 ex3_113 => ?_)
    have h := h x3_113 ex3_113
    refine gw_goto (pc := 116) (tgt := 15) o d_X_find_116 (by decide) ?_
    exact gw_sub (lv' := [(0, .ref (τ.2.2 30)), (1, .int x1), (2, .int x2), (3, .int x3_113)]) [1, 2, 3, 0] rfl (hk15 _ _ _ h)
def X_find_L15 (Z : xF → xF → Prop) (E : xF) (N : xF) (x1 : Int32) (x2 : Int32) (x3 : Int32) : Prop := LOOP3 (fun k15 x3 E N => X_find_b15 Z k15 E N x1 x2 x3) x3 E N
theorem wk_X_find_L15 {κ : Cx} {τ : xT} {Z : xF → xF → Prop} {E : xF} {N : xF} {x1 : Int32} {x2 : Int32} {x3 : Int32} (o : OKc κ (wdX τ) 6 b_X_find "StateExplorer" none (xR 37)) (h : X_find_L15 Z E N x1 x2 x3) : GW κ (wdX τ) 6 (0, 0) (xMQ κ (wdX τ) (xR 37) (z12_v Z)) (E, N) 15 [(0, .ref (τ.2.2 30)), (1, .int x1), (2, .int x2), (3, .int x3)] [] := by
  unfold X_find_L15 at h
  exact LOOP3.use (G := fun x3 E N => GW κ (wdX τ) 6 (0, 0) (xMQ κ (wdX τ) (xR 37) (z12_v Z)) (E, N) 15 [(0, .ref (τ.2.2 30)), (1, .int x1), (2, .int x2), (3, .int x3)] []) (fun k15 x3 E N hk15 h => wk_X_find_b15 o hk15 h) h
def X_find_b0 (Z : xF → xF → Prop) (E : xF) (N : xF) (x1 : Int32) (x2 : Int32) : Prop := w_X_only E N x1 (fun r7 E_7 N_7 => vp_in x2 256 ∧ (∀ E_10 : xF, E_10 = xs E_7 29 x2.toNatClampNeg r7 → (∀ x3_14 : Int32, x3_14 = x2 - (1 : Int32) → (X_find_L15 Z E_10 N_7 x1 x2 x3_14))))
set_option maxRecDepth 10000 in
theorem wk_X_find_b0 {κ : Cx} {τ : xT} {Z : xF → xF → Prop} {E : xF} {N : xF} {x1 : Int32} {x2 : Int32} (o : OKc κ (wdX τ) 6 b_X_find "StateExplorer" none (xR 37)) (h : X_find_b0 Z E N x1 x2) : GW κ (wdX τ) 6 (0, 0) (xMQ κ (wdX τ) (xR 37) (z12_v Z)) (E, N) 0 [(0, .ref (τ.2.2 30)), (1, .int x1), (2, .int x2)] [] := by
  unfold X_find_b0 at h
  refine gw_aload_n (pc := 0) o d_X_find_0 rfl 0 rfl ?_
  refine gE_get_through (pc := 1) o q_109 d_X_find_1 ?_
  refine gw_iload_n (pc := 4) o d_X_find_4 rfl 2 rfl ?_
  refine gw_aload_n (pc := 5) o d_X_find_5 rfl 0 rfl ?_
  refine gw_iload_n (pc := 6) o d_X_find_6 rfl 1 rfl ?_
  refine gw_callV (pc := 7) (b := τ.2.2 30) (As := [.int x1]) (st := [.int x2, .ref (τ.2.2 29)]) o (ct_X_only o.hD h) mi_X_only q_286 q_288 qs_13 0 rfl rfl (xRo_of (by omega) (by decide)) rfl rfl (Nat.le_of_ble_eq_true rfl) d_X_find_7 (kk_12_i rfl (fun r7 E_7 N_7 h => ?_))
  have hi := h.1
  have h := h.2
  refine gE_ast_through (pc := 10) o hi d_X_find_10 (fun E_10 eE_10 => ?_)
  have h := h E_10 eE_10
  refine gw_iload_n (pc := 11) o d_X_find_11 rfl 2 rfl ?_
  refine gw_iconst (pc := 12) (v := (1 : Int32)) o d_X_find_12 (by decide) ?_
  refine gw_isub (pc := 13) o d_X_find_13 ?_
  refine gw_topi (fun x3_14 ex3_14 => ?_)
  have h := h x3_14 ex3_14
  refine gw_istore_n (pc := 14) (lv' := [(3, .int x3_14), (0, .ref (τ.2.2 30)), (1, .int x1), (2, .int x2)]) o d_X_find_14 rfl (by decide) rfl ?_
  exact gw_sub (lv' := [(0, .ref (τ.2.2 30)), (1, .int x1), (2, .int x2), (3, .int x3_14)]) [1, 2, 3, 0] rfl (wk_X_find_L15 o h)
def w_X_find  (E : xF) (N : xF) (x1 : Int32) (x2 : Int32) (Z : xF → xF → Prop) : Prop := X_find_b0  Z E N x1 x2
theorem ct_X_find {l : Launch} {τ : xT} {E : xF} {N : xF} {x1 : Int32} {x2 : Int32} {Z : xF → xF → Prop} (hD : xD (wdX τ)) (h : w_X_find  E N x1 x2 Z) : CT l (wdX τ) y_X_find (.code y_X_find b_X_find 6 none) (xR 37) [.ref (τ.2.2 30), .int x1, .int x2] (E, N) (z12_v Z) := by
  subst_vars
  exact CT.of (by decide) (Nat.le_of_ble_eq_true rfl) hD (fun κ hl ha o => gw_sub (lv' := [(0, .ref (τ.2.2 30)), (1, .int x1), (2, .int x2)]) [0, 1, 2] rfl (wk_X_find_b0 o h))
def X_sure_b0 (Z : Int32 → xF → xF → Prop) (E : xF) (N : xF) : Prop := w_X_and E N (E 30 21) (E 30 20) (fun r9 E_9 N_9 => Z r9 E_9 N_9)
set_option maxRecDepth 10000 in
theorem wk_X_sure_b0 {κ : Cx} {τ : xT} {Z : Int32 → xF → xF → Prop} {E : xF} {N : xF} (o : OKc κ (wdX τ) 1 b_X_sure "StateExplorer" (some .int) (xR 21)) (h : X_sure_b0 Z E N) : GW κ (wdX τ) 1 (0, 0) (xMQ κ (wdX τ) (xR 21) (z12_i Z)) (E, N) 0 [(0, .ref (τ.2.2 30))] [] := by
  unfold X_sure_b0 at h
  refine gw_aload_n (pc := 0) o d_X_sure_0 rfl 0 rfl ?_
  refine gw_aload_n (pc := 1) o d_X_sure_1 rfl 0 rfl ?_
  refine gE_get_reached (pc := 2) o q_101 d_X_sure_2 ?_
  refine gw_aload_n (pc := 5) o d_X_sure_5 rfl 0 rfl ?_
  refine gE_get_settles (pc := 6) o q_100 d_X_sure_6 ?_
  refine gw_callV (pc := 9) (b := τ.2.2 30) (As := [.int (E 30 21), .int (E 30 20)]) (st := []) o (ct_X_and o.hD h) mi_X_and q_273 q_275 qs_10 0 rfl rfl (xRo_of (by omega) (by decide)) rfl rfl (Nat.le_of_ble_eq_true rfl) d_X_sure_9 (kk_12_i rfl (fun r9 E_9 N_9 h => ?_))
  exact gw_iret (pc := 12) o ⟨Nat.le_refl _, Nat.le_refl _⟩ (z12_i.mk h) d_X_sure_12
def w_X_sure  (E : xF) (N : xF)  (Z : Int32 → xF → xF → Prop) : Prop := X_sure_b0  Z E N
theorem ct_X_sure {l : Launch} {τ : xT} {E : xF} {N : xF}  {Z : Int32 → xF → xF → Prop} (hD : xD (wdX τ)) (h : w_X_sure  E N Z) : CT l (wdX τ) y_X_sure (.code y_X_sure b_X_sure 1 (some .int)) (xR 21) [.ref (τ.2.2 30)] (E, N) (z12_i Z) := by
  subst_vars
  exact CT.of (by decide) (Nat.le_of_ble_eq_true rfl) hD (fun κ hl ha o => gw_sub (lv' := [(0, .ref (τ.2.2 30))]) [0] rfl (wk_X_sure_b0 o h))
def X_count_b93 (Z : Int32 → xF → xF → Prop) (E : xF) (N : xF) (s0 : Int32) : Prop := Z s0 E N
set_option maxRecDepth 10000 in
theorem wk_X_count_b93 {κ : Cx} {τ : xT} {Z : Int32 → xF → xF → Prop} {E : xF} {N : xF} {s0 : Int32} (o : OKc κ (wdX τ) 2 b_X_count "StateExplorer" (some .int) (xR 22)) (h : X_count_b93 Z E N s0) : GW κ (wdX τ) 2 (0, 0) (xMQ κ (wdX τ) (xR 22) (z12_i Z)) (E, N) 93 [] [.int s0] := by
  unfold X_count_b93 at h
  exact gw_iret (pc := 93) o ⟨Nat.le_refl _, Nat.le_refl _⟩ (z12_i.mk h) d_X_count_93
def X_count_b113 (Z : Int32 → xF → xF → Prop) (E : xF) (N : xF) (s0 : Int32) : Prop := Z s0 E N
set_option maxRecDepth 10000 in
theorem wk_X_count_b113 {κ : Cx} {τ : xT} {Z : Int32 → xF → xF → Prop} {E : xF} {N : xF} {s0 : Int32} (o : OKc κ (wdX τ) 2 b_X_count "StateExplorer" (some .int) (xR 22)) (h : X_count_b113 Z E N s0) : GW κ (wdX τ) 2 (0, 0) (xMQ κ (wdX τ) (xR 22) (z12_i Z)) (E, N) 113 [] [.int s0] := by
  unfold X_count_b113 at h
  exact gw_iret (pc := 113) o ⟨Nat.le_refl _, Nat.le_refl _⟩ (z12_i.mk h) d_X_count_113
def X_count_b129 (Z : Int32 → xF → xF → Prop) (E : xF) (N : xF) (s0 : Int32) : Prop := Z s0 E N
set_option maxRecDepth 10000 in
theorem wk_X_count_b129 {κ : Cx} {τ : xT} {Z : Int32 → xF → xF → Prop} {E : xF} {N : xF} {s0 : Int32} (o : OKc κ (wdX τ) 2 b_X_count "StateExplorer" (some .int) (xR 22)) (h : X_count_b129 Z E N s0) : GW κ (wdX τ) 2 (0, 0) (xMQ κ (wdX τ) (xR 22) (z12_i Z)) (E, N) 129 [] [.int s0] := by
  unfold X_count_b129 at h
  exact gw_iret (pc := 129) o ⟨Nat.le_refl _, Nat.le_refl _⟩ (z12_i.mk h) d_X_count_129
def X_count_b145 (Z : Int32 → xF → xF → Prop) (E : xF) (N : xF) (s0 : Int32) : Prop := Z s0 E N
set_option maxRecDepth 10000 in
theorem wk_X_count_b145 {κ : Cx} {τ : xT} {Z : Int32 → xF → xF → Prop} {E : xF} {N : xF} {s0 : Int32} (o : OKc κ (wdX τ) 2 b_X_count "StateExplorer" (some .int) (xR 22)) (h : X_count_b145 Z E N s0) : GW κ (wdX τ) 2 (0, 0) (xMQ κ (wdX τ) (xR 22) (z12_i Z)) (E, N) 145 [] [.int s0] := by
  unfold X_count_b145 at h
  exact gw_iret (pc := 145) o ⟨Nat.le_refl _, Nat.le_refl _⟩ (z12_i.mk h) d_X_count_145
def X_count_b190 (Z : Int32 → xF → xF → Prop) (E : xF) (N : xF) (s0 : Int32) : Prop := Z s0 E N
set_option maxRecDepth 10000 in
theorem wk_X_count_b190 {κ : Cx} {τ : xT} {Z : Int32 → xF → xF → Prop} {E : xF} {N : xF} {s0 : Int32} (o : OKc κ (wdX τ) 2 b_X_count "StateExplorer" (some .int) (xR 22)) (h : X_count_b190 Z E N s0) : GW κ (wdX τ) 2 (0, 0) (xMQ κ (wdX τ) (xR 22) (z12_i Z)) (E, N) 190 [] [.int s0] := by
  unfold X_count_b190 at h
  exact gw_iret (pc := 190) o ⟨Nat.le_refl _, Nat.le_refl _⟩ (z12_i.mk h) d_X_count_190
def X_count_b0 (Z : Int32 → xF → xF → Prop) (E : xF) (N : xF) (x1 : Int32) : Prop := (x1 = (0 : Int32) → (Z (E 30 1) E N)) ∧ (¬ x1 = (0 : Int32) → ((x1 = (1 : Int32) → (Z (E 30 2) E N)) ∧ (¬ x1 = (1 : Int32) → ((x1 = (2 : Int32) → (Z (E 30 3) E N)) ∧ (¬ x1 = (2 : Int32) → ((x1 = (3 : Int32) → (Z (E 30 4) E N)) ∧ (¬ x1 = (3 : Int32) → ((x1 = (4 : Int32) → (Z (E 30 5) E N)) ∧ (¬ x1 = (4 : Int32) → ((x1 = (5 : Int32) → ((((E 30 13) = 0) → (X_count_b93 Z E N (0 : Int32))) ∧ (¬ ((E 30 13) = 0) → (X_count_b93 Z E N (1 : Int32))))) ∧ (¬ x1 = (5 : Int32) → ((x1 = (6 : Int32) → ((((E 30 13) = 0) → (X_count_b113 Z E N (0 : Int32))) ∧ (¬ ((E 30 13) = 0) → (w_X_states E N (E 30 21) (fun r106 => X_count_b113 Z E N r106))))) ∧ (¬ x1 = (6 : Int32) → ((x1 = (7 : Int32) → ((((E 30 13) = 0) → (X_count_b129 Z E N (0 : Int32))) ∧ (¬ ((E 30 13) = 0) → (X_count_b129 Z E N (E 30 22))))) ∧ (¬ x1 = (7 : Int32) → ((x1 = (8 : Int32) → ((((E 30 13) = 0) → (X_count_b145 Z E N (0 : Int32))) ∧ (¬ ((E 30 13) = 0) → (X_count_b145 Z E N (E 30 23))))) ∧ (¬ x1 = (8 : Int32) → ((x1 = (9 : Int32) → ((((E 30 13) = 0) → (X_count_b190 Z E N (0 : Int32))) ∧ (¬ ((E 30 13) = 0) → (w_X_points 16 N (E 30 21) (0 : Int32) (fun r162 => w_X_sure E N (fun r170 E_170 N_170 => w_X_points 16 N_170 r170 (0 : Int32) (fun r174 => ¬ ((16 : Int32) >>> ((E_170 30 3) &&& 31)) = 0 ∧ (X_count_b190 Z E_170 N_170 ((r162 - r174) / ((16 : Int32) >>> ((E_170 30 3) &&& 31))))))))))) ∧ (¬ x1 = (9 : Int32) → (Z (-1 : Int32) E N))))))))))))))))))))
set_option maxRecDepth 10000 in
theorem wk_X_count_b0 {κ : Cx} {τ : xT} {Z : Int32 → xF → xF → Prop} {E : xF} {N : xF} {x1 : Int32} (o : OKc κ (wdX τ) 2 b_X_count "StateExplorer" (some .int) (xR 22)) (h : X_count_b0 Z E N x1) : GW κ (wdX τ) 2 (0, 0) (xMQ κ (wdX τ) (xR 22) (z12_i Z)) (E, N) 0 [(0, .ref (τ.2.2 30)), (1, .int x1)] [] := by
  unfold X_count_b0 at h
  refine gw_iload_n (pc := 0) o d_X_count_0 rfl 1 rfl ?_
  rcases Classical.em (x1 = (0 : Int32)) with hc0 | hc0
  · have h := h.1 hc0
    refine gw_tableIn (pc := 1) (tgt := 56) (off := 55) o d_X_count_1 (by rw [hc0]; decide) (by rw [hc0]; decide) (by rw [hc0]; rfl) (by decide) ?_
    refine gw_aload_n (pc := 56) o d_X_count_56 rfl 0 rfl ?_
    refine gE_get_gates (pc := 57) o q_81 d_X_count_57 ?_
    exact gw_iret (pc := 60) o ⟨Nat.le_refl _, Nat.le_refl _⟩ (z12_i.mk h) d_X_count_60
  · have h := h.2 hc0
    rcases Classical.em (x1 = (1 : Int32)) with hc1 | hc1
    · have h := h.1 hc1
      refine gw_tableIn (pc := 1) (tgt := 61) (off := 60) o d_X_count_1 (by rw [hc1]; decide) (by rw [hc1]; decide) (by rw [hc1]; rfl) (by decide) ?_
      refine gw_aload_n (pc := 61) o d_X_count_61 rfl 0 rfl ?_
      refine gE_get_feeds (pc := 62) o q_82 d_X_count_62 ?_
      exact gw_iret (pc := 65) o ⟨Nat.le_refl _, Nat.le_refl _⟩ (z12_i.mk h) d_X_count_65
    · have h := h.2 hc1
      rcases Classical.em (x1 = (2 : Int32)) with hc2 | hc2
      · have h := h.1 hc2
        refine gw_tableIn (pc := 1) (tgt := 66) (off := 65) o d_X_count_1 (by rw [hc2]; decide) (by rw [hc2]; decide) (by rw [hc2]; rfl) (by decide) ?_
        refine gw_aload_n (pc := 66) o d_X_count_66 rfl 0 rfl ?_
        refine gE_get_inputs (pc := 67) o q_83 d_X_count_67 ?_
        exact gw_iret (pc := 70) o ⟨Nat.le_refl _, Nat.le_refl _⟩ (z12_i.mk h) d_X_count_70
      · have h := h.2 hc2
        rcases Classical.em (x1 = (3 : Int32)) with hc3 | hc3
        · have h := h.1 hc3
          refine gw_tableIn (pc := 1) (tgt := 71) (off := 70) o d_X_count_1 (by rw [hc3]; decide) (by rw [hc3]; decide) (by rw [hc3]; rfl) (by decide) ?_
          refine gw_aload_n (pc := 71) o d_X_count_71 rfl 0 rfl ?_
          refine gE_get_latches (pc := 72) o q_84 d_X_count_72 ?_
          exact gw_iret (pc := 75) o ⟨Nat.le_refl _, Nat.le_refl _⟩ (z12_i.mk h) d_X_count_75
        · have h := h.2 hc3
          rcases Classical.em (x1 = (4 : Int32)) with hc4 | hc4
          · have h := h.1 hc4
            refine gw_tableIn (pc := 1) (tgt := 76) (off := 75) o d_X_count_1 (by rw [hc4]; decide) (by rw [hc4]; decide) (by rw [hc4]; rfl) (by decide) ?_
            refine gw_aload_n (pc := 76) o d_X_count_76 rfl 0 rfl ?_
            refine gE_get_outputs (pc := 77) o q_85 d_X_count_77 ?_
            exact gw_iret (pc := 80) o ⟨Nat.le_refl _, Nat.le_refl _⟩ (z12_i.mk h) d_X_count_80
          · have h := h.2 hc4
            rcases Classical.em (x1 = (5 : Int32)) with hc5 | hc5
            · have h := h.1 hc5
              refine gw_tableIn (pc := 1) (tgt := 81) (off := 80) o d_X_count_1 (by rw [hc5]; decide) (by rw [hc5]; decide) (by rw [hc5]; rfl) (by decide) ?_
              refine gw_aload_n (pc := 81) o d_X_count_81 rfl 0 rfl ?_
              refine gE_get_explored (pc := 82) o q_93 d_X_count_82 ?_
              refine gw_if_eq (pc := 85) (tgt := 92) o d_X_count_85 (by decide) (fun hc => ?_) (fun hc => ?_)
              · have h := h.1 hc
                refine gw_iconst (pc := 92) (v := (0 : Int32)) o d_X_count_92 (by decide) ?_
                exact gw_sub (lv' := []) [] rfl (wk_X_count_b93 o h)
              · have h := h.2 hc
                refine gw_iconst (pc := 88) (v := (1 : Int32)) o d_X_count_88 (by decide) ?_
                refine gw_goto (pc := 89) (tgt := 93) o d_X_count_89 (by decide) ?_
                exact gw_sub (lv' := []) [] rfl (wk_X_count_b93 o h)
            · have h := h.2 hc5
              rcases Classical.em (x1 = (6 : Int32)) with hc6 | hc6
              · have h := h.1 hc6
                refine gw_tableIn (pc := 1) (tgt := 94) (off := 93) o d_X_count_1 (by rw [hc6]; decide) (by rw [hc6]; decide) (by rw [hc6]; rfl) (by decide) ?_
                refine gw_aload_n (pc := 94) o d_X_count_94 rfl 0 rfl ?_
                refine gE_get_explored (pc := 95) o q_93 d_X_count_95 ?_
                refine gw_if_eq (pc := 98) (tgt := 112) o d_X_count_98 (by decide) (fun hc => ?_) (fun hc => ?_)
                · have h := h.1 hc
                  refine gw_iconst (pc := 112) (v := (0 : Int32)) o d_X_count_112 (by decide) ?_
                  exact gw_sub (lv' := []) [] rfl (wk_X_count_b113 o h)
                · have h := h.2 hc
                  refine gw_aload_n (pc := 101) o d_X_count_101 rfl 0 rfl ?_
                  refine gw_aload_n (pc := 102) o d_X_count_102 rfl 0 rfl ?_
                  refine gE_get_reached (pc := 103) o q_101 d_X_count_103 ?_
                  refine gw_callV (pc := 106) (b := τ.2.2 30) (As := [.int (E 30 21)]) (st := []) o (ct_X_states o.hD h) mi_X_states q_317 q_319 qs_20 0 rfl rfl (xRo_of (by omega) (by decide)) rfl rfl (Nat.le_of_ble_eq_true rfl) d_X_count_106 (kk_p_i rfl (fun r106 h => ?_))
                  refine gw_goto (pc := 109) (tgt := 113) o d_X_count_109 (by decide) ?_
                  exact gw_sub (lv' := []) [] rfl (wk_X_count_b113 o h)
              · have h := h.2 hc6
                rcases Classical.em (x1 = (7 : Int32)) with hc7 | hc7
                · have h := h.1 hc7
                  refine gw_tableIn (pc := 1) (tgt := 114) (off := 113) o d_X_count_1 (by rw [hc7]; decide) (by rw [hc7]; decide) (by rw [hc7]; rfl) (by decide) ?_
                  refine gw_aload_n (pc := 114) o d_X_count_114 rfl 0 rfl ?_
                  refine gE_get_explored (pc := 115) o q_93 d_X_count_115 ?_
                  refine gw_if_eq (pc := 118) (tgt := 128) o d_X_count_118 (by decide) (fun hc => ?_) (fun hc => ?_)
                  · have h := h.1 hc
                    refine gw_iconst (pc := 128) (v := (0 : Int32)) o d_X_count_128 (by decide) ?_
                    exact gw_sub (lv' := []) [] rfl (wk_X_count_b129 o h)
                  · have h := h.2 hc
                    refine gw_aload_n (pc := 121) o d_X_count_121 rfl 0 rfl ?_
                    refine gE_get_farthest (pc := 122) o q_102 d_X_count_122 ?_
                    refine gw_goto (pc := 125) (tgt := 129) o d_X_count_125 (by decide) ?_
                    exact gw_sub (lv' := []) [] rfl (wk_X_count_b129 o h)
                · have h := h.2 hc7
                  rcases Classical.em (x1 = (8 : Int32)) with hc8 | hc8
                  · have h := h.1 hc8
                    refine gw_tableIn (pc := 1) (tgt := 130) (off := 129) o d_X_count_1 (by rw [hc8]; decide) (by rw [hc8]; decide) (by rw [hc8]; rfl) (by decide) ?_
                    refine gw_aload_n (pc := 130) o d_X_count_130 rfl 0 rfl ?_
                    refine gE_get_explored (pc := 131) o q_93 d_X_count_131 ?_
                    refine gw_if_eq (pc := 134) (tgt := 144) o d_X_count_134 (by decide) (fun hc => ?_) (fun hc => ?_)
                    · have h := h.1 hc
                      refine gw_iconst (pc := 144) (v := (0 : Int32)) o d_X_count_144 (by decide) ?_
                      exact gw_sub (lv' := []) [] rfl (wk_X_count_b145 o h)
                    · have h := h.2 hc
                      refine gw_aload_n (pc := 137) o d_X_count_137 rfl 0 rfl ?_
                      refine gE_get_grouped (pc := 138) o q_103 d_X_count_138 ?_
                      refine gw_goto (pc := 141) (tgt := 145) o d_X_count_141 (by decide) ?_
                      exact gw_sub (lv' := []) [] rfl (wk_X_count_b145 o h)
                  · have h := h.2 hc8
                    rcases Classical.em (x1 = (9 : Int32)) with hc9 | hc9
                    · have h := h.1 hc9
                      refine gw_tableIn (pc := 1) (tgt := 146) (off := 145) o d_X_count_1 (by rw [hc9]; decide) (by rw [hc9]; decide) (by rw [hc9]; rfl) (by decide) ?_
                      refine gw_aload_n (pc := 146) o d_X_count_146 rfl 0 rfl ?_
                      refine gE_get_explored (pc := 147) o q_93 d_X_count_147 ?_
                      refine gw_if_eq (pc := 150) (tgt := 189) o d_X_count_150 (by decide) (fun hc => ?_) (fun hc => ?_)
                      · have h := h.1 hc
                        refine gw_iconst (pc := 189) (v := (0 : Int32)) o d_X_count_189 (by decide) ?_
                        exact gw_sub (lv' := []) [] rfl (wk_X_count_b190 o h)
                      · have h := h.2 hc
                        refine gw_aload_n (pc := 153) o d_X_count_153 rfl 0 rfl ?_
                        refine gE_get_nodes (pc := 154) o q_80 d_X_count_154 ?_
                        refine gw_aload_n (pc := 157) o d_X_count_157 rfl 0 rfl ?_
                        refine gE_get_reached (pc := 158) o q_101 d_X_count_158 ?_
                        refine gw_iconst (pc := 161) (v := (0 : Int32)) o d_X_count_161 (by decide) ?_
                        refine gw_callS (pc := 162) (As := [.ref (τ.2.2 54), .int (E 30 21), .int (0 : Int32)]) (st := []) o (CT.lfP_i (ct_X_points o.hD.N h) o.hD) mi_X_points q_321 q_322 (xRo_of (by omega) (by decide)) rfl rfl (Nat.le_of_ble_eq_true rfl) d_X_count_162 (kk_p_i rfl (fun r162 h => ?_))
                        refine gw_aload_n (pc := 165) o d_X_count_165 rfl 0 rfl ?_
                        refine gE_get_nodes (pc := 166) o q_80 d_X_count_166 ?_
                        refine gw_aload_n (pc := 169) o d_X_count_169 rfl 0 rfl ?_
                        refine gw_callV (pc := 170) (b := τ.2.2 30) (As := []) (st := [.ref (τ.2.2 54), .int r162]) o (ct_X_sure o.hD h) mi_X_sure q_328 q_330 qs_21 0 rfl rfl (xRo_of (by omega) (by decide)) rfl rfl (Nat.le_of_ble_eq_true rfl) d_X_count_170 (kk_12_i rfl (fun r170 E_170 N_170 h => ?_))
                        refine gw_iconst (pc := 173) (v := (0 : Int32)) o d_X_count_173 (by decide) ?_
                        refine gw_callS (pc := 174) (As := [.ref (τ.2.2 54), .int r170, .int (0 : Int32)]) (st := [.int r162]) o (CT.lfP_i (ct_X_points o.hD.N h) o.hD) mi_X_points q_321 q_322 (xRo_of (by omega) (by decide)) rfl rfl (Nat.le_of_ble_eq_true rfl) d_X_count_174 (kk_p_i rfl (fun r174 h => ?_))
                        refine gw_isub (pc := 177) o d_X_count_177 ?_
                        refine gw_bipush (pc := 178) (v := (16 : Int32)) o d_X_count_178 (by decide) ?_
                        refine gw_aload_n (pc := 180) o d_X_count_180 rfl 0 rfl ?_
                        refine gE_get_inputs (pc := 181) o q_83 d_X_count_181 ?_
                        refine gw_ishr (pc := 184) o d_X_count_184 ?_
                        have h0 := h.1
                        have h := h.2
                        refine gw_idiv (pc := 185) o d_X_count_185 h0 ?_
                        refine gw_goto (pc := 186) (tgt := 190) o d_X_count_186 (by decide) ?_
                        exact gw_sub (lv' := []) [] rfl (wk_X_count_b190 o h)
                    · have h := h.2 hc9
                      have ho : x1.toInt < 0 ∨ 9 < x1.toInt := by
                        have hn0 : ¬ x1.toInt = 0 := fun e => hc0 (Int32.toInt_inj.mp e)
                        have hn1 : ¬ x1.toInt = 1 := fun e => hc1 (Int32.toInt_inj.mp e)
                        have hn2 : ¬ x1.toInt = 2 := fun e => hc2 (Int32.toInt_inj.mp e)
                        have hn3 : ¬ x1.toInt = 3 := fun e => hc3 (Int32.toInt_inj.mp e)
                        have hn4 : ¬ x1.toInt = 4 := fun e => hc4 (Int32.toInt_inj.mp e)
                        have hn5 : ¬ x1.toInt = 5 := fun e => hc5 (Int32.toInt_inj.mp e)
                        have hn6 : ¬ x1.toInt = 6 := fun e => hc6 (Int32.toInt_inj.mp e)
                        have hn7 : ¬ x1.toInt = 7 := fun e => hc7 (Int32.toInt_inj.mp e)
                        have hn8 : ¬ x1.toInt = 8 := fun e => hc8 (Int32.toInt_inj.mp e)
                        have hn9 : ¬ x1.toInt = 9 := fun e => hc9 (Int32.toInt_inj.mp e)
                        omega
                      refine gw_tableOut (pc := 1) (tgt := 191) o d_X_count_1 ho (by decide) ?_
                      refine gw_iconst (pc := 191) (v := (-1 : Int32)) o d_X_count_191 (by decide) ?_
                      exact gw_iret (pc := 192) o ⟨Nat.le_refl _, Nat.le_refl _⟩ (z12_i.mk h) d_X_count_192
def w_X_count  (E : xF) (N : xF) (x1 : Int32) (Z : Int32 → xF → xF → Prop) : Prop := X_count_b0  Z E N x1
theorem ct_X_count {l : Launch} {τ : xT} {E : xF} {N : xF} {x1 : Int32} {Z : Int32 → xF → xF → Prop} (hD : xD (wdX τ)) (h : w_X_count  E N x1 Z) : CT l (wdX τ) y_X_count (.code y_X_count b_X_count 2 (some .int)) (xR 22) [.ref (τ.2.2 30), .int x1] (E, N) (z12_i Z) := by
  subst_vars
  exact CT.of (by decide) (Nat.le_of_ble_eq_true rfl) hD (fun κ hl ha o => gw_sub (lv' := [(0, .ref (τ.2.2 30)), (1, .int x1)]) [0, 1] rfl (wk_X_count_b0 o h))
