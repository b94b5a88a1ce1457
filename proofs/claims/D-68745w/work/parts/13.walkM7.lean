/-! walks, printed by mk.py -/
def M_count_b73 (Z : Int32 → xF → Prop) (M : xF) (J : (Nat → Int64)) (s0 : Int32) : Prop := Z s0 M
set_option maxRecDepth 10000 in
theorem wk_M_count_b73 {κ : Cx} {τ : xT} {Z : Int32 → xF → Prop} {M : xF} {J : (Nat → Int64)} {s0 : Int32} (o : OKc κ (wdM τ) 8 b_M_count "StateExplorerModel" (some .int) (xR 1)) (h : M_count_b73 Z M J s0) : GW κ (wdM τ) 8 (0, 0) (xMQ κ (wdM τ) (xR 1) (z1_i J Z)) (M, J) 73 [] [.int s0] := by
  unfold M_count_b73 at h
  exact gw_iret (pc := 73) o ⟨Nat.le_refl _, Nat.le_refl _⟩ (z1_i.mk h) d_M_count_73
def M_count_b98 (Z : Int32 → xF → Prop) (M : xF) (J : (Nat → Int64)) (s0 : Int32) : Prop := Z s0 M
set_option maxRecDepth 10000 in
theorem wk_M_count_b98 {κ : Cx} {τ : xT} {Z : Int32 → xF → Prop} {M : xF} {J : (Nat → Int64)} {s0 : Int32} (o : OKc κ (wdM τ) 8 b_M_count "StateExplorerModel" (some .int) (xR 1)) (h : M_count_b98 Z M J s0) : GW κ (wdM τ) 8 (0, 0) (xMQ κ (wdM τ) (xR 1) (z1_i J Z)) (M, J) 98 [] [.int s0] := by
  unfold M_count_b98 at h
  exact gw_iret (pc := 98) o ⟨Nat.le_refl _, Nat.le_refl _⟩ (z1_i.mk h) d_M_count_98
def M_count_b86 (Z : Int32 → xF → Prop) (M : xF) (J : (Nat → Int64)) : Prop := (((M 21 14) = 0) → (M_count_b98 Z M J (0 : Int32))) ∧ (¬ ((M 21 14) = 0) → (M_count_b98 Z M J (1 : Int32)))
set_option maxRecDepth 10000 in
theorem wk_M_count_b86 {κ : Cx} {τ : xT} {Z : Int32 → xF → Prop} {M : xF} {J : (Nat → Int64)} (o : OKc κ (wdM τ) 8 b_M_count "StateExplorerModel" (some .int) (xR 1)) (h : M_count_b86 Z M J) : GW κ (wdM τ) 8 (0, 0) (xMQ κ (wdM τ) (xR 1) (z1_i J Z)) (M, J) 86 [(0, .ref (τ.2.2 81))] [] := by
  unfold M_count_b86 at h
  refine gw_aload_n (pc := 86) o d_M_count_86 rfl 0 rfl ?_
  refine gM_get_explored (pc := 87) o q_560 d_M_count_87 ?_
  refine gw_if_eq (pc := 90) (tgt := 97) o d_M_count_90 (by decide) (fun hc => ?_) (fun hc => ?_)
  · have h := h.1 hc
    refine gw_iconst (pc := 97) (v := (0 : Int32)) o d_M_count_97 (by decide) ?_
    exact gw_sub (lv' := []) [] rfl (wk_M_count_b98 o h)
  · have h := h.2 hc
    refine gw_iconst (pc := 93) (v := (1 : Int32)) o d_M_count_93 (by decide) ?_
    refine gw_goto (pc := 94) (tgt := 98) o d_M_count_94 (by decide) ?_
    exact gw_sub (lv' := []) [] rfl (wk_M_count_b98 o h)
def M_count_b219 (Z : Int32 → xF → Prop) (k112 : Int32 → Int32 → Int32 → Int32 → Int32 → Prop) (k185 : Int32 → Int32 → Prop) (M : xF) (J : (Nat → Int64)) (x1 : Int32) (x2 : Int32) (x3 : Int32) (x4 : Int32) (x6 : Int32) (x7 : Int32) (s0 : Int32) : Prop := ∀ x7_221 : Int32, x7_221 = x7 + (1 : Int32) → (k185 s0 x7_221)
set_option maxRecDepth 10000 in
theorem wk_M_count_b219 {κ : Cx} {τ : xT} {Z : Int32 → xF → Prop} {k112 : Int32 → Int32 → Int32 → Int32 → Int32 → Prop} {k185 : Int32 → Int32 → Prop} {M : xF} {J : (Nat → Int64)} {x1 : Int32} {x2 : Int32} {x3 : Int32} {x4 : Int32} {x6 : Int32} {x7 : Int32} {s0 : Int32} (o : OKc κ (wdM τ) 8 b_M_count "StateExplorerModel" (some .int) (xR 1)) (hk112 : ∀ (x2 : Int32) (x3 : Int32) (x4 : Int32) (x5 : Int32) (x6 : Int32), k112 x2 x3 x4 x5 x6 → GW κ (wdM τ) 8 (0, 0) (xMQ κ (wdM τ) (xR 1) (z1_i J Z)) (M, J) 112 [(0, .ref (τ.2.2 81)), (1, .int x1), (2, .int x2), (3, .int x3), (4, .int x4), (5, .int x5), (6, .int x6)] []) (hk185 : ∀ (x5 : Int32) (x7 : Int32), k185 x5 x7 → GW κ (wdM τ) 8 (0, 0) (xMQ κ (wdM τ) (xR 1) (z1_i J Z)) (M, J) 185 [(0, .ref (τ.2.2 81)), (1, .int x1), (2, .int x2), (3, .int x3), (4, .int x4), (5, .int x5), (6, .int x6), (7, .int x7)] []) (h : M_count_b219 Z k112 k185 M J x1 x2 x3 x4 x6 x7 s0) : GW κ (wdM τ) 8 (0, 0) (xMQ κ (wdM τ) (xR 1) (z1_i J Z)) (M, J) 219 [(0, .ref (τ.2.2 81)), (1, .int x1), (2, .int x2), (3, .int x3), (4, .int x4), (6, .int x6), (7, .int x7)] [.int s0] := by
  unfold M_count_b219 at h
  refine gw_istore (pc := 219) (lv' := [(5, .int s0), (0, .ref (τ.2.2 81)), (1, .int x1), (2, .int x2), (3, .int x3), (4, .int x4), (6, .int x6), (7, .int x7)]) o d_M_count_219 (by decide) rfl ?_
  refine gw_iincN (pc := 221) (c := (1 : Int32)) (lw := fun x7_221 => [(7, .int x7_221), (5, .int s0), (0, .ref (τ.2.2 81)), (1, .int x1), (2, .int x2), (3, .int x3), (4, .int x4), (6, .int x6)]) o d_M_count_221 (by decide) 7 rfl (by decide) (fun _ => rfl) (fun x7_221 ex7_221 => ?_)
  have h := h x7_221 ex7_221
  refine gw_goto (pc := 224) (tgt := 185) o d_M_count_224 (by decide) ?_
  exact gw_sub (lv' := [(0, .ref (τ.2.2 81)), (1, .int x1), (2, .int x2), (3, .int x3), (4, .int x4), (5, .int s0), (6, .int x6), (7, .int x7_221)]) [2, 3, 4, 5, 6, 1, 7, 0] rfl (hk185 _ _ h)
def M_count_b227 (Z : Int32 → xF → Prop) (k112 : Int32 → Int32 → Int32 → Int32 → Int32 → Prop) (M : xF) (J : (Nat → Int64)) (x1 : Int32) (x2 : Int32) (x3 : Int32) (x4 : Int32) (x5 : Int32) (x6 : Int32) : Prop := ∀ x6_227 : Int32, x6_227 = x6 + (1 : Int32) → (k112 x2 x3 x4 x5 x6_227)
set_option maxRecDepth 10000 in
theorem wk_M_count_b227 {κ : Cx} {τ : xT} {Z : Int32 → xF → Prop} {k112 : Int32 → Int32 → Int32 → Int32 → Int32 → Prop} {M : xF} {J : (Nat → Int64)} {x1 : Int32} {x2 : Int32} {x3 : Int32} {x4 : Int32} {x5 : Int32} {x6 : Int32} (o : OKc κ (wdM τ) 8 b_M_count "StateExplorerModel" (some .int) (xR 1)) (hk112 : ∀ (x2 : Int32) (x3 : Int32) (x4 : Int32) (x5 : Int32) (x6 : Int32), k112 x2 x3 x4 x5 x6 → GW κ (wdM τ) 8 (0, 0) (xMQ κ (wdM τ) (xR 1) (z1_i J Z)) (M, J) 112 [(0, .ref (τ.2.2 81)), (1, .int x1), (2, .int x2), (3, .int x3), (4, .int x4), (5, .int x5), (6, .int x6)] []) (h : M_count_b227 Z k112 M J x1 x2 x3 x4 x5 x6) : GW κ (wdM τ) 8 (0, 0) (xMQ κ (wdM τ) (xR 1) (z1_i J Z)) (M, J) 227 [(0, .ref (τ.2.2 81)), (1, .int x1), (2, .int x2), (3, .int x3), (4, .int x4), (5, .int x5), (6, .int x6)] [] := by
  unfold M_count_b227 at h
  refine gw_iincN (pc := 227) (c := (1 : Int32)) (lw := fun x6_227 => [(6, .int x6_227), (0, .ref (τ.2.2 81)), (1, .int x1), (2, .int x2), (3, .int x3), (4, .int x4), (5, .int x5)]) o d_M_count_227 (by decide) 6 rfl (by decide) (fun _ => rfl) (fun x6_227 ex6_227 => ?_)
  have h := h x6_227 ex6_227
  refine gw_goto (pc := 230) (tgt := 112) o d_M_count_230 (by decide) ?_
  exact gw_sub (lv' := [(0, .ref (τ.2.2 81)), (1, .int x1), (2, .int x2), (3, .int x3), (4, .int x4), (5, .int x5), (6, .int x6_227)]) [1, 2, 3, 4, 5, 6, 0] rfl (hk112 _ _ _ _ _ h)
def M_count_b185 (Z : Int32 → xF → Prop) (k112 : Int32 → Int32 → Int32 → Int32 → Int32 → Prop) (k185 : Int32 → Int32 → Prop) (M : xF) (J : (Nat → Int64)) (x1 : Int32) (x2 : Int32) (x3 : Int32) (x4 : Int32) (x5 : Int32) (x6 : Int32) (x7 : Int32) : Prop := w_M_choices M J (fun r188 => ((r188 ≤ x7) → (M_count_b227 Z k112 M J x1 x2 x3 x4 x5 x6)) ∧ (¬ (r188 ≤ x7) → (vp_in (((16 : Int32) * x6) + x7) 4096 ∧ ((((M 15 (((16 : Int32) * x6) + x7).toNatClampNeg) = 0) → (M_count_b219 Z k112 k185 M J x1 x2 x3 x4 x6 x7 (x5 + (1 : Int32)))) ∧ (¬ ((M 15 (((16 : Int32) * x6) + x7).toNatClampNeg) = 0) → (M_count_b219 Z k112 k185 M J x1 x2 x3 x4 x6 x7 x5))))))
set_option maxRecDepth 10000 in
theorem wk_M_count_b185 {κ : Cx} {τ : xT} {Z : Int32 → xF → Prop} {k112 : Int32 → Int32 → Int32 → Int32 → Int32 → Prop} {k185 : Int32 → Int32 → Prop} {M : xF} {J : (Nat → Int64)} {x1 : Int32} {x2 : Int32} {x3 : Int32} {x4 : Int32} {x5 : Int32} {x6 : Int32} {x7 : Int32} (o : OKc κ (wdM τ) 8 b_M_count "StateExplorerModel" (some .int) (xR 1)) (hk112 : ∀ (x2 : Int32) (x3 : Int32) (x4 : Int32) (x5 : Int32) (x6 : Int32), k112 x2 x3 x4 x5 x6 → GW κ (wdM τ) 8 (0, 0) (xMQ κ (wdM τ) (xR 1) (z1_i J Z)) (M, J) 112 [(0, .ref (τ.2.2 81)), (1, .int x1), (2, .int x2), (3, .int x3), (4, .int x4), (5, .int x5), (6, .int x6)] []) (hk185 : ∀ (x5 : Int32) (x7 : Int32), k185 x5 x7 → GW κ (wdM τ) 8 (0, 0) (xMQ κ (wdM τ) (xR 1) (z1_i J Z)) (M, J) 185 [(0, .ref (τ.2.2 81)), (1, .int x1), (2, .int x2), (3, .int x3), (4, .int x4), (5, .int x5), (6, .int x6), (7, .int x7)] []) (h : M_count_b185 Z k112 k185 M J x1 x2 x3 x4 x5 x6 x7) : GW κ (wdM τ) 8 (0, 0) (xMQ κ (wdM τ) (xR 1) (z1_i J Z)) (M, J) 185 [(0, .ref (τ.2.2 81)), (1, .int x1), (2, .int x2), (3, .int x3), (4, .int x4), (5, .int x5), (6, .int x6), (7, .int x7)] [] := by
  unfold M_count_b185 at h
  refine gw_iload (pc := 185) o d_M_count_185 7 rfl ?_
  refine gw_aload_n (pc := 187) o d_M_count_187 rfl 0 rfl ?_
  refine gw_callV (pc := 188) (b := τ.2.2 81) (As := []) (st := [.int x7]) o (ct_M_choices o.hD h) mi_M_choices q_651 q_653 qs_33 0 rfl rfl (xRo_of (by omega) (by decide)) rfl rfl (Nat.le_of_ble_eq_true rfl) d_M_count_188 (kk_p_i rfl (fun r188 h => ?_))
  refine gw_icmp_ge (pc := 191) (tgt := 227) o d_M_count_191 (by decide) (fun hc => ?_) (fun hc => ?_)
  · have h := h.1 hc
    exact gw_sub (lv' := [(0, .ref (τ.2.2 81)), (1, .int x1), (2, .int x2), (3, .int x3), (4, .int x4), (5, .int x5), (6, .int x6)]) [0, 1, 2, 3, 4, 5, 6] rfl (wk_M_count_b227 o hk112 h)
  · have h := h.2 hc
    refine gw_aload_n (pc := 194) o d_M_count_194 rfl 0 rfl ?_
    refine gM_get_settles (pc := 195) o q_561 d_M_count_195 ?_
    refine gw_bipush (pc := 198) (v := (16 : Int32)) o d_M_count_198 (by decide) ?_
    refine gw_iload (pc := 200) o d_M_count_200 6 rfl ?_
    refine gw_imul (pc := 202) o d_M_count_202 ?_
    refine gw_iload (pc := 203) o d_M_count_203 7 rfl ?_
    refine gw_iadd (pc := 205) o d_M_count_205 ?_
    have hi := h.1
    have h := h.2
    refine gM_ald_settles (pc := 206) o hi d_M_count_206 ?_
    refine gw_if_eq (pc := 207) (tgt := 215) o d_M_count_207 (by decide) (fun hc => ?_) (fun hc => ?_)
    · have h := h.1 hc
      refine gw_iload (pc := 215) o d_M_count_215 5 rfl ?_
      refine gw_iconst (pc := 217) (v := (1 : Int32)) o d_M_count_217 (by decide) ?_
      refine gw_iadd (pc := 218) o d_M_count_218 ?_
      exact gw_sub (lv' := [(0, .ref (τ.2.2 81)), (1, .int x1), (2, .int x2), (3, .int x3), (4, .int x4), (6, .int x6), (7, .int x7)]) [0, 1, 2, 3, 4, 6, 7] rfl (wk_M_count_b219 o hk112 hk185 h)
    · have h := h.2 hc
      refine gw_iload (pc := 210) o d_M_count_210 5 rfl ?_
      refine gw_goto (pc := 212) (tgt := 219) o d_M_count_212 (by decide) ?_
      exact gw_sub (lv' := [(0, .ref (τ.2.2 81)), (1, .int x1), (2, .int x2), (3, .int x3), (4, .int x4), (6, .int x6), (7, .int x7)]) [0, 1, 2, 3, 4, 6, 7] rfl (wk_M_count_b219 o hk112 hk185 h)
def M_count_L185 (Z : Int32 → xF → Prop) (k112 : Int32 → Int32 → Int32 → Int32 → Int32 → Prop) (M : xF) (J : (Nat → Int64)) (x1 : Int32) (x2 : Int32) (x3 : Int32) (x4 : Int32) (x5 : Int32) (x6 : Int32) (x7 : Int32) : Prop := LOOP2 (fun k185 x5 x7 => M_count_b185 Z k112 k185 M J x1 x2 x3 x4 x5 x6 x7) x5 x7
theorem wk_M_count_L185 {κ : Cx} {τ : xT} {Z : Int32 → xF → Prop} {k112 : Int32 → Int32 → Int32 → Int32 → Int32 → Prop} {M : xF} {J : (Nat → Int64)} {x1 : Int32} {x2 : Int32} {x3 : Int32} {x4 : Int32} {x5 : Int32} {x6 : Int32} {x7 : Int32} (o : OKc κ (wdM τ) 8 b_M_count "StateExplorerModel" (some .int) (xR 1)) (hk112 : ∀ (x2 : Int32) (x3 : Int32) (x4 : Int32) (x5 : Int32) (x6 : Int32), k112 x2 x3 x4 x5 x6 → GW κ (wdM τ) 8 (0, 0) (xMQ κ (wdM τ) (xR 1) (z1_i J Z)) (M, J) 112 [(0, .ref (τ.2.2 81)), (1, .int x1), (2, .int x2), (3, .int x3), (4, .int x4), (5, .int x5), (6, .int x6)] []) (h : M_count_L185 Z k112 M J x1 x2 x3 x4 x5 x6 x7) : GW κ (wdM τ) 8 (0, 0) (xMQ κ (wdM τ) (xR 1) (z1_i J Z)) (M, J) 185 [(0, .ref (τ.2.2 81)), (1, .int x1), (2, .int x2), (3, .int x3), (4, .int x4), (5, .int x5), (6, .int x6), (7, .int x7)] [] := by
  unfold M_count_L185 at h
  exact LOOP2.use (G := fun x5 x7 => GW κ (wdM τ) 8 (0, 0) (xMQ κ (wdM τ) (xR 1) (z1_i J Z)) (M, J) 185 [(0, .ref (τ.2.2 81)), (1, .int x1), (2, .int x2), (3, .int x3), (4, .int x4), (5, .int x5), (6, .int x6), (7, .int x7)] []) (fun k185 x5 x7 hk185 h => wk_M_count_b185 o hk112 hk185 h) h
def M_count_b180 (Z : Int32 → xF → Prop) (k112 : Int32 → Int32 → Int32 → Int32 → Int32 → Prop) (M : xF) (J : (Nat → Int64)) (x1 : Int32) (x2 : Int32) (x3 : Int32) (x5 : Int32) (x6 : Int32) (s0 : Int32) : Prop := M_count_L185 Z k112 M J x1 x2 x3 s0 x5 x6 (0 : Int32)
set_option maxRecDepth 10000 in
theorem wk_M_count_b180 {κ : Cx} {τ : xT} {Z : Int32 → xF → Prop} {k112 : Int32 → Int32 → Int32 → Int32 → Int32 → Prop} {M : xF} {J : (Nat → Int64)} {x1 : Int32} {x2 : Int32} {x3 : Int32} {x5 : Int32} {x6 : Int32} {s0 : Int32} (o : OKc κ (wdM τ) 8 b_M_count "StateExplorerModel" (some .int) (xR 1)) (hk112 : ∀ (x2 : Int32) (x3 : Int32) (x4 : Int32) (x5 : Int32) (x6 : Int32), k112 x2 x3 x4 x5 x6 → GW κ (wdM τ) 8 (0, 0) (xMQ κ (wdM τ) (xR 1) (z1_i J Z)) (M, J) 112 [(0, .ref (τ.2.2 81)), (1, .int x1), (2, .int x2), (3, .int x3), (4, .int x4), (5, .int x5), (6, .int x6)] []) (h : M_count_b180 Z k112 M J x1 x2 x3 x5 x6 s0) : GW κ (wdM τ) 8 (0, 0) (xMQ κ (wdM τ) (xR 1) (z1_i J Z)) (M, J) 180 [(0, .ref (τ.2.2 81)), (1, .int x1), (2, .int x2), (3, .int x3), (5, .int x5), (6, .int x6)] [.int s0] := by
  unfold M_count_b180 at h
  refine gw_istore (pc := 180) (lv' := [(4, .int s0), (0, .ref (τ.2.2 81)), (1, .int x1), (2, .int x2), (3, .int x3), (5, .int x5), (6, .int x6)]) o d_M_count_180 (by decide) rfl ?_
  refine gw_iconst (pc := 182) (v := (0 : Int32)) o d_M_count_182 (by decide) ?_
  refine gw_istore (pc := 183) (lv' := [(7, .int (0 : Int32)), (4, .int s0), (0, .ref (τ.2.2 81)), (1, .int x1), (2, .int x2), (3, .int x3), (5, .int x5), (6, .int x6)]) o d_M_count_183 (by decide) rfl ?_
  exact gw_sub (lv' := [(0, .ref (τ.2.2 81)), (1, .int x1), (2, .int x2), (3, .int x3), (4, .int s0), (5, .int x5), (6, .int x6), (7, .int (0 : Int32))]) [2, 3, 4, 5, 1, 6, 7, 0] rfl (wk_M_count_L185 o hk112 h)
def M_count_b159 (Z : Int32 → xF → Prop) (k112 : Int32 → Int32 → Int32 → Int32 → Int32 → Prop) (M : xF) (J : (Nat → Int64)) (x1 : Int32) (x2 : Int32) (x4 : Int32) (x5 : Int32) (x6 : Int32) (s0 : Int32) : Prop := w_M_least M J x6 (fun r163 => ((r163 = x6) → (M_count_b180 Z k112 M J x1 x2 s0 x5 x6 (x4 + (1 : Int32)))) ∧ (¬ (r163 = x6) → (M_count_b180 Z k112 M J x1 x2 s0 x5 x6 x4)))
set_option maxRecDepth 10000 in
theorem wk_M_count_b159 {κ : Cx} {τ : xT} {Z : Int32 → xF → Prop} {k112 : Int32 → Int32 → Int32 → Int32 → Int32 → Prop} {M : xF} {J : (Nat → Int64)} {x1 : Int32} {x2 : Int32} {x4 : Int32} {x5 : Int32} {x6 : Int32} {s0 : Int32} (o : OKc κ (wdM τ) 8 b_M_count "StateExplorerModel" (some .int) (xR 1)) (hk112 : ∀ (x2 : Int32) (x3 : Int32) (x4 : Int32) (x5 : Int32) (x6 : Int32), k112 x2 x3 x4 x5 x6 → GW κ (wdM τ) 8 (0, 0) (xMQ κ (wdM τ) (xR 1) (z1_i J Z)) (M, J) 112 [(0, .ref (τ.2.2 81)), (1, .int x1), (2, .int x2), (3, .int x3), (4, .int x4), (5, .int x5), (6, .int x6)] []) (h : M_count_b159 Z k112 M J x1 x2 x4 x5 x6 s0) : GW κ (wdM τ) 8 (0, 0) (xMQ κ (wdM τ) (xR 1) (z1_i J Z)) (M, J) 159 [(0, .ref (τ.2.2 81)), (1, .int x1), (2, .int x2), (4, .int x4), (5, .int x5), (6, .int x6)] [.int s0] := by
  unfold M_count_b159 at h
  refine gw_istore_n (pc := 159) (lv' := [(3, .int s0), (0, .ref (τ.2.2 81)), (1, .int x1), (2, .int x2), (4, .int x4), (5, .int x5), (6, .int x6)]) o d_M_count_159 rfl (by decide) rfl ?_
  refine gw_aload_n (pc := 160) o d_M_count_160 rfl 1 rfl ?_
  refine gw_iload (pc := 161) o d_M_count_161 6 rfl ?_
  refine gw_callV (pc := 163) (b := τ.2.2 81) (As := [.int x6]) (st := []) o (ct_M_least o.hD h) mi_M_least q_727 q_729 qs_44 0 rfl rfl (xRo_of (by omega) (by decide)) rfl rfl (Nat.le_of_ble_eq_true rfl) d_M_count_163 (kk_p_i rfl (fun r163 h => ?_))
  refine gw_iload (pc := 166) o d_M_count_166 6 rfl ?_
  refine gw_icmp_ne (pc := 168) (tgt := 178) o d_M_count_168 (by decide) (fun hc => ?_) (fun hc => ?_)
  · have h := h.2 hc
    refine gw_iload (pc := 178) o d_M_count_178 4 rfl ?_
    exact gw_sub (lv' := [(0, .ref (τ.2.2 81)), (1, .int x1), (2, .int x2), (3, .int s0), (5, .int x5), (6, .int x6)]) [1, 2, 3, 0, 5, 6] rfl (wk_M_count_b180 o hk112 h)
  · have h := h.1 hc
    refine gw_iload (pc := 171) o d_M_count_171 4 rfl ?_
    refine gw_iconst (pc := 173) (v := (1 : Int32)) o d_M_count_173 (by decide) ?_
    refine gw_iadd (pc := 174) o d_M_count_174 ?_
    refine gw_goto (pc := 175) (tgt := 180) o d_M_count_175 (by decide) ?_
    exact gw_sub (lv' := [(0, .ref (τ.2.2 81)), (1, .int x1), (2, .int x2), (3, .int s0), (5, .int x5), (6, .int x6)]) [1, 2, 3, 0, 5, 6] rfl (wk_M_count_b180 o hk112 h)
def M_count_b266 (Z : Int32 → xF → Prop) (M : xF) (J : (Nat → Int64)) (s0 : Int32) : Prop := Z s0 M
set_option maxRecDepth 10000 in
theorem wk_M_count_b266 {κ : Cx} {τ : xT} {Z : Int32 → xF → Prop} {M : xF} {J : (Nat → Int64)} {s0 : Int32} (o : OKc κ (wdM τ) 8 b_M_count "StateExplorerModel" (some .int) (xR 1)) (h : M_count_b266 Z M J s0) : GW κ (wdM τ) 8 (0, 0) (xMQ κ (wdM τ) (xR 1) (z1_i J Z)) (M, J) 266 [] [.int s0] := by
  unfold M_count_b266 at h
  exact gw_iret (pc := 266) o ⟨Nat.le_refl _, Nat.le_refl _⟩ (z1_i.mk h) d_M_count_266
def M_count_b112 (Z : Int32 → xF → Prop) (k112 : Int32 → Int32 → Int32 → Int32 → Int32 → Prop) (M : xF) (J : (Nat → Int64)) (x1 : Int32) (x2 : Int32) (x3 : Int32) (x4 : Int32) (x5 : Int32) (x6 : Int32) : Prop := w_M_states M J (fun r115 => ((r115 ≤ x6) → (((x1 = (6 : Int32)) → (M_count_b266 Z M J x2)) ∧ (¬ (x1 = (6 : Int32)) → (((x1 = (7 : Int32)) → (M_count_b266 Z M J x3)) ∧ (¬ (x1 = (7 : Int32)) → (((x1 = (8 : Int32)) → (M_count_b266 Z M J x4)) ∧ (¬ (x1 = (8 : Int32)) → (M_count_b266 Z M J x5)))))))) ∧ (¬ (r115 ≤ x6) → (vp_in x6 256 ∧ (((0 ≤ (M 18 x6.toNatClampNeg)) → (∀ x2_134 : Int32, x2_134 = x2 + (1 : Int32) → (vp_in x6 256 ∧ ((((M 18 x6.toNatClampNeg) ≤ x3) → (M_count_b159 Z k112 M J x1 x2_134 x4 x5 x6 x3)) ∧ (¬ ((M 18 x6.toNatClampNeg) ≤ x3) → (vp_in x6 256 ∧ (M_count_b159 Z k112 M J x1 x2_134 x4 x5 x6 (M 18 x6.toNatClampNeg)))))))) ∧ (¬ (0 ≤ (M 18 x6.toNatClampNeg)) → (M_count_b227 Z k112 M J x1 x2 x3 x4 x5 x6))))))
set_option maxRecDepth 10000 in
theorem wk_M_count_b112 {κ : Cx} {τ : xT} {Z : Int32 → xF → Prop} {k112 : Int32 → Int32 → Int32 → Int32 → Int32 → Prop} {M : xF} {J : (Nat → Int64)} {x1 : Int32} {x2 : Int32} {x3 : Int32} {x4 : Int32} {x5 : Int32} {x6 : Int32} (o : OKc κ (wdM τ) 8 b_M_count "StateExplorerModel" (some .int) (xR 1)) (hk112 : ∀ (x2 : Int32) (x3 : Int32) (x4 : Int32) (x5 : Int32) (x6 : Int32), k112 x2 x3 x4 x5 x6 → GW κ (wdM τ) 8 (0, 0) (xMQ κ (wdM τ) (xR 1) (z1_i J Z)) (M, J) 112 [(0, .ref (τ.2.2 81)), (1, .int x1), (2, .int x2), (3, .int x3), (4, .int x4), (5, .int x5), (6, .int x6)] []) (h : M_count_b112 Z k112 M J x1 x2 x3 x4 x5 x6) : GW κ (wdM τ) 8 (0, 0) (xMQ κ (wdM τ) (xR 1) (z1_i J Z)) (M, J) 112 [(0, .ref (τ.2.2 81)), (1, .int x1), (2, .int x2), (3, .int x3), (4, .int x4), (5, .int x5), (6, .int x6)] [] := by
  unfold M_count_b112 at h
  refine gw_iload (pc := 112) o d_M_count_112 6 rfl ?_
  refine gw_aload_n (pc := 114) o d_M_count_114 rfl 0 rfl ?_
  refine gw_callV (pc := 115) (b := τ.2.2 81) (As := []) (st := [.int x6]) o (ct_M_states o.hD h) mi_M_states q_647 q_649 qs_32 0 rfl rfl (xRo_of (by omega) (by decide)) rfl rfl (Nat.le_of_ble_eq_true rfl) d_M_count_115 (kk_p_i rfl (fun r115 h => ?_))
  refine gw_icmp_ge (pc := 118) (tgt := 233) o d_M_count_118 (by decide) (fun hc => ?_) (fun hc => ?_)
  · have h := h.1 hc
    refine gw_iload_n (pc := 233) o d_M_count_233 rfl 1 rfl ?_
    refine gw_bipush (pc := 234) (v := (6 : Int32)) o d_M_count_234 (by decide) ?_
    refine gw_icmp_ne (pc := 236) (tgt := 243) o d_M_count_236 (by decide) (fun hc => ?_) (fun hc => ?_)
    · have h := h.2 hc
      refine gw_iload_n (pc := 243) o d_M_count_243 rfl 1 rfl ?_
      refine gw_bipush (pc := 244) (v := (7 : Int32)) o d_M_count_244 (by decide) ?_
      refine gw_icmp_ne (pc := 246) (tgt := 253) o d_M_count_246 (by decide) (fun hc => ?_) (fun hc => ?_)
      · have h := h.2 hc
        refine gw_iload_n (pc := 253) o d_M_count_253 rfl 1 rfl ?_
        refine gw_bipush (pc := 254) (v := (8 : Int32)) o d_M_count_254 (by decide) ?_
        refine gw_icmp_ne (pc := 256) (tgt := 264) o d_M_count_256 (by decide) (fun hc => ?_) (fun hc => ?_)
        · have h := h.2 hc
          refine gw_iload (pc := 264) o d_M_count_264 5 rfl ?_
          exact gw_sub (lv' := []) [] rfl (wk_M_count_b266 o h)
        · have h := h.1 hc
          refine gw_iload (pc := 259) o d_M_count_259 4 rfl ?_
          refine gw_goto (pc := 261) (tgt := 266) o d_M_count_261 (by decide) ?_
          exact gw_sub (lv' := []) [] rfl (wk_M_count_b266 o h)
      · have h := h.1 hc
        refine gw_iload_n (pc := 249) o d_M_count_249 rfl 3 rfl ?_
        refine gw_goto (pc := 250) (tgt := 266) o d_M_count_250 (by decide) ?_
        exact gw_sub (lv' := []) [] rfl (wk_M_count_b266 o h)
    · have h := h.1 hc
      refine gw_iload_n (pc := 239) o d_M_count_239 rfl 2 rfl ?_
      refine gw_goto (pc := 240) (tgt := 266) o d_M_count_240 (by decide) ?_
      exact gw_sub (lv' := []) [] rfl (wk_M_count_b266 o h)
  · have h := h.2 hc
    refine gw_aload_n (pc := 121) o d_M_count_121 rfl 0 rfl ?_
    refine gM_get_distance (pc := 122) o q_564 d_M_count_122 ?_
    refine gw_iload (pc := 125) o d_M_count_125 6 rfl ?_
    have hi := h.1
    have h := h.2
    refine gM_ald_distance (pc := 127) o hi d_M_count_127 ?_
    refine gw_if_ge (pc := 128) (tgt := 134) o d_M_count_128 (by decide) (fun hc => ?_) (fun hc => ?_)
    · have h := h.1 hc
      refine gw_iincN (pc := 134) (c := (1 : Int32)) (lw := fun x2_134 => [(2, .int x2_134), (0, .ref (τ.2.2 81)), (1, .int x1), (3, .int x3), (4, .int x4), (5, .int x5), (6, .int x6)]) o d_M_count_134 (by decide) 2 rfl (by decide) (fun _ => rfl) (fun x2_134 ex2_134 => ?_)
      have h := h x2_134 ex2_134
      refine gw_aload_n (pc := 137) o d_M_count_137 rfl 1 rfl ?_
      refine gM_get_distance (pc := 138) o q_564 d_M_count_138 ?_
      refine gw_iload (pc := 141) o d_M_count_141 6 rfl ?_
      have hi := h.1
      have h := h.2
      refine gM_ald_distance (pc := 143) o hi d_M_count_143 ?_
      refine gw_iload_n (pc := 144) o d_M_count_144 rfl 3 rfl ?_
      refine gw_icmp_le (pc := 145) (tgt := 158) o d_M_count_145 (by decide) (fun hc => ?_) (fun hc => ?_)
      · have h := h.1 hc
        refine gw_iload_n (pc := 158) o d_M_count_158 rfl 3 rfl ?_
        exact gw_sub (lv' := [(0, .ref (τ.2.2 81)), (1, .int x1), (2, .int x2_134), (4, .int x4), (5, .int x5), (6, .int x6)]) [1, 2, 0, 4, 5, 6] rfl (wk_M_count_b159 o hk112 h)
      · have h := h.2 hc
        refine gw_aload_n (pc := 148) o d_M_count_148 rfl 1 rfl ?_
        refine gM_get_distance (pc := 149) o q_564 d_M_count_149 ?_
        refine gw_iload (pc := 152) o d_M_count_152 6 rfl ?_
        have hi := h.1
        have h := h.2
        refine gM_ald_distance (pc := 154) o hi d_M_count_154 ?_
        refine gw_goto (pc := 155) (tgt := 159) o d_M_count_155 (by decide) ?_
        exact gw_sub (lv' := [(0, .ref (τ.2.2 81)), (1, .int x1), (2, .int x2_134), (4, .int x4), (5, .int x5), (6, .int x6)]) [1, 2, 0, 4, 5, 6] rfl (wk_M_count_b159 o hk112 h)
    · have h := h.2 hc
      refine gw_goto (pc := 131) (tgt := 227) o d_M_count_131 (by decide) ?_
      exact gw_sub (lv' := [(0, .ref (τ.2.2 81)), (1, .int x1), (2, .int x2), (3, .int x3), (4, .int x4), (5, .int x5), (6, .int x6)]) [0, 1, 2, 3, 4, 5, 6] rfl (wk_M_count_b227 o hk112 h)
def M_count_L112 (Z : Int32 → xF → Prop) (M : xF) (J : (Nat → Int64)) (x1 : Int32) (x2 : Int32) (x3 : Int32) (x4 : Int32) (x5 : Int32) (x6 : Int32) : Prop := LOOP5 (fun k112 x2 x3 x4 x5 x6 => M_count_b112 Z k112 M J x1 x2 x3 x4 x5 x6) x2 x3 x4 x5 x6
theorem wk_M_count_L112 {κ : Cx} {τ : xT} {Z : Int32 → xF → Prop} {M : xF} {J : (Nat → Int64)} {x1 : Int32} {x2 : Int32} {x3 : Int32} {x4 : Int32} {x5 : Int32} {x6 : Int32} (o : OKc κ (wdM τ) 8 b_M_count "StateExplorerModel" (some .int) (xR 1)) (h : M_count_L112 Z M J x1 x2 x3 x4 x5 x6) : GW κ (wdM τ) 8 (0, 0) (xMQ κ (wdM τ) (xR 1) (z1_i J Z)) (M, J) 112 [(0, .ref (τ.2.2 81)), (1, .int x1), (2, .int x2), (3, .int x3), (4, .int x4), (5, .int x5), (6, .int x6)] [] := by
  unfold M_count_L112 at h
  exact LOOP5.use (G := fun x2 x3 x4 x5 x6 => GW κ (wdM τ) 8 (0, 0) (xMQ κ (wdM τ) (xR 1) (z1_i J Z)) (M, J) 112 [(0, .ref (τ.2.2 81)), (1, .int x1), (2, .int x2), (3, .int x3), (4, .int x4), (5, .int x5), (6, .int x6)] []) (fun k112 x2 x3 x4 x5 x6 hk112 h => wk_M_count_b112 o hk112 h) h
def M_count_b0 (Z : Int32 → xF → Prop) (M : xF) (J : (Nat → Int64)) (x1 : Int32) : Prop := ∀ M_2 : xF, M_2 = xs M 21 0 (0 : Int32) → (((x1 < 0) → (Z (-1 : Int32) M_2)) ∧ (¬ (x1 < 0) → (((x1 ≤ (9 : Int32)) → ((((5 : Int32) ≤ x1) → (((x1 = (5 : Int32)) → (M_count_b86 Z M_2 J)) ∧ (¬ (x1 = (5 : Int32)) → ((((M_2 21 14) = 0) → (M_count_b86 Z M_2 J)) ∧ (¬ ((M_2 21 14) = 0) → (M_count_L112 Z M_2 J x1 (0 : Int32) (0 : Int32) (0 : Int32) (0 : Int32) (0 : Int32))))))) ∧ (¬ ((5 : Int32) ≤ x1) → (((x1 = 0) → (M_count_b73 Z M_2 J (M_2 21 1))) ∧ (¬ (x1 = 0) → (((x1 = (1 : Int32)) → (M_count_b73 Z M_2 J (M_2 21 2))) ∧ (¬ (x1 = (1 : Int32)) → (((x1 = (2 : Int32)) → (M_count_b73 Z M_2 J (M_2 21 3))) ∧ (¬ (x1 = (2 : Int32)) → (((x1 = (3 : Int32)) → (M_count_b73 Z M_2 J (M_2 21 4))) ∧ (¬ (x1 = (3 : Int32)) → (M_count_b73 Z M_2 J (M_2 21 5))))))))))))) ∧ (¬ (x1 ≤ (9 : Int32)) → (Z (-1 : Int32) M_2)))))
set_option maxRecDepth 10000 in
theorem wk_M_count_b0 {κ : Cx} {τ : xT} {Z : Int32 → xF → Prop} {M : xF} {J : (Nat → Int64)} {x1 : Int32} (o : OKc κ (wdM τ) 8 b_M_count "StateExplorerModel" (some .int) (xR 1)) (h : M_count_b0 Z M J x1) : GW κ (wdM τ) 8 (0, 0) (xMQ κ (wdM τ) (xR 1) (z1_i J Z)) (M, J) 0 [(0, .ref (τ.2.2 81)), (1, .int x1)] [] := by
  unfold M_count_b0 at h
  refine gw_aload_n (pc := 0) o d_M_count_0 rfl 0 rfl ?_
  refine gw_iconst (pc := 1) (v := (0 : Int32)) o d_M_count_1 (by decide) ?_
  refine gM_put_code (pc := 2) o q_546 d_M_count_2 (fun M_2 eM_2 => ?_)
  have h := h M_2 eM_2
  refine gw_iload_n (pc := 5) o d_M_count_5 rfl 1 rfl ?_
  refine gw_if_lt (pc := 6) (tgt := 15) o d_M_count_6 (by decide) (fun hc => ?_) (fun hc => ?_)
  · have h := h.1 hc
    refine gw_iconst (pc := 15) (v := (-1 : Int32)) o d_M_count_15 (by decide) ?_
    exact gw_iret (pc := 16) o ⟨Nat.le_refl _, Nat.le_refl _⟩ (z1_i.mk h) d_M_count_16
  · have h := h.2 hc
    refine gw_iload_n (pc := 9) o d_M_count_9 rfl 1 rfl ?_
    refine gw_bipush (pc := 10) (v := (9 : Int32)) o d_M_count_10 (by decide) ?_
    refine gw_icmp_le (pc := 12) (tgt := 17) o d_M_count_12 (by decide) (fun hc => ?_) (fun hc => ?_)
    · have h := h.1 hc
      refine gw_iload_n (pc := 17) o d_M_count_17 rfl 1 rfl ?_
      refine gw_iconst (pc := 18) (v := (5 : Int32)) o d_M_count_18 (by decide) ?_
      refine gw_icmp_ge (pc := 19) (tgt := 74) o d_M_count_19 (by decide) (fun hc => ?_) (fun hc => ?_)
      · have h := h.1 hc
        refine gw_iload_n (pc := 74) o d_M_count_74 rfl 1 rfl ?_
        refine gw_iconst (pc := 75) (v := (5 : Int32)) o d_M_count_75 (by decide) ?_
        refine gw_icmp_eq (pc := 76) (tgt := 86) o d_M_count_76 (by decide) (fun hc => ?_) (fun hc => ?_)
        · have h := h.1 hc
          exact gw_sub (lv' := [(0, .ref (τ.2.2 81))]) [0] rfl (wk_M_count_b86 o h)
        · have h := h.2 hc
          refine gw_aload_n (pc := 79) o d_M_count_79 rfl 0 rfl ?_
          refine gM_get_explored (pc := 80) o q_560 d_M_count_80 ?_
          refine gw_if_ne (pc := 83) (tgt := 99) o d_M_count_83 (by decide) (fun hc => ?_) (fun hc => ?_)
          · have h := h.2 hc
            refine gw_iconst (pc := 99) (v := (0 : Int32)) o d_M_count_99 (by decide) ?_
            refine gw_istore_n (pc := 100) (lv' := [(2, .int (0 : Int32)), (0, .ref (τ.2.2 81)), (1, .int x1)]) o d_M_count_100 rfl (by decide) rfl ?_
            refine gw_iconst (pc := 101) (v := (0 : Int32)) o d_M_count_101 (by decide) ?_
            refine gw_istore_n (pc := 102) (lv' := [(3, .int (0 : Int32)), (2, .int (0 : Int32)), (0, .ref (τ.2.2 81)), (1, .int x1)]) o d_M_count_102 rfl (by decide) rfl ?_
            refine gw_iconst (pc := 103) (v := (0 : Int32)) o d_M_count_103 (by decide) ?_
            refine gw_istore (pc := 104) (lv' := [(4, .int (0 : Int32)), (3, .int (0 : Int32)), (2, .int (0 : Int32)), (0, .ref (τ.2.2 81)), (1, .int x1)]) o d_M_count_104 (by decide) rfl ?_
            refine gw_iconst (pc := 106) (v := (0 : Int32)) o d_M_count_106 (by decide) ?_
            refine gw_istore (pc := 107) (lv' := [(5, .int (0 : Int32)), (4, .int (0 : Int32)), (3, .int (0 : Int32)), (2, .int (0 : Int32)), (0, .ref (τ.2.2 81)), (1, .int x1)]) o d_M_count_107 (by decide) rfl ?_
            refine gw_iconst (pc := 109) (v := (0 : Int32)) o d_M_count_109 (by decide) ?_
            refine gw_istore (pc := 110) (lv' := [(6, .int (0 : Int32)), (5, .int (0 : Int32)), (4, .int (0 : Int32)), (3, .int (0 : Int32)), (2, .int (0 : Int32)), (0, .ref (τ.2.2 81)), (1, .int x1)]) o d_M_count_110 (by decide) rfl ?_
            exact gw_sub (lv' := [(0, .ref (τ.2.2 81)), (1, .int x1), (2, .int (0 : Int32)), (3, .int (0 : Int32)), (4, .int (0 : Int32)), (5, .int (0 : Int32)), (6, .int (0 : Int32))]) [5, 6, 4, 3, 2, 1, 0] rfl (wk_M_count_L112 o h)
          · have h := h.1 hc
            exact gw_sub (lv' := [(0, .ref (τ.2.2 81))]) [0] rfl (wk_M_count_b86 o h)
      · have h := h.2 hc
        refine gw_iload_n (pc := 22) o d_M_count_22 rfl 1 rfl ?_
        refine gw_if_ne (pc := 23) (tgt := 33) o d_M_count_23 (by decide) (fun hc => ?_) (fun hc => ?_)
        · have h := h.2 hc
          refine gw_iload_n (pc := 33) o d_M_count_33 rfl 1 rfl ?_
          refine gw_iconst (pc := 34) (v := (1 : Int32)) o d_M_count_34 (by decide) ?_
          refine gw_icmp_ne (pc := 35) (tgt := 45) o d_M_count_35 (by decide) (fun hc => ?_) (fun hc => ?_)
          · have h := h.2 hc
            refine gw_iload_n (pc := 45) o d_M_count_45 rfl 1 rfl ?_
            refine gw_iconst (pc := 46) (v := (2 : Int32)) o d_M_count_46 (by decide) ?_
            refine gw_icmp_ne (pc := 47) (tgt := 57) o d_M_count_47 (by decide) (fun hc => ?_) (fun hc => ?_)
            · have h := h.2 hc
              refine gw_iload_n (pc := 57) o d_M_count_57 rfl 1 rfl ?_
              refine gw_iconst (pc := 58) (v := (3 : Int32)) o d_M_count_58 (by decide) ?_
              refine gw_icmp_ne (pc := 59) (tgt := 69) o d_M_count_59 (by decide) (fun hc => ?_) (fun hc => ?_)
              · have h := h.2 hc
                refine gw_aload_n (pc := 69) o d_M_count_69 rfl 0 rfl ?_
                refine gM_get_outputs (pc := 70) o q_551 d_M_count_70 ?_
                exact gw_sub (lv' := []) [] rfl (wk_M_count_b73 o h)
              · have h := h.1 hc
                refine gw_aload_n (pc := 62) o d_M_count_62 rfl 0 rfl ?_
                refine gM_get_latches (pc := 63) o q_550 d_M_count_63 ?_
                refine gw_goto (pc := 66) (tgt := 73) o d_M_count_66 (by decide) ?_
                exact gw_sub (lv' := []) [] rfl (wk_M_count_b73 o h)
            · have h := h.1 hc
              refine gw_aload_n (pc := 50) o d_M_count_50 rfl 0 rfl ?_
              refine gM_get_inputs (pc := 51) o q_549 d_M_count_51 ?_
              refine gw_goto (pc := 54) (tgt := 73) o d_M_count_54 (by decide) ?_
              exact gw_sub (lv' := []) [] rfl (wk_M_count_b73 o h)
          · have h := h.1 hc
            refine gw_aload_n (pc := 38) o d_M_count_38 rfl 0 rfl ?_
            refine gM_get_feeds (pc := 39) o q_548 d_M_count_39 ?_
            refine gw_goto (pc := 42) (tgt := 73) o d_M_count_42 (by decide) ?_
            exact gw_sub (lv' := []) [] rfl (wk_M_count_b73 o h)
        · have h := h.1 hc
          refine gw_aload_n (pc := 26) o d_M_count_26 rfl 0 rfl ?_
          refine gM_get_gates (pc := 27) o q_547 d_M_count_27 ?_
          refine gw_goto (pc := 30) (tgt := 73) o d_M_count_30 (by decide) ?_
          exact gw_sub (lv' := []) [] rfl (wk_M_count_b73 o h)
    · have h := h.2 hc
      refine gw_iconst (pc := 15) (v := (-1 : Int32)) o d_M_count_15 (by decide) ?_
      exact gw_iret (pc := 16) o ⟨Nat.le_refl _, Nat.le_refl _⟩ (z1_i.mk h) d_M_count_16
def w_M_count  (M : xF) (J : (Nat → Int64)) (x1 : Int32) (Z : Int32 → xF → Prop) : Prop := M_count_b0  Z M J x1
theorem ct_M_count {l : Launch} {τ : xT} {M : xF} {J : (Nat → Int64)} {x1 : Int32} {Z : Int32 → xF → Prop} (hD : xD (wdM τ)) (h : w_M_count  M J x1 Z) : CT l (wdM τ) y_M_count (.code y_M_count b_M_count 8 (some .int)) (xR 1) [.ref (τ.2.2 81), .int x1] (M, J) (z1_i J Z) := by
  subst_vars
  exact CT.of (by decide) (Nat.le_of_ble_eq_true rfl) hD (fun κ hl ha o => gw_sub (lv' := [(0, .ref (τ.2.2 81)), (1, .int x1)]) [0, 1] rfl (wk_M_count_b0 o h))
