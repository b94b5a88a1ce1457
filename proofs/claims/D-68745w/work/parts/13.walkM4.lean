/-! walks, printed by mk.py -/
def M_explore_b32 (Z : Int32 → xF → (Nat → Int64) → Prop) (k7 : Int32 → xF → (Nat → Int64) → Prop) (k32 : Int32 → xF → (Nat → Int64) → Prop) (M : xF) (J : (Nat → Int64)) (x1 : Int32) (x2 : Int32) : Prop := w_M_choices M J (fun r34 => ((r34 ≤ x2) → (∀ x1_52 : Int32, x1_52 = x1 + (1 : Int32) → (k7 x1_52 M J))) ∧ (¬ (r34 ≤ x2) → (w_M_work M J x1 x2 (fun M_43 J_43 => ∀ x2_46 : Int32, x2_46 = x2 + (1 : Int32) → (k32 x2_46 M_43 J_43)))))
set_option maxRecDepth 10000 in
theorem wk_M_explore_b32 {κ : Cx} {τ : xT} {Z : Int32 → xF → (Nat → Int64) → Prop} {k7 : Int32 → xF → (Nat → Int64) → Prop} {k32 : Int32 → xF → (Nat → Int64) → Prop} {M : xF} {J : (Nat → Int64)} {x1 : Int32} {x2 : Int32} (o : OKc κ (wdM τ) 6 b_M_explore "StateExplorerModel" (some .int) (xR 3)) (hk7 : ∀ (x1 : Int32) (M : xF) (J : (Nat → Int64)), k7 x1 M J → GW κ (wdM τ) 6 (0, 0) (xMQ κ (wdM τ) (xR 3) (z12_i Z)) (M, J) 7 [(0, .ref (τ.2.2 81)), (1, .int x1)] []) (hk32 : ∀ (x2 : Int32) (M : xF) (J : (Nat → Int64)), k32 x2 M J → GW κ (wdM τ) 6 (0, 0) (xMQ κ (wdM τ) (xR 3) (z12_i Z)) (M, J) 32 [(0, .ref (τ.2.2 81)), (1, .int x1), (2, .int x2)] []) (h : M_explore_b32 Z k7 k32 M J x1 x2) : GW κ (wdM τ) 6 (0, 0) (xMQ κ (wdM τ) (xR 3) (z12_i Z)) (M, J) 32 [(0, .ref (τ.2.2 81)), (1, .int x1), (2, .int x2)] [] := by
  unfold M_explore_b32 at h
  refine gw_iload_n (pc := 32) o d_M_explore_32 rfl 2 rfl ?_
  refine gw_aload_n (pc := 33) o d_M_explore_33 rfl 0 rfl ?_
  refine gw_callV (pc := 34) (b := τ.2.2 81) (As := []) (st := [.int x2]) o (ct_M_choices o.hD h) mi_M_choices q_651 q_653 qs_33 0 rfl rfl (xRo_of (by omega) (by decide)) rfl rfl (Nat.le_of_ble_eq_true rfl) d_M_explore_34 (kk_p_i rfl (fun r34 h => ?_))
  refine gw_icmp_ge (pc := 37) (tgt := 52) o d_M_explore_37 (by decide) (fun hc => ?_) (fun hc => ?_)
  · have h := h.1 hc
    refine gw_iincN (pc := 52) (c := (1 : Int32)) (lw := fun x1_52 => [(1, .int x1_52), (0, .ref (τ.2.2 81)), (2, .int x2)]) o d_M_explore_52 (by decide) 1 rfl (by decide) (fun _ => rfl) (fun x1_52 ex1_52 => ?_)
    have h := h x1_52 ex1_52
    refine gw_goto (pc := 55) (tgt := 7) o d_M_explore_55 (by decide) ?_
    exact gw_sub (lv' := [(0, .ref (τ.2.2 81)), (1, .int x1_52)]) [1, 0] rfl (hk7 _ _ _ h)
  · have h := h.2 hc
    refine gw_aload_n (pc := 40) o d_M_explore_40 rfl 0 rfl ?_
    refine gw_iload_n (pc := 41) o d_M_explore_41 rfl 1 rfl ?_
    refine gw_iload_n (pc := 42) o d_M_explore_42 rfl 2 rfl ?_
    refine gw_callV (pc := 43) (b := τ.2.2 81) (As := [.int x1, .int x2]) (st := []) o (ct_M_work o.hD h) mi_M_work q_655 q_657 qs_34 0 rfl rfl (xRo_of (by omega) (by decide)) rfl rfl (Nat.le_of_ble_eq_true rfl) d_M_explore_43 (kk_12_v rfl (fun M_43 J_43 h => ?_))
    refine gw_iincN (pc := 46) (c := (1 : Int32)) (lw := fun x2_46 => [(2, .int x2_46), (0, .ref (τ.2.2 81)), (1, .int x1)]) o d_M_explore_46 (by decide) 2 rfl (by decide) (fun _ => rfl) (fun x2_46 ex2_46 => ?_)
    have h := h x2_46 ex2_46
    refine gw_goto (pc := 49) (tgt := 32) o d_M_explore_49 (by decide) ?_
    exact gw_sub (lv' := [(0, .ref (τ.2.2 81)), (1, .int x1), (2, .int x2_46)]) [1, 2, 0] rfl (hk32 _ _ _ h)
def M_explore_L32 (Z : Int32 → xF → (Nat → Int64) → Prop) (k7 : Int32 → xF → (Nat → Int64) → Prop) (M : xF) (J : (Nat → Int64)) (x1 : Int32) (x2 : Int32) : Prop := LOOP3 (fun k32 x2 M J => M_explore_b32 Z k7 k32 M J x1 x2) x2 M J
theorem wk_M_explore_L32 {κ : Cx} {τ : xT} {Z : Int32 → xF → (Nat → Int64) → Prop} {k7 : Int32 → xF → (Nat → Int64) → Prop} {M : xF} {J : (Nat → Int64)} {x1 : Int32} {x2 : Int32} (o : OKc κ (wdM τ) 6 b_M_explore "StateExplorerModel" (some .int) (xR 3)) (hk7 : ∀ (x1 : Int32) (M : xF) (J : (Nat → Int64)), k7 x1 M J → GW κ (wdM τ) 6 (0, 0) (xMQ κ (wdM τ) (xR 3) (z12_i Z)) (M, J) 7 [(0, .ref (τ.2.2 81)), (1, .int x1)] []) (h : M_explore_L32 Z k7 M J x1 x2) : GW κ (wdM τ) 6 (0, 0) (xMQ κ (wdM τ) (xR 3) (z12_i Z)) (M, J) 32 [(0, .ref (τ.2.2 81)), (1, .int x1), (2, .int x2)] [] := by
  unfold M_explore_L32 at h
  exact LOOP3.use (G := fun x2 M J => GW κ (wdM τ) 6 (0, 0) (xMQ κ (wdM τ) (xR 3) (z12_i Z)) (M, J) 32 [(0, .ref (τ.2.2 81)), (1, .int x1), (2, .int x2)] []) (fun k32 x2 M J hk32 h => wk_M_explore_b32 o hk7 hk32 h) h
def M_explore_b29 (Z : Int32 → xF → (Nat → Int64) → Prop) (k7 : Int32 → xF → (Nat → Int64) → Prop) (M : xF) (J : (Nat → Int64)) (x1 : Int32) (s1 : Int32) (s2 : Int32) : Prop := vp_in s1 256 ∧ (∀ M_29 : xF, M_29 = xs M 18 s1.toNatClampNeg s2 → (M_explore_L32 Z k7 M_29 J x1 (0 : Int32)))
set_option maxRecDepth 10000 in
theorem wk_M_explore_b29 {κ : Cx} {τ : xT} {Z : Int32 → xF → (Nat → Int64) → Prop} {k7 : Int32 → xF → (Nat → Int64) → Prop} {M : xF} {J : (Nat → Int64)} {x1 : Int32} {s1 : Int32} {s2 : Int32} (o : OKc κ (wdM τ) 6 b_M_explore "StateExplorerModel" (some .int) (xR 3)) (hk7 : ∀ (x1 : Int32) (M : xF) (J : (Nat → Int64)), k7 x1 M J → GW κ (wdM τ) 6 (0, 0) (xMQ κ (wdM τ) (xR 3) (z12_i Z)) (M, J) 7 [(0, .ref (τ.2.2 81)), (1, .int x1)] []) (h : M_explore_b29 Z k7 M J x1 s1 s2) : GW κ (wdM τ) 6 (0, 0) (xMQ κ (wdM τ) (xR 3) (z12_i Z)) (M, J) 29 [(0, .ref (τ.2.2 81)), (1, .int x1)] [.int s2, .int s1, .ref (τ.2.2 78)] := by
  unfold M_explore_b29 at h
  have hi := h.1
  have h := h.2
  refine gM_ast_distance (pc := 29) o hi d_M_explore_29 (fun M_29 eM_29 => ?_)
  have h := h M_29 eM_29
  refine gw_iconst (pc := 30) (v := (0 : Int32)) o d_M_explore_30 (by decide) ?_
  refine gw_istore_n (pc := 31) (lv' := [(2, .int (0 : Int32)), (0, .ref (τ.2.2 81)), (1, .int x1)]) o d_M_explore_31 rfl (by decide) rfl ?_
  exact gw_sub (lv' := [(0, .ref (τ.2.2 81)), (1, .int x1), (2, .int (0 : Int32))]) [1, 2, 0] rfl (wk_M_explore_L32 o hk7 h)
def M_explore_b155 (Z : Int32 → xF → (Nat → Int64) → Prop) (k62 : Int32 → Int32 → xF → Prop) (k70 : Int32 → Int32 → xF → Prop) (k81 : Int32 → Int32 → xF → Prop) (M : xF) (J : (Nat → Int64)) (x1 : Int32) (x2 : Int32) (x3 : Int32) (x4 : Int32) : Prop := ∀ x4_155 : Int32, x4_155 = x4 + (1 : Int32) → (k81 x1 x4_155 M)
set_option maxRecDepth 10000 in
theorem wk_M_explore_b155 {κ : Cx} {τ : xT} {Z : Int32 → xF → (Nat → Int64) → Prop} {k62 : Int32 → Int32 → xF → Prop} {k70 : Int32 → Int32 → xF → Prop} {k81 : Int32 → Int32 → xF → Prop} {M : xF} {J : (Nat → Int64)} {x1 : Int32} {x2 : Int32} {x3 : Int32} {x4 : Int32} (o : OKc κ (wdM τ) 6 b_M_explore "StateExplorerModel" (some .int) (xR 3)) (hk62 : ∀ (x1 : Int32) (x2 : Int32) (M : xF), k62 x1 x2 M → GW κ (wdM τ) 6 (0, 0) (xMQ κ (wdM τ) (xR 3) (z12_i Z)) (M, J) 62 [(0, .ref (τ.2.2 81)), (1, .int x1), (2, .int x2)] []) (hk70 : ∀ (x1 : Int32) (x3 : Int32) (M : xF), k70 x1 x3 M → GW κ (wdM τ) 6 (0, 0) (xMQ κ (wdM τ) (xR 3) (z12_i Z)) (M, J) 70 [(0, .ref (τ.2.2 81)), (1, .int x1), (2, .int x2), (3, .int x3)] []) (hk81 : ∀ (x1 : Int32) (x4 : Int32) (M : xF), k81 x1 x4 M → GW κ (wdM τ) 6 (0, 0) (xMQ κ (wdM τ) (xR 3) (z12_i Z)) (M, J) 81 [(0, .ref (τ.2.2 81)), (1, .int x1), (2, .int x2), (3, .int x3), (4, .int x4)] []) (h : M_explore_b155 Z k62 k70 k81 M J x1 x2 x3 x4) : GW κ (wdM τ) 6 (0, 0) (xMQ κ (wdM τ) (xR 3) (z12_i Z)) (M, J) 155 [(0, .ref (τ.2.2 81)), (1, .int x1), (2, .int x2), (3, .int x3), (4, .int x4)] [] := by
  unfold M_explore_b155 at h
  refine gw_iincN (pc := 155) (c := (1 : Int32)) (lw := fun x4_155 => [(4, .int x4_155), (0, .ref (τ.2.2 81)), (1, .int x1), (2, .int x2), (3, .int x3)]) o d_M_explore_155 (by decide) 4 rfl (by decide) (fun _ => rfl) (fun x4_155 ex4_155 => ?_)
  have h := h x4_155 ex4_155
  refine gw_goto (pc := 158) (tgt := 81) o d_M_explore_158 (by decide) ?_
  exact gw_sub (lv' := [(0, .ref (τ.2.2 81)), (1, .int x1), (2, .int x2), (3, .int x3), (4, .int x4_155)]) [1, 2, 3, 4, 0] rfl (hk81 _ _ _ h)
def M_explore_b161 (Z : Int32 → xF → (Nat → Int64) → Prop) (k62 : Int32 → Int32 → xF → Prop) (k70 : Int32 → Int32 → xF → Prop) (M : xF) (J : (Nat → Int64)) (x1 : Int32) (x2 : Int32) (x3 : Int32) : Prop := ∀ x3_161 : Int32, x3_161 = x3 + (1 : Int32) → (k70 x1 x3_161 M)
set_option maxRecDepth 10000 in
theorem wk_M_explore_b161 {κ : Cx} {τ : xT} {Z : Int32 → xF → (Nat → Int64) → Prop} {k62 : Int32 → Int32 → xF → Prop} {k70 : Int32 → Int32 → xF → Prop} {M : xF} {J : (Nat → Int64)} {x1 : Int32} {x2 : Int32} {x3 : Int32} (o : OKc κ (wdM τ) 6 b_M_explore "StateExplorerModel" (some .int) (xR 3)) (hk62 : ∀ (x1 : Int32) (x2 : Int32) (M : xF), k62 x1 x2 M → GW κ (wdM τ) 6 (0, 0) (xMQ κ (wdM τ) (xR 3) (z12_i Z)) (M, J) 62 [(0, .ref (τ.2.2 81)), (1, .int x1), (2, .int x2)] []) (hk70 : ∀ (x1 : Int32) (x3 : Int32) (M : xF), k70 x1 x3 M → GW κ (wdM τ) 6 (0, 0) (xMQ κ (wdM τ) (xR 3) (z12_i Z)) (M, J) 70 [(0, .ref (τ.2.2 81)), (1, .int x1), (2, .int x2), (3, .int x3)] []) (h : M_explore_b161 Z k62 k70 M J x1 x2 x3) : GW κ (wdM τ) 6 (0, 0) (xMQ κ (wdM τ) (xR 3) (z12_i Z)) (M, J) 161 [(0, .ref (τ.2.2 81)), (1, .int x1), (2, .int x2), (3, .int x3)] [] := by
  unfold M_explore_b161 at h
  refine gw_iincN (pc := 161) (c := (1 : Int32)) (lw := fun x3_161 => [(3, .int x3_161), (0, .ref (τ.2.2 81)), (1, .int x1), (2, .int x2)]) o d_M_explore_161 (by decide) 3 rfl (by decide) (fun _ => rfl) (fun x3_161 ex3_161 => ?_)
  have h := h x3_161 ex3_161
  refine gw_goto (pc := 164) (tgt := 70) o d_M_explore_164 (by decide) ?_
  exact gw_sub (lv' := [(0, .ref (τ.2.2 81)), (1, .int x1), (2, .int x2), (3, .int x3_161)]) [1, 2, 3, 0] rfl (hk70 _ _ _ h)
def M_explore_b81 (Z : Int32 → xF → (Nat → Int64) → Prop) (k62 : Int32 → Int32 → xF → Prop) (k70 : Int32 → Int32 → xF → Prop) (k81 : Int32 → Int32 → xF → Prop) (M : xF) (J : (Nat → Int64)) (x1 : Int32) (x2 : Int32) (x3 : Int32) (x4 : Int32) : Prop := w_M_choices M J (fun r84 => ((r84 ≤ x4) → (M_explore_b161 Z k62 k70 M J x1 x2 x3)) ∧ (¬ (r84 ≤ x4) → (vp_in x3 256 ∧ ((((M 18 x3.toNatClampNeg) = x2) → (vp_in (((16 : Int32) * x3) + x4) 4096 ∧ (∀ x5_112 : Int32, x5_112 = M 16 (((16 : Int32) * x3) + x4).toNatClampNeg → (vp_in (((16 : Int32) * x3) + x4) 4096 ∧ ((((M 15 (((16 : Int32) * x3) + x4).toNatClampNeg) = 0) → (M_explore_b155 Z k62 k70 k81 M J x1 x2 x3 x4)) ∧ (¬ ((M 15 (((16 : Int32) * x3) + x4).toNatClampNeg) = 0) → (vp_in x5_112 256 ∧ ((((M 18 x5_112.toNatClampNeg) = (-1 : Int32)) → (vp_in x5_112 256 ∧ (∀ M_152 : xF, M_152 = xs M 18 x5_112.toNatClampNeg (x2 + (1 : Int32)) → (M_explore_b155 Z k62 k70 k81 M_152 J (1 : Int32) x2 x3 x4)))) ∧ (¬ ((M 18 x5_112.toNatClampNeg) = (-1 : Int32)) → (M_explore_b155 Z k62 k70 k81 M J x1 x2 x3 x4)))))))))) ∧ (¬ ((M 18 x3.toNatClampNeg) = x2) → (M_explore_b161 Z k62 k70 M J x1 x2 x3))))))
set_option maxRecDepth 10000 in
theorem wk_M_explore_b81 {κ : Cx} {τ : xT} {Z : Int32 → xF → (Nat → Int64) → Prop} {k62 : Int32 → Int32 → xF → Prop} {k70 : Int32 → Int32 → xF → Prop} {k81 : Int32 → Int32 → xF → Prop} {M : xF} {J : (Nat → Int64)} {x1 : Int32} {x2 : Int32} {x3 : Int32} {x4 : Int32} (o : OKc κ (wdM τ) 6 b_M_explore "StateExplorerModel" (some .int) (xR 3)) (hk62 : ∀ (x1 : Int32) (x2 : Int32) (M : xF), k62 x1 x2 M → GW κ (wdM τ) 6 (0, 0) (xMQ κ (wdM τ) (xR 3) (z12_i Z)) (M, J) 62 [(0, .ref (τ.2.2 81)), (1, .int x1), (2, .int x2)] []) (hk70 : ∀ (x1 : Int32) (x3 : Int32) (M : xF), k70 x1 x3 M → GW κ (wdM τ) 6 (0, 0) (xMQ κ (wdM τ) (xR 3) (z12_i Z)) (M, J) 70 [(0, .ref (τ.2.2 81)), (1, .int x1), (2, .int x2), (3, .int x3)] []) (hk81 : ∀ (x1 : Int32) (x4 : Int32) (M : xF), k81 x1 x4 M → GW κ (wdM τ) 6 (0, 0) (xMQ κ (wdM τ) (xR 3) (z12_i Z)) (M, J) 81 [(0, .ref (τ.2.2 81)), (1, .int x1), (2, .int x2), (3, .int x3), (4, .int x4)] []) (h : M_explore_b81 Z k62 k70 k81 M J x1 x2 x3 x4) : GW κ (wdM τ) 6 (0, 0) (xMQ κ (wdM τ) (xR 3) (z12_i Z)) (M, J) 81 [(0, .ref (τ.2.2 81)), (1, .int x1), (2, .int x2), (3, .int x3), (4, .int x4)] [] := by
  unfold M_explore_b81 at h
  refine gw_iload (pc := 81) o d_M_explore_81 4 rfl ?_
  refine gw_aload_n (pc := 83) o d_M_explore_83 rfl 0 rfl ?_
  refine gw_callV (pc := 84) (b := τ.2.2 81) (As := []) (st := [.int x4]) o (ct_M_choices o.hD h) mi_M_choices q_651 q_653 qs_33 0 rfl rfl (xRo_of (by omega) (by decide)) rfl rfl (Nat.le_of_ble_eq_true rfl) d_M_explore_84 (kk_p_i rfl (fun r84 h => ?_))
  refine gw_icmp_ge (pc := 87) (tgt := 161) o d_M_explore_87 (by decide) (fun hc => ?_) (fun hc => ?_)
  · have h := h.1 hc
    exact gw_sub (lv' := [(0, .ref (τ.2.2 81)), (1, .int x1), (2, .int x2), (3, .int x3)]) [0, 1, 2, 3] rfl (wk_M_explore_b161 o hk62 hk70 h)
  · have h := h.2 hc
    refine gw_aload_n (pc := 90) o d_M_explore_90 rfl 0 rfl ?_
    refine gM_get_distance (pc := 91) o q_564 d_M_explore_91 ?_
    refine gw_iload_n (pc := 94) o d_M_explore_94 rfl 3 rfl ?_
    have hi := h.1
    have h := h.2
    refine gM_ald_distance (pc := 95) o hi d_M_explore_95 ?_
    refine gw_iload_n (pc := 96) o d_M_explore_96 rfl 2 rfl ?_
    refine gw_icmp_ne (pc := 97) (tgt := 161) o d_M_explore_97 (by decide) (fun hc => ?_) (fun hc => ?_)
    · have h := h.2 hc
      exact gw_sub (lv' := [(0, .ref (τ.2.2 81)), (1, .int x1), (2, .int x2), (3, .int x3)]) [0, 1, 2, 3] rfl (wk_M_explore_b161 o hk62 hk70 h)
    · have h := h.1 hc
      refine gw_aload_n (pc := 100) o d_M_explore_100 rfl 0 rfl ?_
      refine gM_get_next (pc := 101) o q_562 d_M_explore_101 ?_
      refine gw_bipush (pc := 104) (v := (16 : Int32)) o d_M_explore_104 (by decide) ?_
      refine gw_iload_n (pc := 106) o d_M_explore_106 rfl 3 rfl ?_
      refine gw_imul (pc := 107) o d_M_explore_107 ?_
      refine gw_iload (pc := 108) o d_M_explore_108 4 rfl ?_
      refine gw_iadd (pc := 110) o d_M_explore_110 ?_
      have hi := h.1
      have h := h.2
      refine gM_ald_next (pc := 111) o hi d_M_explore_111 ?_
      refine gw_topi (fun x5_112 ex5_112 => ?_)
      have h := h x5_112 ex5_112
      refine gw_istore (pc := 112) (lv' := [(5, .int x5_112), (0, .ref (τ.2.2 81)), (1, .int x1), (2, .int x2), (3, .int x3), (4, .int x4)]) o d_M_explore_112 (by decide) rfl ?_
      refine gw_aload_n (pc := 114) o d_M_explore_114 rfl 1 rfl ?_
      refine gM_get_settles (pc := 115) o q_561 d_M_explore_115 ?_
      refine gw_bipush (pc := 118) (v := (16 : Int32)) o d_M_explore_118 (by decide) ?_
      refine gw_iload_n (pc := 120) o d_M_explore_120 rfl 4 rfl ?_
      refine gw_imul (pc := 121) o d_M_explore_121 ?_
      refine gw_iload (pc := 122) o d_M_explore_122 5 rfl ?_
      refine gw_iadd (pc := 124) o d_M_explore_124 ?_
      have hi := h.1
      have h := h.2
      refine gM_ald_settles (pc := 125) o hi d_M_explore_125 ?_
      refine gw_if_eq (pc := 126) (tgt := 155) o d_M_explore_126 (by decide) (fun hc => ?_) (fun hc => ?_)
      · have h := h.1 hc
        exact gw_sub (lv' := [(0, .ref (τ.2.2 81)), (1, .int x1), (2, .int x2), (3, .int x3), (4, .int x4)]) [1, 2, 3, 4, 5] rfl (wk_M_explore_b155 o hk62 hk70 hk81 h)
      · have h := h.2 hc
        refine gw_aload_n (pc := 129) o d_M_explore_129 rfl 1 rfl ?_
        refine gM_get_distance (pc := 130) o q_564 d_M_explore_130 ?_
        refine gw_iload (pc := 133) o d_M_explore_133 0 rfl ?_
        have hi := h.1
        have h := h.2
        refine gM_ald_distance (pc := 135) o hi d_M_explore_135 ?_
        refine gw_iconst (pc := 136) (v := (-1 : Int32)) o d_M_explore_136 (by decide) ?_
        refine gw_icmp_eq (pc := 137) (tgt := 143) o d_M_explore_137 (by decide) (fun hc => ?_) (fun hc => ?_)
        · have h := h.1 hc
          refine gw_aload_n (pc := 143) o d_M_explore_143 rfl 1 rfl ?_
          refine gM_get_distance (pc := 144) o q_564 d_M_explore_144 ?_
          refine gw_iload (pc := 147) o d_M_explore_147 0 rfl ?_
          refine gw_iload_n (pc := 149) o d_M_explore_149 rfl 3 rfl ?_
          refine gw_iconst (pc := 150) (v := (1 : Int32)) o d_M_explore_150 (by decide) ?_
          refine gw_iadd (pc := 151) o d_M_explore_151 ?_
          have hi := h.1
          have h := h.2
          refine gM_ast_distance (pc := 152) o hi d_M_explore_152 (fun M_152 eM_152 => ?_)
          have h := h M_152 eM_152
          refine gw_iconst (pc := 153) (v := (1 : Int32)) o d_M_explore_153 (by decide) ?_
          refine gw_istore_n (pc := 154) (lv' := [(1, .int (1 : Int32)), (5, .int x5_112), (0, .ref (τ.2.2 81)), (2, .int x2), (3, .int x3), (4, .int x4)]) o d_M_explore_154 rfl (by decide) rfl ?_
          exact gw_sub (lv' := [(0, .ref (τ.2.2 81)), (1, .int (1 : Int32)), (2, .int x2), (3, .int x3), (4, .int x4)]) [2, 0, 3, 4, 5] rfl (wk_M_explore_b155 o hk62 hk70 hk81 h)
        · have h := h.2 hc
          refine gw_goto (pc := 140) (tgt := 155) o d_M_explore_140 (by decide) ?_
          exact gw_sub (lv' := [(0, .ref (τ.2.2 81)), (1, .int x1), (2, .int x2), (3, .int x3), (4, .int x4)]) [1, 2, 3, 4, 5] rfl (wk_M_explore_b155 o hk62 hk70 hk81 h)
def M_explore_L81 (Z : Int32 → xF → (Nat → Int64) → Prop) (k62 : Int32 → Int32 → xF → Prop) (k70 : Int32 → Int32 → xF → Prop) (M : xF) (J : (Nat → Int64)) (x1 : Int32) (x2 : Int32) (x3 : Int32) (x4 : Int32) : Prop := LOOP3 (fun k81 x1 x4 M => M_explore_b81 Z k62 k70 k81 M J x1 x2 x3 x4) x1 x4 M
theorem wk_M_explore_L81 {κ : Cx} {τ : xT} {Z : Int32 → xF → (Nat → Int64) → Prop} {k62 : Int32 → Int32 → xF → Prop} {k70 : Int32 → Int32 → xF → Prop} {M : xF} {J : (Nat → Int64)} {x1 : Int32} {x2 : Int32} {x3 : Int32} {x4 : Int32} (o : OKc κ (wdM τ) 6 b_M_explore "StateExplorerModel" (some .int) (xR 3)) (hk62 : ∀ (x1 : Int32) (x2 : Int32) (M : xF), k62 x1 x2 M → GW κ (wdM τ) 6 (0, 0) (xMQ κ (wdM τ) (xR 3) (z12_i Z)) (M, J) 62 [(0, .ref (τ.2.2 81)), (1, .int x1), (2, .int x2)] []) (hk70 : ∀ (x1 : Int32) (x3 : Int32) (M : xF), k70 x1 x3 M → GW κ (wdM τ) 6 (0, 0) (xMQ κ (wdM τ) (xR 3) (z12_i Z)) (M, J) 70 [(0, .ref (τ.2.2 81)), (1, .int x1), (2, .int x2), (3, .int x3)] []) (h : M_explore_L81 Z k62 k70 M J x1 x2 x3 x4) : GW κ (wdM τ) 6 (0, 0) (xMQ κ (wdM τ) (xR 3) (z12_i Z)) (M, J) 81 [(0, .ref (τ.2.2 81)), (1, .int x1), (2, .int x2), (3, .int x3), (4, .int x4)] [] := by
  unfold M_explore_L81 at h
  exact LOOP3.use (G := fun x1 x4 M => GW κ (wdM τ) 6 (0, 0) (xMQ κ (wdM τ) (xR 3) (z12_i Z)) (M, J) 81 [(0, .ref (τ.2.2 81)), (1, .int x1), (2, .int x2), (3, .int x3), (4, .int x4)] []) (fun k81 x1 x4 M hk81 h => wk_M_explore_b81 o hk62 hk70 hk81 h) h
def M_explore_b70 (Z : Int32 → xF → (Nat → Int64) → Prop) (k62 : Int32 → Int32 → xF → Prop) (k70 : Int32 → Int32 → xF → Prop) (M : xF) (J : (Nat → Int64)) (x1 : Int32) (x2 : Int32) (x3 : Int32) : Prop := w_M_states M J (fun r72 => ((r72 ≤ x3) → (∀ x2_167 : Int32, x2_167 = x2 + (1 : Int32) → (k62 x1 x2_167 M))) ∧ (¬ (r72 ≤ x3) → (M_explore_L81 Z k62 k70 M J x1 x2 x3 (0 : Int32))))
set_option maxRecDepth 10000 in
theorem wk_M_explore_b70 {κ : Cx} {τ : xT} {Z : Int32 → xF → (Nat → Int64) → Prop} {k62 : Int32 → Int32 → xF → Prop} {k70 : Int32 → Int32 → xF → Prop} {M : xF} {J : (Nat → Int64)} {x1 : Int32} {x2 : Int32} {x3 : Int32} (o : OKc κ (wdM τ) 6 b_M_explore "StateExplorerModel" (some .int) (xR 3)) (hk62 : ∀ (x1 : Int32) (x2 : Int32) (M : xF), k62 x1 x2 M → GW κ (wdM τ) 6 (0, 0) (xMQ κ (wdM τ) (xR 3) (z12_i Z)) (M, J) 62 [(0, .ref (τ.2.2 81)), (1, .int x1), (2, .int x2)] []) (hk70 : ∀ (x1 : Int32) (x3 : Int32) (M : xF), k70 x1 x3 M → GW κ (wdM τ) 6 (0, 0) (xMQ κ (wdM τ) (xR 3) (z12_i Z)) (M, J) 70 [(0, .ref (τ.2.2 81)), (1, .int x1), (2, .int x2), (3, .int x3)] []) (h : M_explore_b70 Z k62 k70 M J x1 x2 x3) : GW κ (wdM τ) 6 (0, 0) (xMQ κ (wdM τ) (xR 3) (z12_i Z)) (M, J) 70 [(0, .ref (τ.2.2 81)), (1, .int x1), (2, .int x2), (3, .int x3)] [] := by
  unfold M_explore_b70 at h
  refine gw_iload_n (pc := 70) o d_M_explore_70 rfl 3 rfl ?_
  refine gw_aload_n (pc := 71) o d_M_explore_71 rfl 0 rfl ?_
  refine gw_callV (pc := 72) (b := τ.2.2 81) (As := []) (st := [.int x3]) o (ct_M_states o.hD h) mi_M_states q_647 q_649 qs_32 0 rfl rfl (xRo_of (by omega) (by decide)) rfl rfl (Nat.le_of_ble_eq_true rfl) d_M_explore_72 (kk_p_i rfl (fun r72 h => ?_))
  refine gw_icmp_ge (pc := 75) (tgt := 167) o d_M_explore_75 (by decide) (fun hc => ?_) (fun hc => ?_)
  · have h := h.1 hc
    refine gw_iincN (pc := 167) (c := (1 : Int32)) (lw := fun x2_167 => [(2, .int x2_167), (0, .ref (τ.2.2 81)), (1, .int x1), (3, .int x3)]) o d_M_explore_167 (by decide) 2 rfl (by decide) (fun _ => rfl) (fun x2_167 ex2_167 => ?_)
    have h := h x2_167 ex2_167
    refine gw_goto (pc := 170) (tgt := 62) o d_M_explore_170 (by decide) ?_
    exact gw_sub (lv' := [(0, .ref (τ.2.2 81)), (1, .int x1), (2, .int x2_167)]) [1, 2, 0] rfl (hk62 _ _ _ h)
  · have h := h.2 hc
    refine gw_iconst (pc := 78) (v := (0 : Int32)) o d_M_explore_78 (by decide) ?_
    refine gw_istore (pc := 79) (lv' := [(4, .int (0 : Int32)), (0, .ref (τ.2.2 81)), (1, .int x1), (2, .int x2), (3, .int x3)]) o d_M_explore_79 (by decide) rfl ?_
    exact gw_sub (lv' := [(0, .ref (τ.2.2 81)), (1, .int x1), (2, .int x2), (3, .int x3), (4, .int (0 : Int32))]) [1, 2, 3, 4, 0] rfl (wk_M_explore_L81 o hk62 hk70 h)
def M_explore_L70 (Z : Int32 → xF → (Nat → Int64) → Prop) (k62 : Int32 → Int32 → xF → Prop) (M : xF) (J : (Nat → Int64)) (x1 : Int32) (x2 : Int32) (x3 : Int32) : Prop := LOOP3 (fun k70 x1 x3 M => M_explore_b70 Z k62 k70 M J x1 x2 x3) x1 x3 M
theorem wk_M_explore_L70 {κ : Cx} {τ : xT} {Z : Int32 → xF → (Nat → Int64) → Prop} {k62 : Int32 → Int32 → xF → Prop} {M : xF} {J : (Nat → Int64)} {x1 : Int32} {x2 : Int32} {x3 : Int32} (o : OKc κ (wdM τ) 6 b_M_explore "StateExplorerModel" (some .int) (xR 3)) (hk62 : ∀ (x1 : Int32) (x2 : Int32) (M : xF), k62 x1 x2 M → GW κ (wdM τ) 6 (0, 0) (xMQ κ (wdM τ) (xR 3) (z12_i Z)) (M, J) 62 [(0, .ref (τ.2.2 81)), (1, .int x1), (2, .int x2)] []) (h : M_explore_L70 Z k62 M J x1 x2 x3) : GW κ (wdM τ) 6 (0, 0) (xMQ κ (wdM τ) (xR 3) (z12_i Z)) (M, J) 70 [(0, .ref (τ.2.2 81)), (1, .int x1), (2, .int x2), (3, .int x3)] [] := by
  unfold M_explore_L70 at h
  exact LOOP3.use (G := fun x1 x3 M => GW κ (wdM τ) 6 (0, 0) (xMQ κ (wdM τ) (xR 3) (z12_i Z)) (M, J) 70 [(0, .ref (τ.2.2 81)), (1, .int x1), (2, .int x2), (3, .int x3)] []) (fun k70 x1 x3 M hk70 h => wk_M_explore_b70 o hk62 hk70 h) h
def M_explore_b62 (Z : Int32 → xF → (Nat → Int64) → Prop) (k62 : Int32 → Int32 → xF → Prop) (M : xF) (J : (Nat → Int64)) (x1 : Int32) (x2 : Int32) : Prop := ((x1 = 0) → (∀ M_175 : xF, M_175 = xs M 21 14 (1 : Int32) → (w_M_tell M_175 J (fun M_179 => w_M_reached M_179 J (fun r183 => Z r183 M_179 J))))) ∧ (¬ (x1 = 0) → (M_explore_L70 Z k62 M J (0 : Int32) x2 (0 : Int32)))
set_option maxRecDepth 10000 in
theorem wk_M_explore_b62 {κ : Cx} {τ : xT} {Z : Int32 → xF → (Nat → Int64) → Prop} {k62 : Int32 → Int32 → xF → Prop} {M : xF} {J : (Nat → Int64)} {x1 : Int32} {x2 : Int32} (o : OKc κ (wdM τ) 6 b_M_explore "StateExplorerModel" (some .int) (xR 3)) (hk62 : ∀ (x1 : Int32) (x2 : Int32) (M : xF), k62 x1 x2 M → GW κ (wdM τ) 6 (0, 0) (xMQ κ (wdM τ) (xR 3) (z12_i Z)) (M, J) 62 [(0, .ref (τ.2.2 81)), (1, .int x1), (2, .int x2)] []) (h : M_explore_b62 Z k62 M J x1 x2) : GW κ (wdM τ) 6 (0, 0) (xMQ κ (wdM τ) (xR 3) (z12_i Z)) (M, J) 62 [(0, .ref (τ.2.2 81)), (1, .int x1), (2, .int x2)] [] := by
  unfold M_explore_b62 at h
  refine gw_iload_n (pc := 62) o d_M_explore_62 rfl 1 rfl ?_
  refine gw_if_eq (pc := 63) (tgt := 173) o d_M_explore_63 (by decide) (fun hc => ?_) (fun hc => ?_)
  · have h := h.1 hc
    refine gw_aload_n (pc := 173) o d_M_explore_173 rfl 0 rfl ?_
    refine gw_iconst (pc := 174) (v := (1 : Int32)) o d_M_explore_174 (by decide) ?_
    refine gM_put_explored (pc := 175) o q_560 (by decide) d_M_explore_175 (fun M_175 eM_175 => ?_)
    have h := h M_175 eM_175
    refine gw_aload_n (pc := 178) o d_M_explore_178 rfl 0 rfl ?_
    refine gw_callV (pc := 179) (b := τ.2.2 81) (As := []) (st := []) o (ct_M_tell o.hD h) mi_M_tell q_667 q_669 qs_37 0 rfl rfl (xRo_of (by omega) (by decide)) rfl rfl (Nat.le_of_ble_eq_true rfl) d_M_explore_179 (kk_1_v rfl (fun M_179 h => ?_))
    refine gw_aload_n (pc := 182) o d_M_explore_182 rfl 0 rfl ?_
    refine gw_callV (pc := 183) (b := τ.2.2 81) (As := []) (st := []) o (ct_M_reached o.hD h) mi_M_reached q_679 q_681 qs_40 0 rfl rfl (xRo_of (by omega) (by decide)) rfl rfl (Nat.le_of_ble_eq_true rfl) d_M_explore_183 (kk_p_i rfl (fun r183 h => ?_))
    exact gw_iret (pc := 186) o ⟨Nat.le_refl _, Nat.le_refl _⟩ (z12_i.mk h) d_M_explore_186
  · have h := h.2 hc
    refine gw_iconst (pc := 66) (v := (0 : Int32)) o d_M_explore_66 (by decide) ?_
    refine gw_istore_n (pc := 67) (lv' := [(1, .int (0 : Int32)), (0, .ref (τ.2.2 81)), (2, .int x2)]) o d_M_explore_67 rfl (by decide) rfl ?_
    refine gw_iconst (pc := 68) (v := (0 : Int32)) o d_M_explore_68 (by decide) ?_
    refine gw_istore_n (pc := 69) (lv' := [(3, .int (0 : Int32)), (1, .int (0 : Int32)), (0, .ref (τ.2.2 81)), (2, .int x2)]) o d_M_explore_69 rfl (by decide) rfl ?_
    exact gw_sub (lv' := [(0, .ref (τ.2.2 81)), (1, .int (0 : Int32)), (2, .int x2), (3, .int (0 : Int32))]) [2, 1, 3, 0] rfl (wk_M_explore_L70 o hk62 h)
def M_explore_L62 (Z : Int32 → xF → (Nat → Int64) → Prop) (M : xF) (J : (Nat → Int64)) (x1 : Int32) (x2 : Int32) : Prop := LOOP3 (fun k62 x1 x2 M => M_explore_b62 Z k62 M J x1 x2) x1 x2 M
theorem wk_M_explore_L62 {κ : Cx} {τ : xT} {Z : Int32 → xF → (Nat → Int64) → Prop} {M : xF} {J : (Nat → Int64)} {x1 : Int32} {x2 : Int32} (o : OKc κ (wdM τ) 6 b_M_explore "StateExplorerModel" (some .int) (xR 3)) (h : M_explore_L62 Z M J x1 x2) : GW κ (wdM τ) 6 (0, 0) (xMQ κ (wdM τ) (xR 3) (z12_i Z)) (M, J) 62 [(0, .ref (τ.2.2 81)), (1, .int x1), (2, .int x2)] [] := by
  unfold M_explore_L62 at h
  exact LOOP3.use (G := fun x1 x2 M => GW κ (wdM τ) 6 (0, 0) (xMQ κ (wdM τ) (xR 3) (z12_i Z)) (M, J) 62 [(0, .ref (τ.2.2 81)), (1, .int x1), (2, .int x2)] []) (fun k62 x1 x2 M hk62 h => wk_M_explore_b62 o hk62 h) h
def M_explore_b7 (Z : Int32 → xF → (Nat → Int64) → Prop) (k7 : Int32 → xF → (Nat → Int64) → Prop) (M : xF) (J : (Nat → Int64)) (x1 : Int32) : Prop := w_M_states M J (fun r9 => ((r9 ≤ x1) → (M_explore_L62 Z M J (1 : Int32) (0 : Int32))) ∧ (¬ (r9 ≤ x1) → (((x1 = 0) → (M_explore_b29 Z k7 M J x1 x1 (0 : Int32))) ∧ (¬ (x1 = 0) → (M_explore_b29 Z k7 M J x1 x1 (-1 : Int32))))))
set_option maxRecDepth 10000 in
theorem wk_M_explore_b7 {κ : Cx} {τ : xT} {Z : Int32 → xF → (Nat → Int64) → Prop} {k7 : Int32 → xF → (Nat → Int64) → Prop} {M : xF} {J : (Nat → Int64)} {x1 : Int32} (o : OKc κ (wdM τ) 6 b_M_explore "StateExplorerModel" (some .int) (xR 3)) (hk7 : ∀ (x1 : Int32) (M : xF) (J : (Nat → Int64)), k7 x1 M J → GW κ (wdM τ) 6 (0, 0) (xMQ κ (wdM τ) (xR 3) (z12_i Z)) (M, J) 7 [(0, .ref (τ.2.2 81)), (1, .int x1)] []) (h : M_explore_b7 Z k7 M J x1) : GW κ (wdM τ) 6 (0, 0) (xMQ κ (wdM τ) (xR 3) (z12_i Z)) (M, J) 7 [(0, .ref (τ.2.2 81)), (1, .int x1)] [] := by
  unfold M_explore_b7 at h
  refine gw_iload_n (pc := 7) o d_M_explore_7 rfl 1 rfl ?_
  refine gw_aload_n (pc := 8) o d_M_explore_8 rfl 0 rfl ?_
  refine gw_callV (pc := 9) (b := τ.2.2 81) (As := []) (st := [.int x1]) o (ct_M_states o.hD h) mi_M_states q_647 q_649 qs_32 0 rfl rfl (xRo_of (by omega) (by decide)) rfl rfl (Nat.le_of_ble_eq_true rfl) d_M_explore_9 (kk_p_i rfl (fun r9 h => ?_))
  refine gw_icmp_ge (pc := 12) (tgt := 58) o d_M_explore_12 (by decide) (fun hc => ?_) (fun hc => ?_)
  · have h := h.1 hc
    refine gw_iconst (pc := 58) (v := (1 : Int32)) o d_M_explore_58 (by decide) ?_
    refine gw_istore_n (pc := 59) (lv' := [(1, .int (1 : Int32)), (0, .ref (τ.2.2 81))]) o d_M_explore_59 rfl (by decide) rfl ?_
    refine gw_iconst (pc := 60) (v := (0 : Int32)) o d_M_explore_60 (by decide) ?_
    refine gw_istore_n (pc := 61) (lv' := [(2, .int (0 : Int32)), (1, .int (1 : Int32)), (0, .ref (τ.2.2 81))]) o d_M_explore_61 rfl (by decide) rfl ?_
    exact gw_sub (lv' := [(0, .ref (τ.2.2 81)), (1, .int (1 : Int32)), (2, .int (0 : Int32))]) [2, 1, 0] rfl (wk_M_explore_L62 o h)
  · have h := h.2 hc
    refine gw_aload_n (pc := 15) o d_M_explore_15 rfl 0 rfl ?_
    refine gM_get_distance (pc := 16) o q_564 d_M_explore_16 ?_
    refine gw_iload_n (pc := 19) o d_M_explore_19 rfl 1 rfl ?_
    refine gw_iload_n (pc := 20) o d_M_explore_20 rfl 1 rfl ?_
    refine gw_if_ne (pc := 21) (tgt := 28) o d_M_explore_21 (by decide) (fun hc => ?_) (fun hc => ?_)
    · have h := h.2 hc
      refine gw_iconst (pc := 28) (v := (-1 : Int32)) o d_M_explore_28 (by decide) ?_
      exact gw_sub (lv' := [(0, .ref (τ.2.2 81)), (1, .int x1)]) [0, 1] rfl (wk_M_explore_b29 o hk7 h)
    · have h := h.1 hc
      refine gw_iconst (pc := 24) (v := (0 : Int32)) o d_M_explore_24 (by decide) ?_
      refine gw_goto (pc := 25) (tgt := 29) o d_M_explore_25 (by decide) ?_
      exact gw_sub (lv' := [(0, .ref (τ.2.2 81)), (1, .int x1)]) [0, 1] rfl (wk_M_explore_b29 o hk7 h)
def M_explore_L7 (Z : Int32 → xF → (Nat → Int64) → Prop) (M : xF) (J : (Nat → Int64)) (x1 : Int32) : Prop := LOOP3 (fun k7 x1 M J => M_explore_b7 Z k7 M J x1) x1 M J
theorem wk_M_explore_L7 {κ : Cx} {τ : xT} {Z : Int32 → xF → (Nat → Int64) → Prop} {M : xF} {J : (Nat → Int64)} {x1 : Int32} (o : OKc κ (wdM τ) 6 b_M_explore "StateExplorerModel" (some .int) (xR 3)) (h : M_explore_L7 Z M J x1) : GW κ (wdM τ) 6 (0, 0) (xMQ κ (wdM τ) (xR 3) (z12_i Z)) (M, J) 7 [(0, .ref (τ.2.2 81)), (1, .int x1)] [] := by
  unfold M_explore_L7 at h
  exact LOOP3.use (G := fun x1 M J => GW κ (wdM τ) 6 (0, 0) (xMQ κ (wdM τ) (xR 3) (z12_i Z)) (M, J) 7 [(0, .ref (τ.2.2 81)), (1, .int x1)] []) (fun k7 x1 M J hk7 h => wk_M_explore_b7 o hk7 h) h
def M_explore_b0 (Z : Int32 → xF → (Nat → Int64) → Prop) (M : xF) (J : (Nat → Int64)) : Prop := ∀ M_2 : xF, M_2 = xs M 21 0 (0 : Int32) → (M_explore_L7 Z M_2 J (0 : Int32))
set_option maxRecDepth 10000 in
theorem wk_M_explore_b0 {κ : Cx} {τ : xT} {Z : Int32 → xF → (Nat → Int64) → Prop} {M : xF} {J : (Nat → Int64)} (o : OKc κ (wdM τ) 6 b_M_explore "StateExplorerModel" (some .int) (xR 3)) (h : M_explore_b0 Z M J) : GW κ (wdM τ) 6 (0, 0) (xMQ κ (wdM τ) (xR 3) (z12_i Z)) (M, J) 0 [(0, .ref (τ.2.2 81))] [] := by
  unfold M_explore_b0 at h
  refine gw_aload_n (pc := 0) o d_M_explore_0 rfl 0 rfl ?_
  refine gw_iconst (pc := 1) (v := (0 : Int32)) o d_M_explore_1 (by decide) ?_
  refine gM_put_code (pc := 2) o q_546 d_M_explore_2 (fun M_2 eM_2 => ?_)
  have h := h M_2 eM_2
  refine gw_iconst (pc := 5) (v := (0 : Int32)) o d_M_explore_5 (by decide) ?_
  refine gw_istore_n (pc := 6) (lv' := [(1, .int (0 : Int32)), (0, .ref (τ.2.2 81))]) o d_M_explore_6 rfl (by decide) rfl ?_
  exact gw_sub (lv' := [(0, .ref (τ.2.2 81)), (1, .int (0 : Int32))]) [1, 0] rfl (wk_M_explore_L7 o h)
def w_M_explore  (M : xF) (J : (Nat → Int64))  (Z : Int32 → xF → (Nat → Int64) → Prop) : Prop := M_explore_b0  Z M J
theorem ct_M_explore {l : Launch} {τ : xT} {M : xF} {J : (Nat → Int64)}  {Z : Int32 → xF → (Nat → Int64) → Prop} (hD : xD (wdM τ)) (h : w_M_explore  M J Z) : CT l (wdM τ) y_M_explore (.code y_M_explore b_M_explore 6 (some .int)) (xR 3) [.ref (τ.2.2 81)] (M, J) (z12_i Z) := by
  subst_vars
  exact CT.of (by decide) (Nat.le_of_ble_eq_true rfl) hD (fun κ hl ha o => gw_sub (lv' := [(0, .ref (τ.2.2 81))]) [0] rfl (wk_M_explore_b0 o h))
def M_isState_b17 (Z : Int32 → Prop) (M : xF) (J : (Nat → Int64)) (s0 : Int32) : Prop := (s0 = 0 ∨ s0 = 1) ∧ (Z s0)
set_option maxRecDepth 10000 in
theorem wk_M_isState_b17 {κ : Cx} {τ : xT} {Z : Int32 → Prop} {M : xF} {J : (Nat → Int64)} {s0 : Int32} (o : OKc κ (wdM τ) 2 b_M_isState "StateExplorerModel" (some .boolean) (xR 1)) (h : M_isState_b17 Z M J s0) : GW κ (wdM τ) 2 (0, 0) (xMQ κ (wdM τ) (xR 1) (zp_i (M, J) Z)) (M, J) 17 [] [.int s0] := by
  unfold M_isState_b17 at h
  exact gw_zret (pc := 17) o ⟨Nat.le_refl _, Nat.le_refl _⟩ h.1 (zp_i.mk h.2) d_M_isState_17
def M_isState_b16 (Z : Int32 → Prop) (M : xF) (J : (Nat → Int64)) : Prop := M_isState_b17 Z M J (0 : Int32)
set_option maxRecDepth 10000 in
theorem wk_M_isState_b16 {κ : Cx} {τ : xT} {Z : Int32 → Prop} {M : xF} {J : (Nat → Int64)} (o : OKc κ (wdM τ) 2 b_M_isState "StateExplorerModel" (some .boolean) (xR 1)) (h : M_isState_b16 Z M J) : GW κ (wdM τ) 2 (0, 0) (xMQ κ (wdM τ) (xR 1) (zp_i (M, J) Z)) (M, J) 16 [] [] := by
  unfold M_isState_b16 at h
  refine gw_iconst (pc := 16) (v := (0 : Int32)) o d_M_isState_16 (by decide) ?_
  exact gw_sub (lv' := []) [] rfl (wk_M_isState_b17 o h)
def M_isState_b0 (Z : Int32 → Prop) (M : xF) (J : (Nat → Int64)) (x1 : Int32) : Prop := ((x1 < 0) → (M_isState_b16 Z M J)) ∧ (¬ (x1 < 0) → (w_M_states M J (fun r6 => ((r6 ≤ x1) → (M_isState_b16 Z M J)) ∧ (¬ (r6 ≤ x1) → (M_isState_b17 Z M J (1 : Int32))))))
set_option maxRecDepth 10000 in
theorem wk_M_isState_b0 {κ : Cx} {τ : xT} {Z : Int32 → Prop} {M : xF} {J : (Nat → Int64)} {x1 : Int32} (o : OKc κ (wdM τ) 2 b_M_isState "StateExplorerModel" (some .boolean) (xR 1)) (h : M_isState_b0 Z M J x1) : GW κ (wdM τ) 2 (0, 0) (xMQ κ (wdM τ) (xR 1) (zp_i (M, J) Z)) (M, J) 0 [(0, .ref (τ.2.2 81)), (1, .int x1)] [] := by
  unfold M_isState_b0 at h
  refine gw_iload_n (pc := 0) o d_M_isState_0 rfl 1 rfl ?_
  refine gw_if_lt (pc := 1) (tgt := 16) o d_M_isState_1 (by decide) (fun hc => ?_) (fun hc => ?_)
  · have h := h.1 hc
    exact gw_sub (lv' := []) [] rfl (wk_M_isState_b16 o h)
  · have h := h.2 hc
    refine gw_iload_n (pc := 4) o d_M_isState_4 rfl 1 rfl ?_
    refine gw_aload_n (pc := 5) o d_M_isState_5 rfl 0 rfl ?_
    refine gw_callV (pc := 6) (b := τ.2.2 81) (As := []) (st := [.int x1]) o (ct_M_states o.hD h) mi_M_states q_647 q_649 qs_32 0 rfl rfl (xRo_of (by omega) (by decide)) rfl rfl (Nat.le_of_ble_eq_true rfl) d_M_isState_6 (kk_p_i rfl (fun r6 h => ?_))
    refine gw_icmp_ge (pc := 9) (tgt := 16) o d_M_isState_9 (by decide) (fun hc => ?_) (fun hc => ?_)
    · have h := h.1 hc
      exact gw_sub (lv' := []) [] rfl (wk_M_isState_b16 o h)
    · have h := h.2 hc
      refine gw_iconst (pc := 12) (v := (1 : Int32)) o d_M_isState_12 (by decide) ?_
      refine gw_goto (pc := 13) (tgt := 17) o d_M_isState_13 (by decide) ?_
      exact gw_sub (lv' := []) [] rfl (wk_M_isState_b17 o h)
def w_M_isState  (M : xF) (J : (Nat → Int64)) (x1 : Int32) (Z : Int32 → Prop) : Prop := M_isState_b0  Z M J x1
theorem ct_M_isState {l : Launch} {τ : xT} {M : xF} {J : (Nat → Int64)} {x1 : Int32} {Z : Int32 → Prop} (hD : xD (wdM τ)) (h : w_M_isState  M J x1 Z) : CT l (wdM τ) y_M_isState (.code y_M_isState b_M_isState 2 (some .boolean)) (xR 1) [.ref (τ.2.2 81), .int x1] (M, J) (zp_i (M, J) Z) := by
  subst_vars
  exact CT.of (by decide) (Nat.le_of_ble_eq_true rfl) hD (fun κ hl ha o => gw_sub (lv' := [(0, .ref (τ.2.2 81)), (1, .int x1)]) [0, 1] rfl (wk_M_isState_b0 o h))
def M_distance_b42 (Z : Int32 → xF → Prop) (M : xF) (J : (Nat → Int64)) (s0 : Int32) : Prop := Z s0 M
set_option maxRecDepth 10000 in
theorem wk_M_distance_b42 {κ : Cx} {τ : xT} {Z : Int32 → xF → Prop} {M : xF} {J : (Nat → Int64)} {s0 : Int32} (o : OKc κ (wdM τ) 2 b_M_distance "StateExplorerModel" (some .int) (xR 2)) (h : M_distance_b42 Z M J s0) : GW κ (wdM τ) 2 (0, 0) (xMQ κ (wdM τ) (xR 2) (z1_i J Z)) (M, J) 42 [] [.int s0] := by
  unfold M_distance_b42 at h
  exact gw_iret (pc := 42) o ⟨Nat.le_refl _, Nat.le_refl _⟩ (z1_i.mk h) d_M_distance_42
def M_distance_b26 (Z : Int32 → xF → Prop) (M : xF) (J : (Nat → Int64)) (x1 : Int32) (s1 : Int32) (s2 : Int32) : Prop := w_M_fails M J s1 s2 (fun r26 M_26 => ((r26 = 0) → (vp_in x1 256 ∧ (M_distance_b42 Z M_26 J (M_26 18 x1.toNatClampNeg)))) ∧ (¬ (r26 = 0) → (M_distance_b42 Z M_26 J (0 : Int32))))
set_option maxRecDepth 10000 in
theorem wk_M_distance_b26 {κ : Cx} {τ : xT} {Z : Int32 → xF → Prop} {M : xF} {J : (Nat → Int64)} {x1 : Int32} {s1 : Int32} {s2 : Int32} (o : OKc κ (wdM τ) 2 b_M_distance "StateExplorerModel" (some .int) (xR 2)) (h : M_distance_b26 Z M J x1 s1 s2) : GW κ (wdM τ) 2 (0, 0) (xMQ κ (wdM τ) (xR 2) (z1_i J Z)) (M, J) 26 [(0, .ref (τ.2.2 81)), (1, .int x1)] [.int s2, .int s1, .ref (τ.2.2 81)] := by
  unfold M_distance_b26 at h
  refine gw_callV (pc := 26) (b := τ.2.2 81) (As := [.int s1, .int s2]) (st := []) o (ct_M_fails o.hD h) mi_M_fails q_619 q_621 qs_29 0 rfl rfl (xRo_of (by omega) (by decide)) rfl rfl (Nat.le_of_ble_eq_true rfl) d_M_distance_26 (kk_1_i rfl (fun r26 M_26 h => ?_))
  refine gw_if_eq (pc := 29) (tgt := 36) o d_M_distance_29 (by decide) (fun hc => ?_) (fun hc => ?_)
  · have h := h.1 hc
    refine gw_aload_n (pc := 36) o d_M_distance_36 rfl 0 rfl ?_
    refine gM_get_distance (pc := 37) o q_564 d_M_distance_37 ?_
    refine gw_iload_n (pc := 40) o d_M_distance_40 rfl 1 rfl ?_
    have hi := h.1
    have h := h.2
    refine gM_ald_distance (pc := 41) o hi d_M_distance_41 ?_
    exact gw_sub (lv' := []) [] rfl (wk_M_distance_b42 o h)
  · have h := h.2 hc
    refine gw_iconst (pc := 32) (v := (0 : Int32)) o d_M_distance_32 (by decide) ?_
    refine gw_goto (pc := 33) (tgt := 42) o d_M_distance_33 (by decide) ?_
    exact gw_sub (lv' := []) [] rfl (wk_M_distance_b42 o h)
def M_distance_b13 (Z : Int32 → xF → Prop) (M : xF) (J : (Nat → Int64)) (x1 : Int32) (s1 : Int32) : Prop := w_M_isState M J x1 (fun r15 => ((r15 = 0) → (M_distance_b26 Z M J x1 s1 (1 : Int32))) ∧ (¬ (r15 = 0) → (M_distance_b26 Z M J x1 s1 (0 : Int32))))
set_option maxRecDepth 10000 in
theorem wk_M_distance_b13 {κ : Cx} {τ : xT} {Z : Int32 → xF → Prop} {M : xF} {J : (Nat → Int64)} {x1 : Int32} {s1 : Int32} (o : OKc κ (wdM τ) 2 b_M_distance "StateExplorerModel" (some .int) (xR 2)) (h : M_distance_b13 Z M J x1 s1) : GW κ (wdM τ) 2 (0, 0) (xMQ κ (wdM τ) (xR 2) (z1_i J Z)) (M, J) 13 [(0, .ref (τ.2.2 81)), (1, .int x1)] [.int s1, .ref (τ.2.2 81)] := by
  unfold M_distance_b13 at h
  refine gw_aload_n (pc := 13) o d_M_distance_13 rfl 0 rfl ?_
  refine gw_iload_n (pc := 14) o d_M_distance_14 rfl 1 rfl ?_
  refine gw_callV (pc := 15) (b := τ.2.2 81) (As := [.int x1]) (st := [.int s1, .ref (τ.2.2 81)]) o (ct_M_isState o.hD h) mi_M_isState q_687 q_689 qs_41 0 rfl rfl (xRo_of (by omega) (by decide)) rfl rfl (Nat.le_of_ble_eq_true rfl) d_M_distance_15 (kk_p_i rfl (fun r15 h => ?_))
  refine gw_if_ne (pc := 18) (tgt := 25) o d_M_distance_18 (by decide) (fun hc => ?_) (fun hc => ?_)
  · have h := h.2 hc
    refine gw_iconst (pc := 25) (v := (0 : Int32)) o d_M_distance_25 (by decide) ?_
    exact gw_sub (lv' := [(0, .ref (τ.2.2 81)), (1, .int x1)]) [0, 1] rfl (wk_M_distance_b26 o h)
  · have h := h.1 hc
    refine gw_iconst (pc := 21) (v := (1 : Int32)) o d_M_distance_21 (by decide) ?_
    refine gw_goto (pc := 22) (tgt := 26) o d_M_distance_22 (by decide) ?_
    exact gw_sub (lv' := [(0, .ref (τ.2.2 81)), (1, .int x1)]) [0, 1] rfl (wk_M_distance_b26 o h)
def M_distance_b0 (Z : Int32 → xF → Prop) (M : xF) (J : (Nat → Int64)) (x1 : Int32) : Prop := (((M 21 14) = 0) → (M_distance_b13 Z M J x1 (1 : Int32))) ∧ (¬ ((M 21 14) = 0) → (M_distance_b13 Z M J x1 (0 : Int32)))
set_option maxRecDepth 10000 in
theorem wk_M_distance_b0 {κ : Cx} {τ : xT} {Z : Int32 → xF → Prop} {M : xF} {J : (Nat → Int64)} {x1 : Int32} (o : OKc κ (wdM τ) 2 b_M_distance "StateExplorerModel" (some .int) (xR 2)) (h : M_distance_b0 Z M J x1) : GW κ (wdM τ) 2 (0, 0) (xMQ κ (wdM τ) (xR 2) (z1_i J Z)) (M, J) 0 [(0, .ref (τ.2.2 81)), (1, .int x1)] [] := by
  unfold M_distance_b0 at h
  refine gw_aload_n (pc := 0) o d_M_distance_0 rfl 0 rfl ?_
  refine gw_aload_n (pc := 1) o d_M_distance_1 rfl 0 rfl ?_
  refine gM_get_explored (pc := 2) o q_560 d_M_distance_2 ?_
  refine gw_if_ne (pc := 5) (tgt := 12) o d_M_distance_5 (by decide) (fun hc => ?_) (fun hc => ?_)
  · have h := h.2 hc
    refine gw_iconst (pc := 12) (v := (0 : Int32)) o d_M_distance_12 (by decide) ?_
    exact gw_sub (lv' := [(0, .ref (τ.2.2 81)), (1, .int x1)]) [0, 1] rfl (wk_M_distance_b13 o h)
  · have h := h.1 hc
    refine gw_iconst (pc := 8) (v := (1 : Int32)) o d_M_distance_8 (by decide) ?_
    refine gw_goto (pc := 9) (tgt := 13) o d_M_distance_9 (by decide) ?_
    exact gw_sub (lv' := [(0, .ref (τ.2.2 81)), (1, .int x1)]) [0, 1] rfl (wk_M_distance_b13 o h)
def w_M_distance  (M : xF) (J : (Nat → Int64)) (x1 : Int32) (Z : Int32 → xF → Prop) : Prop := M_distance_b0  Z M J x1
theorem ct_M_distance {l : Launch} {τ : xT} {M : xF} {J : (Nat → Int64)} {x1 : Int32} {Z : Int32 → xF → Prop} (hD : xD (wdM τ)) (h : w_M_distance  M J x1 Z) : CT l (wdM τ) y_M_distance (.code y_M_distance b_M_distance 2 (some .int)) (xR 2) [.ref (τ.2.2 81), .int x1] (M, J) (z1_i J Z) := by
  subst_vars
  exact CT.of (by decide) (Nat.le_of_ble_eq_true rfl) hD (fun κ hl ha o => gw_sub (lv' := [(0, .ref (τ.2.2 81)), (1, .int x1)]) [0, 1] rfl (wk_M_distance_b0 o h))
def M_lead_b25 (Z : xF → Prop) (k2 : Int32 → xF → Prop) (M : xF) (J : (Nat → Int64)) (x1 : Int32) (x2 : Int32) (x3 : Int32) (s1 : Int32) (s2 : Int32) : Prop := vp_in s1 65536 ∧ ((s2 = 0 ∨ s2 = 1) ∧ (∀ M_25 : xF, M_25 = xs M 20 s1.toNatClampNeg s2 → (∀ x3_26 : Int32, x3_26 = x3 + (1 : Int32) → (k2 x3_26 M_25))))
set_option maxRecDepth 10000 in
theorem wk_M_lead_b25 {κ : Cx} {τ : xT} {Z : xF → Prop} {k2 : Int32 → xF → Prop} {M : xF} {J : (Nat → Int64)} {x1 : Int32} {x2 : Int32} {x3 : Int32} {s1 : Int32} {s2 : Int32} (o : OKc κ (wdM τ) 7 b_M_lead "StateExplorerModel" none (xR 1)) (hk2 : ∀ (x3 : Int32) (M : xF), k2 x3 M → GW κ (wdM τ) 7 (0, 0) (xMQ κ (wdM τ) (xR 1) (z1_v J Z)) (M, J) 2 [(0, .ref (τ.2.2 81)), (1, .int x1), (2, .int x2), (3, .int x3)] []) (h : M_lead_b25 Z k2 M J x1 x2 x3 s1 s2) : GW κ (wdM τ) 7 (0, 0) (xMQ κ (wdM τ) (xR 1) (z1_v J Z)) (M, J) 25 [(0, .ref (τ.2.2 81)), (1, .int x1), (2, .int x2), (3, .int x3)] [.int s2, .int s1, .ref (τ.2.2 80)] := by
  unfold M_lead_b25 at h
  have hi := h.1
  have h := h.2
  have hz0 := h.1
  have h := h.2
  refine gM_ast_leads (pc := 25) o hi (xnz hz0) d_M_lead_25 (fun M_25 eM_25 => ?_)
  have h := h M_25 eM_25
  refine gw_iincN (pc := 26) (c := (1 : Int32)) (lw := fun x3_26 => [(3, .int x3_26), (0, .ref (τ.2.2 81)), (1, .int x1), (2, .int x2)]) o d_M_lead_26 (by decide) 3 rfl (by decide) (fun _ => rfl) (fun x3_26 ex3_26 => ?_)
  have h := h x3_26 ex3_26
  refine gw_goto (pc := 29) (tgt := 2) o d_M_lead_29 (by decide) ?_
  exact gw_sub (lv' := [(0, .ref (τ.2.2 81)), (1, .int x1), (2, .int x2), (3, .int x3_26)]) [1, 2, 3, 0] rfl (hk2 _ _ h)
def M_lead_b121 (Z : xF → Prop) (k34 : Int32 → xF → Prop) (k42 : Int32 → xF → Prop) (k57 : Int32 → Int32 → Prop) (M : xF) (J : (Nat → Int64)) (x2 : Int32) (x3 : Int32) (x4 : Int32) (x6 : Int32) (s0 : Int32) : Prop := ∀ x6_123 : Int32, x6_123 = x6 + (1 : Int32) → (k57 s0 x6_123)
set_option maxRecDepth 10000 in
theorem wk_M_lead_b121 {κ : Cx} {τ : xT} {Z : xF → Prop} {k34 : Int32 → xF → Prop} {k42 : Int32 → xF → Prop} {k57 : Int32 → Int32 → Prop} {M : xF} {J : (Nat → Int64)} {x2 : Int32} {x3 : Int32} {x4 : Int32} {x6 : Int32} {s0 : Int32} (o : OKc κ (wdM τ) 7 b_M_lead "StateExplorerModel" none (xR 1)) (hk34 : ∀ (x3 : Int32) (M : xF), k34 x3 M → GW κ (wdM τ) 7 (0, 0) (xMQ κ (wdM τ) (xR 1) (z1_v J Z)) (M, J) 34 [(0, .ref (τ.2.2 81)), (2, .int x2), (3, .int x3)] []) (hk42 : ∀ (x4 : Int32) (M : xF), k42 x4 M → GW κ (wdM τ) 7 (0, 0) (xMQ κ (wdM τ) (xR 1) (z1_v J Z)) (M, J) 42 [(0, .ref (τ.2.2 81)), (2, .int x2), (3, .int x3), (4, .int x4)] []) (hk57 : ∀ (x5 : Int32) (x6 : Int32), k57 x5 x6 → GW κ (wdM τ) 7 (0, 0) (xMQ κ (wdM τ) (xR 1) (z1_v J Z)) (M, J) 57 [(0, .ref (τ.2.2 81)), (2, .int x2), (3, .int x3), (4, .int x4), (5, .int x5), (6, .int x6)] []) (h : M_lead_b121 Z k34 k42 k57 M J x2 x3 x4 x6 s0) : GW κ (wdM τ) 7 (0, 0) (xMQ κ (wdM τ) (xR 1) (z1_v J Z)) (M, J) 121 [(0, .ref (τ.2.2 81)), (2, .int x2), (3, .int x3), (4, .int x4), (6, .int x6)] [.int s0] := by
  unfold M_lead_b121 at h
  refine gw_istore (pc := 121) (lv' := [(5, .int s0), (0, .ref (τ.2.2 81)), (2, .int x2), (3, .int x3), (4, .int x4), (6, .int x6)]) o d_M_lead_121 (by decide) rfl ?_
  refine gw_iincN (pc := 123) (c := (1 : Int32)) (lw := fun x6_123 => [(6, .int x6_123), (5, .int s0), (0, .ref (τ.2.2 81)), (2, .int x2), (3, .int x3), (4, .int x4)]) o d_M_lead_123 (by decide) 5 rfl (by decide) (fun _ => rfl) (fun x6_123 ex6_123 => ?_)
  have h := h x6_123 ex6_123
  refine gw_goto (pc := 126) (tgt := 57) o d_M_lead_126 (by decide) ?_
  exact gw_sub (lv' := [(0, .ref (τ.2.2 81)), (2, .int x2), (3, .int x3), (4, .int x4), (5, .int s0), (6, .int x6_123)]) [2, 3, 4, 5, 1, 0] rfl (hk57 _ _ h)
def M_lead_b120 (Z : xF → Prop) (k34 : Int32 → xF → Prop) (k42 : Int32 → xF → Prop) (k57 : Int32 → Int32 → Prop) (M : xF) (J : (Nat → Int64)) (x2 : Int32) (x3 : Int32) (x4 : Int32) (x6 : Int32) : Prop := M_lead_b121 Z k34 k42 k57 M J x2 x3 x4 x6 (0 : Int32)
set_option maxRecDepth 10000 in
theorem wk_M_lead_b120 {κ : Cx} {τ : xT} {Z : xF → Prop} {k34 : Int32 → xF → Prop} {k42 : Int32 → xF → Prop} {k57 : Int32 → Int32 → Prop} {M : xF} {J : (Nat → Int64)} {x2 : Int32} {x3 : Int32} {x4 : Int32} {x6 : Int32} (o : OKc κ (wdM τ) 7 b_M_lead "StateExplorerModel" none (xR 1)) (hk34 : ∀ (x3 : Int32) (M : xF), k34 x3 M → GW κ (wdM τ) 7 (0, 0) (xMQ κ (wdM τ) (xR 1) (z1_v J Z)) (M, J) 34 [(0, .ref (τ.2.2 81)), (2, .int x2), (3, .int x3)] []) (hk42 : ∀ (x4 : Int32) (M : xF), k42 x4 M → GW κ (wdM τ) 7 (0, 0) (xMQ κ (wdM τ) (xR 1) (z1_v J Z)) (M, J) 42 [(0, .ref (τ.2.2 81)), (2, .int x2), (3, .int x3), (4, .int x4)] []) (hk57 : ∀ (x5 : Int32) (x6 : Int32), k57 x5 x6 → GW κ (wdM τ) 7 (0, 0) (xMQ κ (wdM τ) (xR 1) (z1_v J Z)) (M, J) 57 [(0, .ref (τ.2.2 81)), (2, .int x2), (3, .int x3), (4, .int x4), (5, .int x5), (6, .int x6)] []) (h : M_lead_b120 Z k34 k42 k57 M J x2 x3 x4 x6) : GW κ (wdM τ) 7 (0, 0) (xMQ κ (wdM τ) (xR 1) (z1_v J Z)) (M, J) 120 [(0, .ref (τ.2.2 81)), (2, .int x2), (3, .int x3), (4, .int x4), (6, .int x6)] [] := by
  unfold M_lead_b120 at h
  refine gw_iconst (pc := 120) (v := (0 : Int32)) o d_M_lead_120 (by decide) ?_
  exact gw_sub (lv' := [(0, .ref (τ.2.2 81)), (2, .int x2), (3, .int x3), (4, .int x4), (6, .int x6)]) [0, 1, 2, 3, 4] rfl (wk_M_lead_b121 o hk34 hk42 hk57 h)
def M_lead_b57 (Z : xF → Prop) (k34 : Int32 → xF → Prop) (k42 : Int32 → xF → Prop) (k57 : Int32 → Int32 → Prop) (M : xF) (J : (Nat → Int64)) (x2 : Int32) (x3 : Int32) (x4 : Int32) (x5 : Int32) (x6 : Int32) : Prop := w_M_choices M J (fun r60 => ((r60 ≤ x6) → (vp_in (((256 : Int32) * x3) + x4) 65536 ∧ ((x5 = 0 ∨ x5 = 1) ∧ (∀ M_143 : xF, M_143 = xs M 20 (((256 : Int32) * x3) + x4).toNatClampNeg x5 → (∀ x4_144 : Int32, x4_144 = x4 + (1 : Int32) → (k42 x4_144 M_143)))))) ∧ (¬ (r60 ≤ x6) → (((x5 = 0) → (vp_in (((16 : Int32) * x4) + x6) 4096 ∧ ((((M 15 (((16 : Int32) * x4) + x6).toNatClampNeg) = 0) → (M_lead_b120 Z k34 k42 k57 M J x2 x3 x4 x6)) ∧ (¬ ((M 15 (((16 : Int32) * x4) + x6).toNatClampNeg) = 0) → (vp_in (((16 : Int32) * x4) + x6) 4096 ∧ (vp_in (((256 : Int32) * (x3 - (1 : Int32))) + (M 16 (((16 : Int32) * x4) + x6).toNatClampNeg)) 65536 ∧ ((((M 20 (((256 : Int32) * (x3 - (1 : Int32))) + (M 16 (((16 : Int32) * x4) + x6).toNatClampNeg)).toNatClampNeg) = 0) → (M_lead_b120 Z k34 k42 k57 M J x2 x3 x4 x6)) ∧ (¬ ((M 20 (((256 : Int32) * (x3 - (1 : Int32))) + (M 16 (((16 : Int32) * x4) + x6).toNatClampNeg)).toNatClampNeg) = 0) → (M_lead_b121 Z k34 k42 k57 M J x2 x3 x4 x6 (1 : Int32)))))))))) ∧ (¬ (x5 = 0) → (M_lead_b121 Z k34 k42 k57 M J x2 x3 x4 x6 (1 : Int32))))))
set_option maxRecDepth 10000 in
theorem wk_M_lead_b57 {κ : Cx} {τ : xT} {Z : xF → Prop} {k34 : Int32 → xF → Prop} {k42 : Int32 → xF → Prop} {k57 : Int32 → Int32 → Prop} {M : xF} {J : (Nat → Int64)} {x2 : Int32} {x3 : Int32} {x4 : Int32} {x5 : Int32} {x6 : Int32} (o : OKc κ (wdM τ) 7 b_M_lead "StateExplorerModel" none (xR 1)) (hk34 : ∀ (x3 : Int32) (M : xF), k34 x3 M → GW κ (wdM τ) 7 (0, 0) (xMQ κ (wdM τ) (xR 1) (z1_v J Z)) (M, J) 34 [(0, .ref (τ.2.2 81)), (2, .int x2), (3, .int x3)] []) (hk42 : ∀ (x4 : Int32) (M : xF), k42 x4 M → GW κ (wdM τ) 7 (0, 0) (xMQ κ (wdM τ) (xR 1) (z1_v J Z)) (M, J) 42 [(0, .ref (τ.2.2 81)), (2, .int x2), (3, .int x3), (4, .int x4)] []) (hk57 : ∀ (x5 : Int32) (x6 : Int32), k57 x5 x6 → GW κ (wdM τ) 7 (0, 0) (xMQ κ (wdM τ) (xR 1) (z1_v J Z)) (M, J) 57 [(0, .ref (τ.2.2 81)), (2, .int x2), (3, .int x3), (4, .int x4), (5, .int x5), (6, .int x6)] []) (h : M_lead_b57 Z k34 k42 k57 M J x2 x3 x4 x5 x6) : GW κ (wdM τ) 7 (0, 0) (xMQ κ (wdM τ) (xR 1) (z1_v J Z)) (M, J) 57 [(0, .ref (τ.2.2 81)), (2, .int x2), (3, .int x3), (4, .int x4), (5, .int x5), (6, .int x6)] [] := by
  unfold M_lead_b57 at h
  refine gw_iload (pc := 57) o d_M_lead_57 5 rfl ?_
  refine gw_aload_n (pc := 59) o d_M_lead_59 rfl 0 rfl ?_
  refine gw_callV (pc := 60) (b := τ.2.2 81) (As := []) (st := [.int x6]) o (ct_M_choices o.hD h) mi_M_choices q_651 q_653 qs_33 0 rfl rfl (xRo_of (by omega) (by decide)) rfl rfl (Nat.le_of_ble_eq_true rfl) d_M_lead_60 (kk_p_i rfl (fun r60 h => ?_))
  refine gw_icmp_ge (pc := 63) (tgt := 129) o d_M_lead_63 (by decide) (fun hc => ?_) (fun hc => ?_)
  · have h := h.1 hc
    refine gw_aload_n (pc := 129) o d_M_lead_129 rfl 0 rfl ?_
    refine gM_get_leads (pc := 130) o q_566 d_M_lead_130 ?_
    refine gw_sipush (pc := 133) (v := (256 : Int32)) o d_M_lead_133 (by decide) ?_
    refine gw_iload_n (pc := 136) o d_M_lead_136 rfl 2 rfl ?_
    refine gw_imul (pc := 137) o d_M_lead_137 ?_
    refine gw_iload (pc := 138) o d_M_lead_138 3 rfl ?_
    refine gw_iadd (pc := 140) o d_M_lead_140 ?_
    refine gw_iload (pc := 141) o d_M_lead_141 4 rfl ?_
    have hi := h.1
    have h := h.2
    have hz0 := h.1
    have h := h.2
    refine gM_ast_leads (pc := 143) o hi (xnz hz0) d_M_lead_143 (fun M_143 eM_143 => ?_)
    have h := h M_143 eM_143
    refine gw_iincN (pc := 144) (c := (1 : Int32)) (lw := fun x4_144 => [(4, .int x4_144), (0, .ref (τ.2.2 81)), (2, .int x2), (3, .int x3), (5, .int x5), (6, .int x6)]) o d_M_lead_144 (by decide) 3 rfl (by decide) (fun _ => rfl) (fun x4_144 ex4_144 => ?_)
    have h := h x4_144 ex4_144
    refine gw_goto (pc := 147) (tgt := 42) o d_M_lead_147 (by decide) ?_
    exact gw_sub (lv' := [(0, .ref (τ.2.2 81)), (2, .int x2), (3, .int x3), (4, .int x4_144)]) [1, 2, 3, 0] rfl (hk42 _ _ h)
  · have h := h.2 hc
    refine gw_iload (pc := 66) o d_M_lead_66 4 rfl ?_
    refine gw_if_ne (pc := 68) (tgt := 116) o d_M_lead_68 (by decide) (fun hc => ?_) (fun hc => ?_)
    · have h := h.2 hc
      refine gw_iconst (pc := 116) (v := (1 : Int32)) o d_M_lead_116 (by decide) ?_
      refine gw_goto (pc := 117) (tgt := 121) o d_M_lead_117 (by decide) ?_
      exact gw_sub (lv' := [(0, .ref (τ.2.2 81)), (2, .int x2), (3, .int x3), (4, .int x4), (6, .int x6)]) [0, 1, 2, 3, 5] rfl (wk_M_lead_b121 o hk34 hk42 hk57 h)
    · have h := h.1 hc
      refine gw_aload_n (pc := 71) o d_M_lead_71 rfl 0 rfl ?_
      refine gM_get_settles (pc := 72) o q_561 d_M_lead_72 ?_
      refine gw_bipush (pc := 75) (v := (16 : Int32)) o d_M_lead_75 (by decide) ?_
      refine gw_iload (pc := 77) o d_M_lead_77 3 rfl ?_
      refine gw_imul (pc := 79) o d_M_lead_79 ?_
      refine gw_iload (pc := 80) o d_M_lead_80 5 rfl ?_
      refine gw_iadd (pc := 82) o d_M_lead_82 ?_
      have hi := h.1
      have h := h.2
      refine gM_ald_settles (pc := 83) o hi d_M_lead_83 ?_
      refine gw_if_eq (pc := 84) (tgt := 120) o d_M_lead_84 (by decide) (fun hc => ?_) (fun hc => ?_)
      · have h := h.1 hc
        exact gw_sub (lv' := [(0, .ref (τ.2.2 81)), (2, .int x2), (3, .int x3), (4, .int x4), (6, .int x6)]) [0, 1, 2, 3, 5] rfl (wk_M_lead_b120 o hk34 hk42 hk57 h)
      · have h := h.2 hc
        refine gw_aload_n (pc := 87) o d_M_lead_87 rfl 0 rfl ?_
        refine gM_get_leads (pc := 88) o q_566 d_M_lead_88 ?_
        refine gw_sipush (pc := 91) (v := (256 : Int32)) o d_M_lead_91 (by decide) ?_
        refine gw_iload_n (pc := 94) o d_M_lead_94 rfl 2 rfl ?_
        refine gw_iconst (pc := 95) (v := (1 : Int32)) o d_M_lead_95 (by decide) ?_
        refine gw_isub (pc := 96) o d_M_lead_96 ?_
        refine gw_imul (pc := 97) o d_M_lead_97 ?_
        refine gw_aload_n (pc := 98) o d_M_lead_98 rfl 0 rfl ?_
        refine gM_get_next (pc := 99) o q_562 d_M_lead_99 ?_
        refine gw_bipush (pc := 102) (v := (16 : Int32)) o d_M_lead_102 (by decide) ?_
        refine gw_iload (pc := 104) o d_M_lead_104 3 rfl ?_
        refine gw_imul (pc := 106) o d_M_lead_106 ?_
        refine gw_iload (pc := 107) o d_M_lead_107 5 rfl ?_
        refine gw_iadd (pc := 109) o d_M_lead_109 ?_
        have hi := h.1
        have h := h.2
        refine gM_ald_next (pc := 110) o hi d_M_lead_110 ?_
        refine gw_iadd (pc := 111) o d_M_lead_111 ?_
        have hi := h.1
        have h := h.2
        refine gM_ald_leads (pc := 112) o hi d_M_lead_112 ?_
        refine gw_if_eq (pc := 113) (tgt := 120) o d_M_lead_113 (by decide) (fun hc => ?_) (fun hc => ?_)
        · have h := h.1 hc
          exact gw_sub (lv' := [(0, .ref (τ.2.2 81)), (2, .int x2), (3, .int x3), (4, .int x4), (6, .int x6)]) [0, 1, 2, 3, 5] rfl (wk_M_lead_b120 o hk34 hk42 hk57 h)
        · have h := h.2 hc
          refine gw_iconst (pc := 116) (v := (1 : Int32)) o d_M_lead_116 (by decide) ?_
          refine gw_goto (pc := 117) (tgt := 121) o d_M_lead_117 (by decide) ?_
          exact gw_sub (lv' := [(0, .ref (τ.2.2 81)), (2, .int x2), (3, .int x3), (4, .int x4), (6, .int x6)]) [0, 1, 2, 3, 5] rfl (wk_M_lead_b121 o hk34 hk42 hk57 h)
def M_lead_L57 (Z : xF → Prop) (k34 : Int32 → xF → Prop) (k42 : Int32 → xF → Prop) (M : xF) (J : (Nat → Int64)) (x2 : Int32) (x3 : Int32) (x4 : Int32) (x5 : Int32) (x6 : Int32) : Prop := LOOP2 (fun k57 x5 x6 => M_lead_b57 Z k34 k42 k57 M J x2 x3 x4 x5 x6) x5 x6
theorem wk_M_lead_L57 {κ : Cx} {τ : xT} {Z : xF → Prop} {k34 : Int32 → xF → Prop} {k42 : Int32 → xF → Prop} {M : xF} {J : (Nat → Int64)} {x2 : Int32} {x3 : Int32} {x4 : Int32} {x5 : Int32} {x6 : Int32} (o : OKc κ (wdM τ) 7 b_M_lead "StateExplorerModel" none (xR 1)) (hk34 : ∀ (x3 : Int32) (M : xF), k34 x3 M → GW κ (wdM τ) 7 (0, 0) (xMQ κ (wdM τ) (xR 1) (z1_v J Z)) (M, J) 34 [(0, .ref (τ.2.2 81)), (2, .int x2), (3, .int x3)] []) (hk42 : ∀ (x4 : Int32) (M : xF), k42 x4 M → GW κ (wdM τ) 7 (0, 0) (xMQ κ (wdM τ) (xR 1) (z1_v J Z)) (M, J) 42 [(0, .ref (τ.2.2 81)), (2, .int x2), (3, .int x3), (4, .int x4)] []) (h : M_lead_L57 Z k34 k42 M J x2 x3 x4 x5 x6) : GW κ (wdM τ) 7 (0, 0) (xMQ κ (wdM τ) (xR 1) (z1_v J Z)) (M, J) 57 [(0, .ref (τ.2.2 81)), (2, .int x2), (3, .int x3), (4, .int x4), (5, .int x5), (6, .int x6)] [] := by
  unfold M_lead_L57 at h
  exact LOOP2.use (G := fun x5 x6 => GW κ (wdM τ) 7 (0, 0) (xMQ κ (wdM τ) (xR 1) (z1_v J Z)) (M, J) 57 [(0, .ref (τ.2.2 81)), (2, .int x2), (3, .int x3), (4, .int x4), (5, .int x5), (6, .int x6)] []) (fun k57 x5 x6 hk57 h => wk_M_lead_b57 o hk34 hk42 hk57 h) h
def M_lead_b42 (Z : xF → Prop) (k34 : Int32 → xF → Prop) (k42 : Int32 → xF → Prop) (M : xF) (J : (Nat → Int64)) (x2 : Int32) (x3 : Int32) (x4 : Int32) : Prop := w_M_states M J (fun r45 => ((r45 ≤ x4) → (∀ x3_150 : Int32, x3_150 = x3 + (1 : Int32) → (k34 x3_150 M))) ∧ (¬ (r45 ≤ x4) → (M_lead_L57 Z k34 k42 M J x2 x3 x4 (0 : Int32) (0 : Int32))))
set_option maxRecDepth 10000 in
theorem wk_M_lead_b42 {κ : Cx} {τ : xT} {Z : xF → Prop} {k34 : Int32 → xF → Prop} {k42 : Int32 → xF → Prop} {M : xF} {J : (Nat → Int64)} {x2 : Int32} {x3 : Int32} {x4 : Int32} (o : OKc κ (wdM τ) 7 b_M_lead "StateExplorerModel" none (xR 1)) (hk34 : ∀ (x3 : Int32) (M : xF), k34 x3 M → GW κ (wdM τ) 7 (0, 0) (xMQ κ (wdM τ) (xR 1) (z1_v J Z)) (M, J) 34 [(0, .ref (τ.2.2 81)), (2, .int x2), (3, .int x3)] []) (hk42 : ∀ (x4 : Int32) (M : xF), k42 x4 M → GW κ (wdM τ) 7 (0, 0) (xMQ κ (wdM τ) (xR 1) (z1_v J Z)) (M, J) 42 [(0, .ref (τ.2.2 81)), (2, .int x2), (3, .int x3), (4, .int x4)] []) (h : M_lead_b42 Z k34 k42 M J x2 x3 x4) : GW κ (wdM τ) 7 (0, 0) (xMQ κ (wdM τ) (xR 1) (z1_v J Z)) (M, J) 42 [(0, .ref (τ.2.2 81)), (2, .int x2), (3, .int x3), (4, .int x4)] [] := by
  unfold M_lead_b42 at h
  refine gw_iload (pc := 42) o d_M_lead_42 3 rfl ?_
  refine gw_aload_n (pc := 44) o d_M_lead_44 rfl 0 rfl ?_
  refine gw_callV (pc := 45) (b := τ.2.2 81) (As := []) (st := [.int x4]) o (ct_M_states o.hD h) mi_M_states q_647 q_649 qs_32 0 rfl rfl (xRo_of (by omega) (by decide)) rfl rfl (Nat.le_of_ble_eq_true rfl) d_M_lead_45 (kk_p_i rfl (fun r45 h => ?_))
  refine gw_icmp_ge (pc := 48) (tgt := 150) o d_M_lead_48 (by decide) (fun hc => ?_) (fun hc => ?_)
  · have h := h.1 hc
    refine gw_iincN (pc := 150) (c := (1 : Int32)) (lw := fun x3_150 => [(3, .int x3_150), (0, .ref (τ.2.2 81)), (2, .int x2), (4, .int x4)]) o d_M_lead_150 (by decide) 2 rfl (by decide) (fun _ => rfl) (fun x3_150 ex3_150 => ?_)
    have h := h x3_150 ex3_150
    refine gw_goto (pc := 153) (tgt := 34) o d_M_lead_153 (by decide) ?_
    exact gw_sub (lv' := [(0, .ref (τ.2.2 81)), (2, .int x2), (3, .int x3_150)]) [1, 2, 0] rfl (hk34 _ _ h)
  · have h := h.2 hc
    refine gw_iconst (pc := 51) (v := (0 : Int32)) o d_M_lead_51 (by decide) ?_
    refine gw_istore (pc := 52) (lv' := [(5, .int (0 : Int32)), (0, .ref (τ.2.2 81)), (2, .int x2), (3, .int x3), (4, .int x4)]) o d_M_lead_52 (by decide) rfl ?_
    refine gw_iconst (pc := 54) (v := (0 : Int32)) o d_M_lead_54 (by decide) ?_
    refine gw_istore (pc := 55) (lv' := [(6, .int (0 : Int32)), (5, .int (0 : Int32)), (0, .ref (τ.2.2 81)), (2, .int x2), (3, .int x3), (4, .int x4)]) o d_M_lead_55 (by decide) rfl ?_
    exact gw_sub (lv' := [(0, .ref (τ.2.2 81)), (2, .int x2), (3, .int x3), (4, .int x4), (5, .int (0 : Int32)), (6, .int (0 : Int32))]) [2, 3, 4, 5, 1, 0] rfl (wk_M_lead_L57 o hk34 hk42 h)
def M_lead_L42 (Z : xF → Prop) (k34 : Int32 → xF → Prop) (M : xF) (J : (Nat → Int64)) (x2 : Int32) (x3 : Int32) (x4 : Int32) : Prop := LOOP2 (fun k42 x4 M => M_lead_b42 Z k34 k42 M J x2 x3 x4) x4 M
theorem wk_M_lead_L42 {κ : Cx} {τ : xT} {Z : xF → Prop} {k34 : Int32 → xF → Prop} {M : xF} {J : (Nat → Int64)} {x2 : Int32} {x3 : Int32} {x4 : Int32} (o : OKc κ (wdM τ) 7 b_M_lead "StateExplorerModel" none (xR 1)) (hk34 : ∀ (x3 : Int32) (M : xF), k34 x3 M → GW κ (wdM τ) 7 (0, 0) (xMQ κ (wdM τ) (xR 1) (z1_v J Z)) (M, J) 34 [(0, .ref (τ.2.2 81)), (2, .int x2), (3, .int x3)] []) (h : M_lead_L42 Z k34 M J x2 x3 x4) : GW κ (wdM τ) 7 (0, 0) (xMQ κ (wdM τ) (xR 1) (z1_v J Z)) (M, J) 42 [(0, .ref (τ.2.2 81)), (2, .int x2), (3, .int x3), (4, .int x4)] [] := by
  unfold M_lead_L42 at h
  exact LOOP2.use (G := fun x4 M => GW κ (wdM τ) 7 (0, 0) (xMQ κ (wdM τ) (xR 1) (z1_v J Z)) (M, J) 42 [(0, .ref (τ.2.2 81)), (2, .int x2), (3, .int x3), (4, .int x4)] []) (fun k42 x4 M hk42 h => wk_M_lead_b42 o hk34 hk42 h) h
def M_lead_b34 (Z : xF → Prop) (k34 : Int32 → xF → Prop) (M : xF) (J : (Nat → Int64)) (x2 : Int32) (x3 : Int32) : Prop := ((x2 < x3) → (Z M)) ∧ (¬ (x2 < x3) → (M_lead_L42 Z k34 M J x2 x3 (0 : Int32)))
set_option maxRecDepth 10000 in
theorem wk_M_lead_b34 {κ : Cx} {τ : xT} {Z : xF → Prop} {k34 : Int32 → xF → Prop} {M : xF} {J : (Nat → Int64)} {x2 : Int32} {x3 : Int32} (o : OKc κ (wdM τ) 7 b_M_lead "StateExplorerModel" none (xR 1)) (hk34 : ∀ (x3 : Int32) (M : xF), k34 x3 M → GW κ (wdM τ) 7 (0, 0) (xMQ κ (wdM τ) (xR 1) (z1_v J Z)) (M, J) 34 [(0, .ref (τ.2.2 81)), (2, .int x2), (3, .int x3)] []) (h : M_lead_b34 Z k34 M J x2 x3) : GW κ (wdM τ) 7 (0, 0) (xMQ κ (wdM τ) (xR 1) (z1_v J Z)) (M, J) 34 [(0, .ref (τ.2.2 81)), (2, .int x2), (3, .int x3)] [] := by
  unfold M_lead_b34 at h
  refine gw_iload_n (pc := 34) o d_M_lead_34 rfl 2 rfl ?_
  refine gw_iload_n (pc := 35) o d_M_lead_35 rfl 1 rfl ?_
  refine gw_icmp_gt (pc := 36) (tgt := 156) o d_M_lead_36 (by decide) (fun hc => ?_) (fun hc => ?_)
  · have h := h.1 hc
    exact gw_vret (pc := 156) o ⟨Nat.le_refl _, Nat.le_refl _⟩ (z1_v.mk h) d_M_lead_156
  · have h := h.2 hc
    refine gw_iconst (pc := 39) (v := (0 : Int32)) o d_M_lead_39 (by decide) ?_
    refine gw_istore (pc := 40) (lv' := [(4, .int (0 : Int32)), (0, .ref (τ.2.2 81)), (2, .int x2), (3, .int x3)]) o d_M_lead_40 (by decide) rfl ?_
    exact gw_sub (lv' := [(0, .ref (τ.2.2 81)), (2, .int x2), (3, .int x3), (4, .int (0 : Int32))]) [1, 2, 3, 0] rfl (wk_M_lead_L42 o hk34 h)
def M_lead_L34 (Z : xF → Prop) (M : xF) (J : (Nat → Int64)) (x2 : Int32) (x3 : Int32) : Prop := LOOP2 (fun k34 x3 M => M_lead_b34 Z k34 M J x2 x3) x3 M
theorem wk_M_lead_L34 {κ : Cx} {τ : xT} {Z : xF → Prop} {M : xF} {J : (Nat → Int64)} {x2 : Int32} {x3 : Int32} (o : OKc κ (wdM τ) 7 b_M_lead "StateExplorerModel" none (xR 1)) (h : M_lead_L34 Z M J x2 x3) : GW κ (wdM τ) 7 (0, 0) (xMQ κ (wdM τ) (xR 1) (z1_v J Z)) (M, J) 34 [(0, .ref (τ.2.2 81)), (2, .int x2), (3, .int x3)] [] := by
  unfold M_lead_L34 at h
  exact LOOP2.use (G := fun x3 M => GW κ (wdM τ) 7 (0, 0) (xMQ κ (wdM τ) (xR 1) (z1_v J Z)) (M, J) 34 [(0, .ref (τ.2.2 81)), (2, .int x2), (3, .int x3)] []) (fun k34 x3 M hk34 h => wk_M_lead_b34 o hk34 h) h
def M_lead_b2 (Z : xF → Prop) (k2 : Int32 → xF → Prop) (M : xF) (J : (Nat → Int64)) (x1 : Int32) (x2 : Int32) (x3 : Int32) : Prop := w_M_states M J (fun r4 => ((r4 ≤ x3) → (M_lead_L34 Z M J x2 (1 : Int32))) ∧ (¬ (r4 ≤ x3) → (((x3 = x1) → (M_lead_b25 Z k2 M J x1 x2 x3 x3 (1 : Int32))) ∧ (¬ (x3 = x1) → (M_lead_b25 Z k2 M J x1 x2 x3 x3 (0 : Int32))))))
set_option maxRecDepth 10000 in
theorem wk_M_lead_b2 {κ : Cx} {τ : xT} {Z : xF → Prop} {k2 : Int32 → xF → Prop} {M : xF} {J : (Nat → Int64)} {x1 : Int32} {x2 : Int32} {x3 : Int32} (o : OKc κ (wdM τ) 7 b_M_lead "StateExplorerModel" none (xR 1)) (hk2 : ∀ (x3 : Int32) (M : xF), k2 x3 M → GW κ (wdM τ) 7 (0, 0) (xMQ κ (wdM τ) (xR 1) (z1_v J Z)) (M, J) 2 [(0, .ref (τ.2.2 81)), (1, .int x1), (2, .int x2), (3, .int x3)] []) (h : M_lead_b2 Z k2 M J x1 x2 x3) : GW κ (wdM τ) 7 (0, 0) (xMQ κ (wdM τ) (xR 1) (z1_v J Z)) (M, J) 2 [(0, .ref (τ.2.2 81)), (1, .int x1), (2, .int x2), (3, .int x3)] [] := by
  unfold M_lead_b2 at h
  refine gw_iload_n (pc := 2) o d_M_lead_2 rfl 3 rfl ?_
  refine gw_aload_n (pc := 3) o d_M_lead_3 rfl 0 rfl ?_
  refine gw_callV (pc := 4) (b := τ.2.2 81) (As := []) (st := [.int x3]) o (ct_M_states o.hD h) mi_M_states q_647 q_649 qs_32 0 rfl rfl (xRo_of (by omega) (by decide)) rfl rfl (Nat.le_of_ble_eq_true rfl) d_M_lead_4 (kk_p_i rfl (fun r4 h => ?_))
  refine gw_icmp_ge (pc := 7) (tgt := 32) o d_M_lead_7 (by decide) (fun hc => ?_) (fun hc => ?_)
  · have h := h.1 hc
    refine gw_iconst (pc := 32) (v := (1 : Int32)) o d_M_lead_32 (by decide) ?_
    refine gw_istore_n (pc := 33) (lv' := [(3, .int (1 : Int32)), (0, .ref (τ.2.2 81)), (1, .int x1), (2, .int x2)]) o d_M_lead_33 rfl (by decide) rfl ?_
    exact gw_sub (lv' := [(0, .ref (τ.2.2 81)), (2, .int x2), (3, .int (1 : Int32))]) [1, 3, 0] rfl (wk_M_lead_L34 o h)
  · have h := h.2 hc
    refine gw_aload_n (pc := 10) o d_M_lead_10 rfl 0 rfl ?_
    refine gM_get_leads (pc := 11) o q_566 d_M_lead_11 ?_
    refine gw_iload_n (pc := 14) o d_M_lead_14 rfl 3 rfl ?_
    refine gw_iload_n (pc := 15) o d_M_lead_15 rfl 3 rfl ?_
    refine gw_iload_n (pc := 16) o d_M_lead_16 rfl 1 rfl ?_
    refine gw_icmp_ne (pc := 17) (tgt := 24) o d_M_lead_17 (by decide) (fun hc => ?_) (fun hc => ?_)
    · have h := h.2 hc
      refine gw_iconst (pc := 24) (v := (0 : Int32)) o d_M_lead_24 (by decide) ?_
      exact gw_sub (lv' := [(0, .ref (τ.2.2 81)), (1, .int x1), (2, .int x2), (3, .int x3)]) [0, 1, 2, 3] rfl (wk_M_lead_b25 o hk2 h)
    · have h := h.1 hc
      refine gw_iconst (pc := 20) (v := (1 : Int32)) o d_M_lead_20 (by decide) ?_
      refine gw_goto (pc := 21) (tgt := 25) o d_M_lead_21 (by decide) ?_
      exact gw_sub (lv' := [(0, .ref (τ.2.2 81)), (1, .int x1), (2, .int x2), (3, .int x3)]) [0, 1, 2, 3] rfl (wk_M_lead_b25 o hk2 h)
def M_lead_L2 (Z : xF → Prop) (M : xF) (J : (Nat → Int64)) (x1 : Int32) (x2 : Int32) (x3 : Int32) : Prop := LOOP2 (fun k2 x3 M => M_lead_b2 Z k2 M J x1 x2 x3) x3 M
theorem wk_M_lead_L2 {κ : Cx} {τ : xT} {Z : xF → Prop} {M : xF} {J : (Nat → Int64)} {x1 : Int32} {x2 : Int32} {x3 : Int32} (o : OKc κ (wdM τ) 7 b_M_lead "StateExplorerModel" none (xR 1)) (h : M_lead_L2 Z M J x1 x2 x3) : GW κ (wdM τ) 7 (0, 0) (xMQ κ (wdM τ) (xR 1) (z1_v J Z)) (M, J) 2 [(0, .ref (τ.2.2 81)), (1, .int x1), (2, .int x2), (3, .int x3)] [] := by
  unfold M_lead_L2 at h
  exact LOOP2.use (G := fun x3 M => GW κ (wdM τ) 7 (0, 0) (xMQ κ (wdM τ) (xR 1) (z1_v J Z)) (M, J) 2 [(0, .ref (τ.2.2 81)), (1, .int x1), (2, .int x2), (3, .int x3)] []) (fun k2 x3 M hk2 h => wk_M_lead_b2 o hk2 h) h
def M_lead_b0 (Z : xF → Prop) (M : xF) (J : (Nat → Int64)) (x1 : Int32) (x2 : Int32) : Prop := M_lead_L2 Z M J x1 x2 (0 : Int32)
set_option maxRecDepth 10000 in
theorem wk_M_lead_b0 {κ : Cx} {τ : xT} {Z : xF → Prop} {M : xF} {J : (Nat → Int64)} {x1 : Int32} {x2 : Int32} (o : OKc κ (wdM τ) 7 b_M_lead "StateExplorerModel" none (xR 1)) (h : M_lead_b0 Z M J x1 x2) : GW κ (wdM τ) 7 (0, 0) (xMQ κ (wdM τ) (xR 1) (z1_v J Z)) (M, J) 0 [(0, .ref (τ.2.2 81)), (1, .int x1), (2, .int x2)] [] := by
  unfold M_lead_b0 at h
  refine gw_iconst (pc := 0) (v := (0 : Int32)) o d_M_lead_0 (by decide) ?_
  refine gw_istore_n (pc := 1) (lv' := [(3, .int (0 : Int32)), (0, .ref (τ.2.2 81)), (1, .int x1), (2, .int x2)]) o d_M_lead_1 rfl (by decide) rfl ?_
  exact gw_sub (lv' := [(0, .ref (τ.2.2 81)), (1, .int x1), (2, .int x2), (3, .int (0 : Int32))]) [1, 2, 3, 0] rfl (wk_M_lead_L2 o h)
def w_M_lead  (M : xF) (J : (Nat → Int64)) (x1 : Int32) (x2 : Int32) (Z : xF → Prop) : Prop := M_lead_b0  Z M J x1 x2
theorem ct_M_lead {l : Launch} {τ : xT} {M : xF} {J : (Nat → Int64)} {x1 : Int32} {x2 : Int32} {Z : xF → Prop} (hD : xD (wdM τ)) (h : w_M_lead  M J x1 x2 Z) : CT l (wdM τ) y_M_lead (.code y_M_lead b_M_lead 7 none) (xR 1) [.ref (τ.2.2 81), .int x1, .int x2] (M, J) (z1_v J Z) := by
  subst_vars
  exact CT.of (by decide) (Nat.le_of_ble_eq_true rfl) hD (fun κ hl ha o => gw_sub (lv' := [(0, .ref (τ.2.2 81)), (1, .int x1), (2, .int x2)]) [0, 1, 2] rfl (wk_M_lead_b0 o h))
