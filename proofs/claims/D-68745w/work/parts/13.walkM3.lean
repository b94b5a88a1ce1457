/-! walks, printed by mk.py -/
def M_shows_b71 (Z : Int32 → Prop) (k6 : Int32 → Int32 → Prop) (M : xF) (J : (Nat → Int64)) (x1 : Int32) (x2 : Int32) (x3 : Int32) (x5 : Int32) (s0 : Int32) : Prop := ∀ x5_73 : Int32, x5_73 = x5 + (1 : Int32) → (k6 s0 x5_73)
set_option maxRecDepth 10000 in
theorem wk_M_shows_b71 {κ : Cx} {τ : xT} {Z : Int32 → Prop} {k6 : Int32 → Int32 → Prop} {M : xF} {J : (Nat → Int64)} {x1 : Int32} {x2 : Int32} {x3 : Int32} {x5 : Int32} {s0 : Int32} (o : OKc κ (wdM τ) 6 b_M_shows "StateExplorerModel" (some .boolean) (xR 0)) (hk6 : ∀ (x4 : Int32) (x5 : Int32), k6 x4 x5 → GW κ (wdM τ) 6 (0, 0) (xMQ κ (wdM τ) (xR 0) (zp_i (M, J) Z)) (M, J) 6 [(0, .ref (τ.2.2 81)), (1, .int x1), (2, .int x2), (3, .int x3), (4, .int x4), (5, .int x5)] []) (h : M_shows_b71 Z k6 M J x1 x2 x3 x5 s0) : GW κ (wdM τ) 6 (0, 0) (xMQ κ (wdM τ) (xR 0) (zp_i (M, J) Z)) (M, J) 71 [(0, .ref (τ.2.2 81)), (1, .int x1), (2, .int x2), (3, .int x3), (5, .int x5)] [.int s0] := by
  unfold M_shows_b71 at h
  refine gw_istore (pc := 71) (lv' := [(4, .int s0), (0, .ref (τ.2.2 81)), (1, .int x1), (2, .int x2), (3, .int x3), (5, .int x5)]) o d_M_shows_71 (by decide) rfl ?_
  refine gw_iincN (pc := 73) (c := (1 : Int32)) (lw := fun x5_73 => [(5, .int x5_73), (4, .int s0), (0, .ref (τ.2.2 81)), (1, .int x1), (2, .int x2), (3, .int x3)]) o d_M_shows_73 (by decide) 5 rfl (by decide) (fun _ => rfl) (fun x5_73 ex5_73 => ?_)
  have h := h x5_73 ex5_73
  refine gw_goto (pc := 76) (tgt := 6) o d_M_shows_76 (by decide) ?_
  exact gw_sub (lv' := [(0, .ref (τ.2.2 81)), (1, .int x1), (2, .int x2), (3, .int x3), (4, .int s0), (5, .int x5_73)]) [2, 3, 4, 5, 1, 0] rfl (hk6 _ _ h)
def M_shows_b70 (Z : Int32 → Prop) (k6 : Int32 → Int32 → Prop) (M : xF) (J : (Nat → Int64)) (x1 : Int32) (x2 : Int32) (x3 : Int32) (x5 : Int32) : Prop := M_shows_b71 Z k6 M J x1 x2 x3 x5 (0 : Int32)
set_option maxRecDepth 10000 in
theorem wk_M_shows_b70 {κ : Cx} {τ : xT} {Z : Int32 → Prop} {k6 : Int32 → Int32 → Prop} {M : xF} {J : (Nat → Int64)} {x1 : Int32} {x2 : Int32} {x3 : Int32} {x5 : Int32} (o : OKc κ (wdM τ) 6 b_M_shows "StateExplorerModel" (some .boolean) (xR 0)) (hk6 : ∀ (x4 : Int32) (x5 : Int32), k6 x4 x5 → GW κ (wdM τ) 6 (0, 0) (xMQ κ (wdM τ) (xR 0) (zp_i (M, J) Z)) (M, J) 6 [(0, .ref (τ.2.2 81)), (1, .int x1), (2, .int x2), (3, .int x3), (4, .int x4), (5, .int x5)] []) (h : M_shows_b70 Z k6 M J x1 x2 x3 x5) : GW κ (wdM τ) 6 (0, 0) (xMQ κ (wdM τ) (xR 0) (zp_i (M, J) Z)) (M, J) 70 [(0, .ref (τ.2.2 81)), (1, .int x1), (2, .int x2), (3, .int x3), (5, .int x5)] [] := by
  unfold M_shows_b70 at h
  refine gw_iconst (pc := 70) (v := (0 : Int32)) o d_M_shows_70 (by decide) ?_
  exact gw_sub (lv' := [(0, .ref (τ.2.2 81)), (1, .int x1), (2, .int x2), (3, .int x3), (5, .int x5)]) [0, 1, 2, 3, 4] rfl (wk_M_shows_b71 o hk6 h)
def M_shows_b6 (Z : Int32 → Prop) (k6 : Int32 → Int32 → Prop) (M : xF) (J : (Nat → Int64)) (x1 : Int32) (x2 : Int32) (x3 : Int32) (x4 : Int32) (x5 : Int32) : Prop := (((M 21 5) ≤ x5) → ((x4 = 0 ∨ x4 = 1) ∧ (Z x4))) ∧ (¬ ((M 21 5) ≤ x5) → (((x4 = 0) → (M_shows_b70 Z k6 M J x1 x2 x3 x5)) ∧ (¬ (x4 = 0) → (vp_in (((16 : Int32) * x1) + x3) 4096 ∧ (vp_in x5 6 ∧ (vp_in (((16 : Int32) * x2) + x3) 4096 ∧ (vp_in x5 6 ∧ ((((((J (((16 : Int32) * x1) + x3).toNatClampNeg) >>> ((M 12 x5.toNatClampNeg).toInt64 &&& 63)) &&& (1 : Int64)) = (((J (((16 : Int32) * x2) + x3).toNatClampNeg) >>> ((M 12 x5.toNatClampNeg).toInt64 &&& 63)) &&& (1 : Int64))) → (M_shows_b71 Z k6 M J x1 x2 x3 x5 (1 : Int32))) ∧ (¬ ((((J (((16 : Int32) * x1) + x3).toNatClampNeg) >>> ((M 12 x5.toNatClampNeg).toInt64 &&& 63)) &&& (1 : Int64)) = (((J (((16 : Int32) * x2) + x3).toNatClampNeg) >>> ((M 12 x5.toNatClampNeg).toInt64 &&& 63)) &&& (1 : Int64))) → (M_shows_b70 Z k6 M J x1 x2 x3 x5))))))))))
set_option maxRecDepth 10000 in
theorem wk_M_shows_b6 {κ : Cx} {τ : xT} {Z : Int32 → Prop} {k6 : Int32 → Int32 → Prop} {M : xF} {J : (Nat → Int64)} {x1 : Int32} {x2 : Int32} {x3 : Int32} {x4 : Int32} {x5 : Int32} (o : OKc κ (wdM τ) 6 b_M_shows "StateExplorerModel" (some .boolean) (xR 0)) (hk6 : ∀ (x4 : Int32) (x5 : Int32), k6 x4 x5 → GW κ (wdM τ) 6 (0, 0) (xMQ κ (wdM τ) (xR 0) (zp_i (M, J) Z)) (M, J) 6 [(0, .ref (τ.2.2 81)), (1, .int x1), (2, .int x2), (3, .int x3), (4, .int x4), (5, .int x5)] []) (h : M_shows_b6 Z k6 M J x1 x2 x3 x4 x5) : GW κ (wdM τ) 6 (0, 0) (xMQ κ (wdM τ) (xR 0) (zp_i (M, J) Z)) (M, J) 6 [(0, .ref (τ.2.2 81)), (1, .int x1), (2, .int x2), (3, .int x3), (4, .int x4), (5, .int x5)] [] := by
  unfold M_shows_b6 at h
  refine gw_iload (pc := 6) o d_M_shows_6 5 rfl ?_
  refine gw_aload_n (pc := 8) o d_M_shows_8 rfl 0 rfl ?_
  refine gM_get_outputs (pc := 9) o q_551 d_M_shows_9 ?_
  refine gw_icmp_ge (pc := 12) (tgt := 79) o d_M_shows_12 (by decide) (fun hc => ?_) (fun hc => ?_)
  · have h := h.1 hc
    refine gw_iload (pc := 79) o d_M_shows_79 4 rfl ?_
    exact gw_zret (pc := 81) o ⟨Nat.le_refl _, Nat.le_refl _⟩ h.1 (zp_i.mk h.2) d_M_shows_81
  · have h := h.2 hc
    refine gw_iload (pc := 15) o d_M_shows_15 4 rfl ?_
    refine gw_if_eq (pc := 17) (tgt := 70) o d_M_shows_17 (by decide) (fun hc => ?_) (fun hc => ?_)
    · have h := h.1 hc
      exact gw_sub (lv' := [(0, .ref (τ.2.2 81)), (1, .int x1), (2, .int x2), (3, .int x3), (5, .int x5)]) [0, 1, 2, 3, 5] rfl (wk_M_shows_b70 o hk6 h)
    · have h := h.2 hc
      refine gw_aload_n (pc := 20) o d_M_shows_20 rfl 0 rfl ?_
      refine gM_get_ones (pc := 21) o q_563 d_M_shows_21 ?_
      refine gw_bipush (pc := 24) (v := (16 : Int32)) o d_M_shows_24 (by decide) ?_
      refine gw_iload_n (pc := 26) o d_M_shows_26 rfl 1 rfl ?_
      refine gw_imul (pc := 27) o d_M_shows_27 ?_
      refine gw_iload_n (pc := 28) o d_M_shows_28 rfl 3 rfl ?_
      refine gw_iadd (pc := 29) o d_M_shows_29 ?_
      have hi := h.1
      have h := h.2
      refine gM_ald_ones (pc := 30) o hi d_M_shows_30 ?_
      refine gw_aload_n (pc := 31) o d_M_shows_31 rfl 0 rfl ?_
      refine gM_get_outputOf (pc := 32) o q_558 d_M_shows_32 ?_
      refine gw_iload (pc := 35) o d_M_shows_35 5 rfl ?_
      have hi := h.1
      have h := h.2
      refine gM_ald_outputOf (pc := 37) o hi d_M_shows_37 ?_
      refine gw_lshr (pc := 38) o d_M_shows_38 ?_
      refine gw_lconst (pc := 39) (v := (1 : Int64)) o d_M_shows_39 (by decide) ?_
      refine gw_land (pc := 40) o d_M_shows_40 ?_
      refine gw_aload_n (pc := 41) o d_M_shows_41 rfl 0 rfl ?_
      refine gM_get_ones (pc := 42) o q_563 d_M_shows_42 ?_
      refine gw_bipush (pc := 45) (v := (16 : Int32)) o d_M_shows_45 (by decide) ?_
      refine gw_iload_n (pc := 47) o d_M_shows_47 rfl 2 rfl ?_
      refine gw_imul (pc := 48) o d_M_shows_48 ?_
      refine gw_iload_n (pc := 49) o d_M_shows_49 rfl 3 rfl ?_
      refine gw_iadd (pc := 50) o d_M_shows_50 ?_
      have hi := h.1
      have h := h.2
      refine gM_ald_ones (pc := 51) o hi d_M_shows_51 ?_
      refine gw_aload_n (pc := 52) o d_M_shows_52 rfl 0 rfl ?_
      refine gM_get_outputOf (pc := 53) o q_558 d_M_shows_53 ?_
      refine gw_iload (pc := 56) o d_M_shows_56 5 rfl ?_
      have hi := h.1
      have h := h.2
      refine gM_ald_outputOf (pc := 58) o hi d_M_shows_58 ?_
      refine gw_lshr (pc := 59) o d_M_shows_59 ?_
      refine gw_lconst (pc := 60) (v := (1 : Int64)) o d_M_shows_60 (by decide) ?_
      refine gw_land (pc := 61) o d_M_shows_61 ?_
      refine gw_lcmp (pc := 62) o d_M_shows_62 ?_
      refine gw_if_ne (pc := 63) (tgt := 70) o d_M_shows_63 (by decide) (fun hc => ?_) (fun hc => ?_)
      · have h := h.2 (fun e => hc (xcmp0.mpr e))
        exact gw_sub (lv' := [(0, .ref (τ.2.2 81)), (1, .int x1), (2, .int x2), (3, .int x3), (5, .int x5)]) [0, 1, 2, 3, 5] rfl (wk_M_shows_b70 o hk6 h)
      · have h := h.1 (xcmp0.mp hc)
        refine gw_iconst (pc := 66) (v := (1 : Int32)) o d_M_shows_66 (by decide) ?_
        refine gw_goto (pc := 67) (tgt := 71) o d_M_shows_67 (by decide) ?_
        exact gw_sub (lv' := [(0, .ref (τ.2.2 81)), (1, .int x1), (2, .int x2), (3, .int x3), (5, .int x5)]) [0, 1, 2, 3, 5] rfl (wk_M_shows_b71 o hk6 h)
def M_shows_L6 (Z : Int32 → Prop) (M : xF) (J : (Nat → Int64)) (x1 : Int32) (x2 : Int32) (x3 : Int32) (x4 : Int32) (x5 : Int32) : Prop := LOOP2 (fun k6 x4 x5 => M_shows_b6 Z k6 M J x1 x2 x3 x4 x5) x4 x5
theorem wk_M_shows_L6 {κ : Cx} {τ : xT} {Z : Int32 → Prop} {M : xF} {J : (Nat → Int64)} {x1 : Int32} {x2 : Int32} {x3 : Int32} {x4 : Int32} {x5 : Int32} (o : OKc κ (wdM τ) 6 b_M_shows "StateExplorerModel" (some .boolean) (xR 0)) (h : M_shows_L6 Z M J x1 x2 x3 x4 x5) : GW κ (wdM τ) 6 (0, 0) (xMQ κ (wdM τ) (xR 0) (zp_i (M, J) Z)) (M, J) 6 [(0, .ref (τ.2.2 81)), (1, .int x1), (2, .int x2), (3, .int x3), (4, .int x4), (5, .int x5)] [] := by
  unfold M_shows_L6 at h
  exact LOOP2.use (G := fun x4 x5 => GW κ (wdM τ) 6 (0, 0) (xMQ κ (wdM τ) (xR 0) (zp_i (M, J) Z)) (M, J) 6 [(0, .ref (τ.2.2 81)), (1, .int x1), (2, .int x2), (3, .int x3), (4, .int x4), (5, .int x5)] []) (fun k6 x4 x5 hk6 h => wk_M_shows_b6 o hk6 h) h
def M_shows_b0 (Z : Int32 → Prop) (M : xF) (J : (Nat → Int64)) (x1 : Int32) (x2 : Int32) (x3 : Int32) : Prop := M_shows_L6 Z M J x1 x2 x3 (1 : Int32) (0 : Int32)
set_option maxRecDepth 10000 in
theorem wk_M_shows_b0 {κ : Cx} {τ : xT} {Z : Int32 → Prop} {M : xF} {J : (Nat → Int64)} {x1 : Int32} {x2 : Int32} {x3 : Int32} (o : OKc κ (wdM τ) 6 b_M_shows "StateExplorerModel" (some .boolean) (xR 0)) (h : M_shows_b0 Z M J x1 x2 x3) : GW κ (wdM τ) 6 (0, 0) (xMQ κ (wdM τ) (xR 0) (zp_i (M, J) Z)) (M, J) 0 [(0, .ref (τ.2.2 81)), (1, .int x1), (2, .int x2), (3, .int x3)] [] := by
  unfold M_shows_b0 at h
  refine gw_iconst (pc := 0) (v := (1 : Int32)) o d_M_shows_0 (by decide) ?_
  refine gw_istore (pc := 1) (lv' := [(4, .int (1 : Int32)), (0, .ref (τ.2.2 81)), (1, .int x1), (2, .int x2), (3, .int x3)]) o d_M_shows_1 (by decide) rfl ?_
  refine gw_iconst (pc := 3) (v := (0 : Int32)) o d_M_shows_3 (by decide) ?_
  refine gw_istore (pc := 4) (lv' := [(5, .int (0 : Int32)), (4, .int (1 : Int32)), (0, .ref (τ.2.2 81)), (1, .int x1), (2, .int x2), (3, .int x3)]) o d_M_shows_4 (by decide) rfl ?_
  exact gw_sub (lv' := [(0, .ref (τ.2.2 81)), (1, .int x1), (2, .int x2), (3, .int x3), (4, .int (1 : Int32)), (5, .int (0 : Int32))]) [2, 3, 4, 5, 1, 0] rfl (wk_M_shows_L6 o h)
def w_M_shows  (M : xF) (J : (Nat → Int64)) (x1 : Int32) (x2 : Int32) (x3 : Int32) (Z : Int32 → Prop) : Prop := M_shows_b0  Z M J x1 x2 x3
theorem ct_M_shows {l : Launch} {τ : xT} {M : xF} {J : (Nat → Int64)} {x1 : Int32} {x2 : Int32} {x3 : Int32} {Z : Int32 → Prop} (hD : xD (wdM τ)) (h : w_M_shows  M J x1 x2 x3 Z) : CT l (wdM τ) y_M_shows (.code y_M_shows b_M_shows 6 (some .boolean)) (xR 0) [.ref (τ.2.2 81), .int x1, .int x2, .int x3] (M, J) (zp_i (M, J) Z) := by
  subst_vars
  exact CT.of (by decide) (Nat.le_of_ble_eq_true rfl) hD (fun κ hl ha o => gw_sub (lv' := [(0, .ref (τ.2.2 81)), (1, .int x1), (2, .int x2), (3, .int x3)]) [0, 1, 2, 3] rfl (wk_M_shows_b0 o h))
def M_differ_b106 (Z : Int32 → Prop) (k5 : Int32 → Int32 → Prop) (M : xF) (J : (Nat → Int64)) (x1 : Int32) (x2 : Int32) (x4 : Int32) (s0 : Int32) : Prop := ∀ x4_107 : Int32, x4_107 = x4 + (1 : Int32) → (k5 s0 x4_107)
set_option maxRecDepth 10000 in
theorem wk_M_differ_b106 {κ : Cx} {τ : xT} {Z : Int32 → Prop} {k5 : Int32 → Int32 → Prop} {M : xF} {J : (Nat → Int64)} {x1 : Int32} {x2 : Int32} {x4 : Int32} {s0 : Int32} (o : OKc κ (wdM τ) 7 b_M_differ "StateExplorerModel" (some .boolean) (xR 1)) (hk5 : ∀ (x3 : Int32) (x4 : Int32), k5 x3 x4 → GW κ (wdM τ) 7 (0, 0) (xMQ κ (wdM τ) (xR 1) (zp_i (M, J) Z)) (M, J) 5 [(0, .ref (τ.2.2 81)), (1, .int x1), (2, .int x2), (3, .int x3), (4, .int x4)] []) (h : M_differ_b106 Z k5 M J x1 x2 x4 s0) : GW κ (wdM τ) 7 (0, 0) (xMQ κ (wdM τ) (xR 1) (zp_i (M, J) Z)) (M, J) 106 [(0, .ref (τ.2.2 81)), (1, .int x1), (2, .int x2), (4, .int x4)] [.int s0] := by
  unfold M_differ_b106 at h
  refine gw_istore_n (pc := 106) (lv' := [(3, .int s0), (0, .ref (τ.2.2 81)), (1, .int x1), (2, .int x2), (4, .int x4)]) o d_M_differ_106 rfl (by decide) rfl ?_
  refine gw_iincN (pc := 107) (c := (1 : Int32)) (lw := fun x4_107 => [(4, .int x4_107), (3, .int s0), (0, .ref (τ.2.2 81)), (1, .int x1), (2, .int x2)]) o d_M_differ_107 (by decide) 4 rfl (by decide) (fun _ => rfl) (fun x4_107 ex4_107 => ?_)
  have h := h x4_107 ex4_107
  refine gw_goto (pc := 110) (tgt := 5) o d_M_differ_110 (by decide) ?_
  exact gw_sub (lv' := [(0, .ref (τ.2.2 81)), (1, .int x1), (2, .int x2), (3, .int s0), (4, .int x4_107)]) [2, 3, 4, 1, 0] rfl (hk5 _ _ h)
def M_differ_b105 (Z : Int32 → Prop) (k5 : Int32 → Int32 → Prop) (M : xF) (J : (Nat → Int64)) (x1 : Int32) (x2 : Int32) (x4 : Int32) : Prop := M_differ_b106 Z k5 M J x1 x2 x4 (0 : Int32)
set_option maxRecDepth 10000 in
theorem wk_M_differ_b105 {κ : Cx} {τ : xT} {Z : Int32 → Prop} {k5 : Int32 → Int32 → Prop} {M : xF} {J : (Nat → Int64)} {x1 : Int32} {x2 : Int32} {x4 : Int32} (o : OKc κ (wdM τ) 7 b_M_differ "StateExplorerModel" (some .boolean) (xR 1)) (hk5 : ∀ (x3 : Int32) (x4 : Int32), k5 x3 x4 → GW κ (wdM τ) 7 (0, 0) (xMQ κ (wdM τ) (xR 1) (zp_i (M, J) Z)) (M, J) 5 [(0, .ref (τ.2.2 81)), (1, .int x1), (2, .int x2), (3, .int x3), (4, .int x4)] []) (h : M_differ_b105 Z k5 M J x1 x2 x4) : GW κ (wdM τ) 7 (0, 0) (xMQ κ (wdM τ) (xR 1) (zp_i (M, J) Z)) (M, J) 105 [(0, .ref (τ.2.2 81)), (1, .int x1), (2, .int x2), (4, .int x4)] [] := by
  unfold M_differ_b105 at h
  refine gw_iconst (pc := 105) (v := (0 : Int32)) o d_M_differ_105 (by decide) ?_
  exact gw_sub (lv' := [(0, .ref (τ.2.2 81)), (1, .int x1), (2, .int x2), (4, .int x4)]) [0, 1, 2, 3] rfl (wk_M_differ_b106 o hk5 h)
def M_differ_b5 (Z : Int32 → Prop) (k5 : Int32 → Int32 → Prop) (M : xF) (J : (Nat → Int64)) (x1 : Int32) (x2 : Int32) (x3 : Int32) (x4 : Int32) : Prop := w_M_choices M J (fun r8 => ((r8 ≤ x4) → ((x3 = 0 ∨ x3 = 1) ∧ (Z x3))) ∧ (¬ (r8 ≤ x4) → (∀ x5_21 : Int32, x5_21 = ((16 : Int32) * x1) + x4 → (∀ x6_30 : Int32, x6_30 = ((16 : Int32) * x2) + x4 → (((x3 = 0) → (vp_in x5_21 4096 ∧ (vp_in x6_30 4096 ∧ ((((M 15 x5_21.toNatClampNeg) = (M 15 x6_30.toNatClampNeg)) → (vp_in x5_21 4096 ∧ ((((M 15 x5_21.toNatClampNeg) = 0) → (M_differ_b105 Z k5 M J x1 x2 x4)) ∧ (¬ ((M 15 x5_21.toNatClampNeg) = 0) → (w_M_shows M J x1 x2 x4 (fun r68 => ((r68 = 0) → (M_differ_b106 Z k5 M J x1 x2 x4 (1 : Int32))) ∧ (¬ (r68 = 0) → (vp_in x5_21 4096 ∧ (vp_in x6_30 4096 ∧ (vp_in (((256 : Int32) * (M 16 x5_21.toNatClampNeg)) + (M 16 x6_30.toNatClampNeg)) 65536 ∧ ((((M 19 (((256 : Int32) * (M 16 x5_21.toNatClampNeg)) + (M 16 x6_30.toNatClampNeg)).toNatClampNeg) = 0) → (M_differ_b105 Z k5 M J x1 x2 x4)) ∧ (¬ ((M 19 (((256 : Int32) * (M 16 x5_21.toNatClampNeg)) + (M 16 x6_30.toNatClampNeg)).toNatClampNeg) = 0) → (M_differ_b106 Z k5 M J x1 x2 x4 (1 : Int32)))))))))))))) ∧ (¬ ((M 15 x5_21.toNatClampNeg) = (M 15 x6_30.toNatClampNeg)) → (M_differ_b106 Z k5 M J x1 x2 x4 (1 : Int32))))))) ∧ (¬ (x3 = 0) → (M_differ_b106 Z k5 M J x1 x2 x4 (1 : Int32))))))))
set_option maxRecDepth 10000 in
theorem wk_M_differ_b5 {κ : Cx} {τ : xT} {Z : Int32 → Prop} {k5 : Int32 → Int32 → Prop} {M : xF} {J : (Nat → Int64)} {x1 : Int32} {x2 : Int32} {x3 : Int32} {x4 : Int32} (o : OKc κ (wdM τ) 7 b_M_differ "StateExplorerModel" (some .boolean) (xR 1)) (hk5 : ∀ (x3 : Int32) (x4 : Int32), k5 x3 x4 → GW κ (wdM τ) 7 (0, 0) (xMQ κ (wdM τ) (xR 1) (zp_i (M, J) Z)) (M, J) 5 [(0, .ref (τ.2.2 81)), (1, .int x1), (2, .int x2), (3, .int x3), (4, .int x4)] []) (h : M_differ_b5 Z k5 M J x1 x2 x3 x4) : GW κ (wdM τ) 7 (0, 0) (xMQ κ (wdM τ) (xR 1) (zp_i (M, J) Z)) (M, J) 5 [(0, .ref (τ.2.2 81)), (1, .int x1), (2, .int x2), (3, .int x3), (4, .int x4)] [] := by
  unfold M_differ_b5 at h
  refine gw_iload (pc := 5) o d_M_differ_5 4 rfl ?_
  refine gw_aload_n (pc := 7) o d_M_differ_7 rfl 0 rfl ?_
  refine gw_callV (pc := 8) (b := τ.2.2 81) (As := []) (st := [.int x4]) o (ct_M_choices o.hD h) mi_M_choices q_651 q_653 qs_33 0 rfl rfl (xRo_of (by omega) (by decide)) rfl rfl (Nat.le_of_ble_eq_true rfl) d_M_differ_8 (kk_p_i rfl (fun r8 h => ?_))
  refine gw_icmp_ge (pc := 11) (tgt := 113) o d_M_differ_11 (by decide) (fun hc => ?_) (fun hc => ?_)
  · have h := h.1 hc
    refine gw_iload_n (pc := 113) o d_M_differ_113 rfl 3 rfl ?_
    exact gw_zret (pc := 114) o ⟨Nat.le_refl _, Nat.le_refl _⟩ h.1 (zp_i.mk h.2) d_M_differ_114
  · have h := h.2 hc
    refine gw_bipush (pc := 14) (v := (16 : Int32)) o d_M_differ_14 (by decide) ?_
    refine gw_iload_n (pc := 16) o d_M_differ_16 rfl 1 rfl ?_
    refine gw_imul (pc := 17) o d_M_differ_17 ?_
    refine gw_iload (pc := 18) o d_M_differ_18 4 rfl ?_
    refine gw_iadd (pc := 20) o d_M_differ_20 ?_
    refine gw_topi (fun x5_21 ex5_21 => ?_)
    have h := h x5_21 ex5_21
    refine gw_istore (pc := 21) (lv' := [(5, .int x5_21), (0, .ref (τ.2.2 81)), (1, .int x1), (2, .int x2), (3, .int x3), (4, .int x4)]) o d_M_differ_21 (by decide) rfl ?_
    refine gw_bipush (pc := 23) (v := (16 : Int32)) o d_M_differ_23 (by decide) ?_
    refine gw_iload_n (pc := 25) o d_M_differ_25 rfl 3 rfl ?_
    refine gw_imul (pc := 26) o d_M_differ_26 ?_
    refine gw_iload (pc := 27) o d_M_differ_27 5 rfl ?_
    refine gw_iadd (pc := 29) o d_M_differ_29 ?_
    refine gw_topi (fun x6_30 ex6_30 => ?_)
    have h := h x6_30 ex6_30
    refine gw_istore (pc := 30) (lv' := [(6, .int x6_30), (5, .int x5_21), (0, .ref (τ.2.2 81)), (1, .int x1), (2, .int x2), (3, .int x3), (4, .int x4)]) o d_M_differ_30 (by decide) rfl ?_
    refine gw_iload_n (pc := 32) o d_M_differ_32 rfl 5 rfl ?_
    refine gw_if_ne (pc := 33) (tgt := 101) o d_M_differ_33 (by decide) (fun hc => ?_) (fun hc => ?_)
    · have h := h.2 hc
      refine gw_iconst (pc := 101) (v := (1 : Int32)) o d_M_differ_101 (by decide) ?_
      refine gw_goto (pc := 102) (tgt := 106) o d_M_differ_102 (by decide) ?_
      exact gw_sub (lv' := [(0, .ref (τ.2.2 81)), (1, .int x1), (2, .int x2), (4, .int x4)]) [2, 3, 4, 6] rfl (wk_M_differ_b106 o hk5 h)
    · have h := h.1 hc
      refine gw_aload_n (pc := 36) o d_M_differ_36 rfl 2 rfl ?_
      refine gM_get_settles (pc := 37) o q_561 d_M_differ_37 ?_
      refine gw_iload (pc := 40) o d_M_differ_40 1 rfl ?_
      have hi := h.1
      have h := h.2
      refine gM_ald_settles (pc := 42) o hi d_M_differ_42 ?_
      refine gw_aload_n (pc := 43) o d_M_differ_43 rfl 2 rfl ?_
      refine gM_get_settles (pc := 44) o q_561 d_M_differ_44 ?_
      refine gw_iload (pc := 47) o d_M_differ_47 0 rfl ?_
      have hi := h.1
      have h := h.2
      refine gM_ald_settles (pc := 49) o hi d_M_differ_49 ?_
      refine gw_icmp_ne (pc := 50) (tgt := 101) o d_M_differ_50 (by decide) (fun hc => ?_) (fun hc => ?_)
      · have h := h.2 hc
        refine gw_iconst (pc := 101) (v := (1 : Int32)) o d_M_differ_101 (by decide) ?_
        refine gw_goto (pc := 102) (tgt := 106) o d_M_differ_102 (by decide) ?_
        exact gw_sub (lv' := [(0, .ref (τ.2.2 81)), (1, .int x1), (2, .int x2), (4, .int x4)]) [2, 3, 4, 6] rfl (wk_M_differ_b106 o hk5 h)
      · have h := h.1 hc
        refine gw_aload_n (pc := 53) o d_M_differ_53 rfl 2 rfl ?_
        refine gM_get_settles (pc := 54) o q_561 d_M_differ_54 ?_
        refine gw_iload (pc := 57) o d_M_differ_57 1 rfl ?_
        have hi := h.1
        have h := h.2
        refine gM_ald_settles (pc := 59) o hi d_M_differ_59 ?_
        refine gw_if_eq (pc := 60) (tgt := 105) o d_M_differ_60 (by decide) (fun hc => ?_) (fun hc => ?_)
        · have h := h.1 hc
          exact gw_sub (lv' := [(0, .ref (τ.2.2 81)), (1, .int x1), (2, .int x2), (4, .int x4)]) [2, 3, 4, 6] rfl (wk_M_differ_b105 o hk5 h)
        · have h := h.2 hc
          refine gw_aload_n (pc := 63) o d_M_differ_63 rfl 2 rfl ?_
          refine gw_iload_n (pc := 64) o d_M_differ_64 rfl 3 rfl ?_
          refine gw_iload_n (pc := 65) o d_M_differ_65 rfl 4 rfl ?_
          refine gw_iload (pc := 66) o d_M_differ_66 6 rfl ?_
          refine gw_callV (pc := 68) (b := τ.2.2 81) (As := [.int x1, .int x2, .int x4]) (st := []) o (ct_M_shows o.hD h) mi_M_shows q_675 q_677 qs_39 0 rfl rfl (xRo_of (by omega) (by decide)) rfl rfl (Nat.le_of_ble_eq_true rfl) d_M_differ_68 (kk_p_i rfl (fun r68 h => ?_))
          refine gw_if_eq (pc := 71) (tgt := 101) o d_M_differ_71 (by decide) (fun hc => ?_) (fun hc => ?_)
          · have h := h.1 hc
            refine gw_iconst (pc := 101) (v := (1 : Int32)) o d_M_differ_101 (by decide) ?_
            refine gw_goto (pc := 102) (tgt := 106) o d_M_differ_102 (by decide) ?_
            exact gw_sub (lv' := [(0, .ref (τ.2.2 81)), (1, .int x1), (2, .int x2), (4, .int x4)]) [2, 3, 4, 6] rfl (wk_M_differ_b106 o hk5 h)
          · have h := h.2 hc
            refine gw_aload_n (pc := 74) o d_M_differ_74 rfl 2 rfl ?_
            refine gM_get_apart (pc := 75) o q_565 d_M_differ_75 ?_
            refine gw_sipush (pc := 78) (v := (256 : Int32)) o d_M_differ_78 (by decide) ?_
            refine gw_aload_n (pc := 81) o d_M_differ_81 rfl 2 rfl ?_
            refine gM_get_next (pc := 82) o q_562 d_M_differ_82 ?_
            refine gw_iload (pc := 85) o d_M_differ_85 1 rfl ?_
            have hi := h.1
            have h := h.2
            refine gM_ald_next (pc := 87) o hi d_M_differ_87 ?_
            refine gw_imul (pc := 88) o d_M_differ_88 ?_
            refine gw_aload_n (pc := 89) o d_M_differ_89 rfl 2 rfl ?_
            refine gM_get_next (pc := 90) o q_562 d_M_differ_90 ?_
            refine gw_iload (pc := 93) o d_M_differ_93 0 rfl ?_
            have hi := h.1
            have h := h.2
            refine gM_ald_next (pc := 95) o hi d_M_differ_95 ?_
            refine gw_iadd (pc := 96) o d_M_differ_96 ?_
            have hi := h.1
            have h := h.2
            refine gM_ald_apart (pc := 97) o hi d_M_differ_97 ?_
            refine gw_if_eq (pc := 98) (tgt := 105) o d_M_differ_98 (by decide) (fun hc => ?_) (fun hc => ?_)
            · have h := h.1 hc
              exact gw_sub (lv' := [(0, .ref (τ.2.2 81)), (1, .int x1), (2, .int x2), (4, .int x4)]) [2, 3, 4, 6] rfl (wk_M_differ_b105 o hk5 h)
            · have h := h.2 hc
              refine gw_iconst (pc := 101) (v := (1 : Int32)) o d_M_differ_101 (by decide) ?_
              refine gw_goto (pc := 102) (tgt := 106) o d_M_differ_102 (by decide) ?_
              exact gw_sub (lv' := [(0, .ref (τ.2.2 81)), (1, .int x1), (2, .int x2), (4, .int x4)]) [2, 3, 4, 6] rfl (wk_M_differ_b106 o hk5 h)
def M_differ_L5 (Z : Int32 → Prop) (M : xF) (J : (Nat → Int64)) (x1 : Int32) (x2 : Int32) (x3 : Int32) (x4 : Int32) : Prop := LOOP2 (fun k5 x3 x4 => M_differ_b5 Z k5 M J x1 x2 x3 x4) x3 x4
theorem wk_M_differ_L5 {κ : Cx} {τ : xT} {Z : Int32 → Prop} {M : xF} {J : (Nat → Int64)} {x1 : Int32} {x2 : Int32} {x3 : Int32} {x4 : Int32} (o : OKc κ (wdM τ) 7 b_M_differ "StateExplorerModel" (some .boolean) (xR 1)) (h : M_differ_L5 Z M J x1 x2 x3 x4) : GW κ (wdM τ) 7 (0, 0) (xMQ κ (wdM τ) (xR 1) (zp_i (M, J) Z)) (M, J) 5 [(0, .ref (τ.2.2 81)), (1, .int x1), (2, .int x2), (3, .int x3), (4, .int x4)] [] := by
  unfold M_differ_L5 at h
  exact LOOP2.use (G := fun x3 x4 => GW κ (wdM τ) 7 (0, 0) (xMQ κ (wdM τ) (xR 1) (zp_i (M, J) Z)) (M, J) 5 [(0, .ref (τ.2.2 81)), (1, .int x1), (2, .int x2), (3, .int x3), (4, .int x4)] []) (fun k5 x3 x4 hk5 h => wk_M_differ_b5 o hk5 h) h
def M_differ_b0 (Z : Int32 → Prop) (M : xF) (J : (Nat → Int64)) (x1 : Int32) (x2 : Int32) : Prop := M_differ_L5 Z M J x1 x2 (0 : Int32) (0 : Int32)
set_option maxRecDepth 10000 in
theorem wk_M_differ_b0 {κ : Cx} {τ : xT} {Z : Int32 → Prop} {M : xF} {J : (Nat → Int64)} {x1 : Int32} {x2 : Int32} (o : OKc κ (wdM τ) 7 b_M_differ "StateExplorerModel" (some .boolean) (xR 1)) (h : M_differ_b0 Z M J x1 x2) : GW κ (wdM τ) 7 (0, 0) (xMQ κ (wdM τ) (xR 1) (zp_i (M, J) Z)) (M, J) 0 [(0, .ref (τ.2.2 81)), (1, .int x1), (2, .int x2)] [] := by
  unfold M_differ_b0 at h
  refine gw_iconst (pc := 0) (v := (0 : Int32)) o d_M_differ_0 (by decide) ?_
  refine gw_istore_n (pc := 1) (lv' := [(3, .int (0 : Int32)), (0, .ref (τ.2.2 81)), (1, .int x1), (2, .int x2)]) o d_M_differ_1 rfl (by decide) rfl ?_
  refine gw_iconst (pc := 2) (v := (0 : Int32)) o d_M_differ_2 (by decide) ?_
  refine gw_istore (pc := 3) (lv' := [(4, .int (0 : Int32)), (3, .int (0 : Int32)), (0, .ref (τ.2.2 81)), (1, .int x1), (2, .int x2)]) o d_M_differ_3 (by decide) rfl ?_
  exact gw_sub (lv' := [(0, .ref (τ.2.2 81)), (1, .int x1), (2, .int x2), (3, .int (0 : Int32)), (4, .int (0 : Int32))]) [2, 3, 4, 1, 0] rfl (wk_M_differ_L5 o h)
def w_M_differ  (M : xF) (J : (Nat → Int64)) (x1 : Int32) (x2 : Int32) (Z : Int32 → Prop) : Prop := M_differ_b0  Z M J x1 x2
theorem ct_M_differ {l : Launch} {τ : xT} {M : xF} {J : (Nat → Int64)} {x1 : Int32} {x2 : Int32} {Z : Int32 → Prop} (hD : xD (wdM τ)) (h : w_M_differ  M J x1 x2 Z) : CT l (wdM τ) y_M_differ (.code y_M_differ b_M_differ 7 (some .boolean)) (xR 1) [.ref (τ.2.2 81), .int x1, .int x2] (M, J) (zp_i (M, J) Z) := by
  subst_vars
  exact CT.of (by decide) (Nat.le_of_ble_eq_true rfl) hD (fun κ hl ha o => gw_sub (lv' := [(0, .ref (τ.2.2 81)), (1, .int x1), (2, .int x2)]) [0, 1, 2] rfl (wk_M_differ_b0 o h))
def M_tell_b119 (Z : xF → Prop) (k23 : Int32 → xF → Prop) (k31 : Int32 → Int32 → xF → Prop) (k41 : Int32 → Int32 → xF → Prop) (M : xF) (J : (Nat → Int64)) (x1 : Int32) (x2 : Int32) (x3 : Int32) : Prop := ∀ x3_119 : Int32, x3_119 = x3 + (1 : Int32) → (k41 x1 x3_119 M)
set_option maxRecDepth 10000 in
theorem wk_M_tell_b119 {κ : Cx} {τ : xT} {Z : xF → Prop} {k23 : Int32 → xF → Prop} {k31 : Int32 → Int32 → xF → Prop} {k41 : Int32 → Int32 → xF → Prop} {M : xF} {J : (Nat → Int64)} {x1 : Int32} {x2 : Int32} {x3 : Int32} (o : OKc κ (wdM τ) 4 b_M_tell "StateExplorerModel" none (xR 2)) (hk23 : ∀ (x1 : Int32) (M : xF), k23 x1 M → GW κ (wdM τ) 4 (0, 0) (xMQ κ (wdM τ) (xR 2) (z1_v J Z)) (M, J) 23 [(0, .ref (τ.2.2 81)), (1, .int x1)] []) (hk31 : ∀ (x1 : Int32) (x2 : Int32) (M : xF), k31 x1 x2 M → GW κ (wdM τ) 4 (0, 0) (xMQ κ (wdM τ) (xR 2) (z1_v J Z)) (M, J) 31 [(0, .ref (τ.2.2 81)), (1, .int x1), (2, .int x2)] []) (hk41 : ∀ (x1 : Int32) (x3 : Int32) (M : xF), k41 x1 x3 M → GW κ (wdM τ) 4 (0, 0) (xMQ κ (wdM τ) (xR 2) (z1_v J Z)) (M, J) 41 [(0, .ref (τ.2.2 81)), (1, .int x1), (2, .int x2), (3, .int x3)] []) (h : M_tell_b119 Z k23 k31 k41 M J x1 x2 x3) : GW κ (wdM τ) 4 (0, 0) (xMQ κ (wdM τ) (xR 2) (z1_v J Z)) (M, J) 119 [(0, .ref (τ.2.2 81)), (1, .int x1), (2, .int x2), (3, .int x3)] [] := by
  unfold M_tell_b119 at h
  refine gw_iincN (pc := 119) (c := (1 : Int32)) (lw := fun x3_119 => [(3, .int x3_119), (0, .ref (τ.2.2 81)), (1, .int x1), (2, .int x2)]) o d_M_tell_119 (by decide) 3 rfl (by decide) (fun _ => rfl) (fun x3_119 ex3_119 => ?_)
  have h := h x3_119 ex3_119
  refine gw_goto (pc := 122) (tgt := 41) o d_M_tell_122 (by decide) ?_
  exact gw_sub (lv' := [(0, .ref (τ.2.2 81)), (1, .int x1), (2, .int x2), (3, .int x3_119)]) [1, 2, 3, 0] rfl (hk41 _ _ _ h)
def M_tell_b41 (Z : xF → Prop) (k23 : Int32 → xF → Prop) (k31 : Int32 → Int32 → xF → Prop) (k41 : Int32 → Int32 → xF → Prop) (M : xF) (J : (Nat → Int64)) (x1 : Int32) (x2 : Int32) (x3 : Int32) : Prop := ((x2 ≤ x3) → (∀ x2_125 : Int32, x2_125 = x2 + (1 : Int32) → (k31 x1 x2_125 M))) ∧ (¬ (x2 ≤ x3) → (vp_in x2 256 ∧ ((((M 18 x2.toNatClampNeg) < 0) → (M_tell_b119 Z k23 k31 k41 M J x1 x2 x3)) ∧ (¬ ((M 18 x2.toNatClampNeg) < 0) → (vp_in x3 256 ∧ ((((M 18 x3.toNatClampNeg) < 0) → (M_tell_b119 Z k23 k31 k41 M J x1 x2 x3)) ∧ (¬ ((M 18 x3.toNatClampNeg) < 0) → (vp_in (((256 : Int32) * x2) + x3) 65536 ∧ ((((M 19 (((256 : Int32) * x2) + x3).toNatClampNeg) = 0) → (w_M_differ M J x2 x3 (fun r82 => ((r82 = 0) → (M_tell_b119 Z k23 k31 k41 M J x1 x2 x3)) ∧ (¬ (r82 = 0) → (vp_in (((256 : Int32) * x2) + x3) 65536 ∧ (∀ M_103 : xF, M_103 = xs M 19 (((256 : Int32) * x2) + x3).toNatClampNeg (1 : Int32) → (vp_in (((256 : Int32) * x3) + x2) 65536 ∧ (∀ M_116 : xF, M_116 = xs M_103 19 (((256 : Int32) * x3) + x2).toNatClampNeg (1 : Int32) → (M_tell_b119 Z k23 k31 k41 M_116 J (1 : Int32) x2 x3))))))))) ∧ (¬ ((M 19 (((256 : Int32) * x2) + x3).toNatClampNeg) = 0) → (M_tell_b119 Z k23 k31 k41 M J x1 x2 x3)))))))))))
set_option maxRecDepth 10000 in
theorem wk_M_tell_b41 {κ : Cx} {τ : xT} {Z : xF → Prop} {k23 : Int32 → xF → Prop} {k31 : Int32 → Int32 → xF → Prop} {k41 : Int32 → Int32 → xF → Prop} {M : xF} {J : (Nat → Int64)} {x1 : Int32} {x2 : Int32} {x3 : Int32} (o : OKc κ (wdM τ) 4 b_M_tell "StateExplorerModel" none (xR 2)) (hk23 : ∀ (x1 : Int32) (M : xF), k23 x1 M → GW κ (wdM τ) 4 (0, 0) (xMQ κ (wdM τ) (xR 2) (z1_v J Z)) (M, J) 23 [(0, .ref (τ.2.2 81)), (1, .int x1)] []) (hk31 : ∀ (x1 : Int32) (x2 : Int32) (M : xF), k31 x1 x2 M → GW κ (wdM τ) 4 (0, 0) (xMQ κ (wdM τ) (xR 2) (z1_v J Z)) (M, J) 31 [(0, .ref (τ.2.2 81)), (1, .int x1), (2, .int x2)] []) (hk41 : ∀ (x1 : Int32) (x3 : Int32) (M : xF), k41 x1 x3 M → GW κ (wdM τ) 4 (0, 0) (xMQ κ (wdM τ) (xR 2) (z1_v J Z)) (M, J) 41 [(0, .ref (τ.2.2 81)), (1, .int x1), (2, .int x2), (3, .int x3)] []) (h : M_tell_b41 Z k23 k31 k41 M J x1 x2 x3) : GW κ (wdM τ) 4 (0, 0) (xMQ κ (wdM τ) (xR 2) (z1_v J Z)) (M, J) 41 [(0, .ref (τ.2.2 81)), (1, .int x1), (2, .int x2), (3, .int x3)] [] := by
  unfold M_tell_b41 at h
  refine gw_iload_n (pc := 41) o d_M_tell_41 rfl 3 rfl ?_
  refine gw_iload_n (pc := 42) o d_M_tell_42 rfl 2 rfl ?_
  refine gw_icmp_ge (pc := 43) (tgt := 125) o d_M_tell_43 (by decide) (fun hc => ?_) (fun hc => ?_)
  · have h := h.1 hc
    refine gw_iincN (pc := 125) (c := (1 : Int32)) (lw := fun x2_125 => [(2, .int x2_125), (0, .ref (τ.2.2 81)), (1, .int x1), (3, .int x3)]) o d_M_tell_125 (by decide) 2 rfl (by decide) (fun _ => rfl) (fun x2_125 ex2_125 => ?_)
    have h := h x2_125 ex2_125
    refine gw_goto (pc := 128) (tgt := 31) o d_M_tell_128 (by decide) ?_
    exact gw_sub (lv' := [(0, .ref (τ.2.2 81)), (1, .int x1), (2, .int x2_125)]) [1, 2, 0] rfl (hk31 _ _ _ h)
  · have h := h.2 hc
    refine gw_aload_n (pc := 46) o d_M_tell_46 rfl 0 rfl ?_
    refine gM_get_distance (pc := 47) o q_564 d_M_tell_47 ?_
    refine gw_iload_n (pc := 50) o d_M_tell_50 rfl 2 rfl ?_
    have hi := h.1
    have h := h.2
    refine gM_ald_distance (pc := 51) o hi d_M_tell_51 ?_
    refine gw_if_lt (pc := 52) (tgt := 119) o d_M_tell_52 (by decide) (fun hc => ?_) (fun hc => ?_)
    · have h := h.1 hc
      exact gw_sub (lv' := [(0, .ref (τ.2.2 81)), (1, .int x1), (2, .int x2), (3, .int x3)]) [0, 1, 2, 3] rfl (wk_M_tell_b119 o hk23 hk31 hk41 h)
    · have h := h.2 hc
      refine gw_aload_n (pc := 55) o d_M_tell_55 rfl 0 rfl ?_
      refine gM_get_distance (pc := 56) o q_564 d_M_tell_56 ?_
      refine gw_iload_n (pc := 59) o d_M_tell_59 rfl 3 rfl ?_
      have hi := h.1
      have h := h.2
      refine gM_ald_distance (pc := 60) o hi d_M_tell_60 ?_
      refine gw_if_lt (pc := 61) (tgt := 119) o d_M_tell_61 (by decide) (fun hc => ?_) (fun hc => ?_)
      · have h := h.1 hc
        exact gw_sub (lv' := [(0, .ref (τ.2.2 81)), (1, .int x1), (2, .int x2), (3, .int x3)]) [0, 1, 2, 3] rfl (wk_M_tell_b119 o hk23 hk31 hk41 h)
      · have h := h.2 hc
        refine gw_aload_n (pc := 64) o d_M_tell_64 rfl 0 rfl ?_
        refine gM_get_apart (pc := 65) o q_565 d_M_tell_65 ?_
        refine gw_sipush (pc := 68) (v := (256 : Int32)) o d_M_tell_68 (by decide) ?_
        refine gw_iload_n (pc := 71) o d_M_tell_71 rfl 2 rfl ?_
        refine gw_imul (pc := 72) o d_M_tell_72 ?_
        refine gw_iload_n (pc := 73) o d_M_tell_73 rfl 3 rfl ?_
        refine gw_iadd (pc := 74) o d_M_tell_74 ?_
        have hi := h.1
        have h := h.2
        refine gM_ald_apart (pc := 75) o hi d_M_tell_75 ?_
        refine gw_if_ne (pc := 76) (tgt := 119) o d_M_tell_76 (by decide) (fun hc => ?_) (fun hc => ?_)
        · have h := h.2 hc
          exact gw_sub (lv' := [(0, .ref (τ.2.2 81)), (1, .int x1), (2, .int x2), (3, .int x3)]) [0, 1, 2, 3] rfl (wk_M_tell_b119 o hk23 hk31 hk41 h)
        · have h := h.1 hc
          refine gw_aload_n (pc := 79) o d_M_tell_79 rfl 0 rfl ?_
          refine gw_iload_n (pc := 80) o d_M_tell_80 rfl 2 rfl ?_
          refine gw_iload_n (pc := 81) o d_M_tell_81 rfl 3 rfl ?_
          refine gw_callV (pc := 82) (b := τ.2.2 81) (As := [.int x2, .int x3]) (st := []) o (ct_M_differ o.hD h) mi_M_differ q_671 q_673 qs_38 0 rfl rfl (xRo_of (by omega) (by decide)) rfl rfl (Nat.le_of_ble_eq_true rfl) d_M_tell_82 (kk_p_i rfl (fun r82 h => ?_))
          refine gw_if_ne (pc := 85) (tgt := 91) o d_M_tell_85 (by decide) (fun hc => ?_) (fun hc => ?_)
          · have h := h.2 hc
            refine gw_aload_n (pc := 91) o d_M_tell_91 rfl 0 rfl ?_
            refine gM_get_apart (pc := 92) o q_565 d_M_tell_92 ?_
            refine gw_sipush (pc := 95) (v := (256 : Int32)) o d_M_tell_95 (by decide) ?_
            refine gw_iload_n (pc := 98) o d_M_tell_98 rfl 2 rfl ?_
            refine gw_imul (pc := 99) o d_M_tell_99 ?_
            refine gw_iload_n (pc := 100) o d_M_tell_100 rfl 3 rfl ?_
            refine gw_iadd (pc := 101) o d_M_tell_101 ?_
            refine gw_iconst (pc := 102) (v := (1 : Int32)) o d_M_tell_102 (by decide) ?_
            have hi := h.1
            have h := h.2
            refine gM_ast_apart (pc := 103) (y := (1 : Int32)) o hi rfl d_M_tell_103 (fun M_103 eM_103 => ?_)
            have h := h M_103 eM_103
            refine gw_aload_n (pc := 104) o d_M_tell_104 rfl 0 rfl ?_
            refine gM_get_apart (pc := 105) o q_565 d_M_tell_105 ?_
            refine gw_sipush (pc := 108) (v := (256 : Int32)) o d_M_tell_108 (by decide) ?_
            refine gw_iload_n (pc := 111) o d_M_tell_111 rfl 3 rfl ?_
            refine gw_imul (pc := 112) o d_M_tell_112 ?_
            refine gw_iload_n (pc := 113) o d_M_tell_113 rfl 2 rfl ?_
            refine gw_iadd (pc := 114) o d_M_tell_114 ?_
            refine gw_iconst (pc := 115) (v := (1 : Int32)) o d_M_tell_115 (by decide) ?_
            have hi := h.1
            have h := h.2
            refine gM_ast_apart (pc := 116) (y := (1 : Int32)) o hi rfl d_M_tell_116 (fun M_116 eM_116 => ?_)
            have h := h M_116 eM_116
            refine gw_iconst (pc := 117) (v := (1 : Int32)) o d_M_tell_117 (by decide) ?_
            refine gw_istore_n (pc := 118) (lv' := [(1, .int (1 : Int32)), (0, .ref (τ.2.2 81)), (2, .int x2), (3, .int x3)]) o d_M_tell_118 rfl (by decide) rfl ?_
            exact gw_sub (lv' := [(0, .ref (τ.2.2 81)), (1, .int (1 : Int32)), (2, .int x2), (3, .int x3)]) [1, 0, 2, 3] rfl (wk_M_tell_b119 o hk23 hk31 hk41 h)
          · have h := h.1 hc
            refine gw_goto (pc := 88) (tgt := 119) o d_M_tell_88 (by decide) ?_
            exact gw_sub (lv' := [(0, .ref (τ.2.2 81)), (1, .int x1), (2, .int x2), (3, .int x3)]) [0, 1, 2, 3] rfl (wk_M_tell_b119 o hk23 hk31 hk41 h)
def M_tell_L41 (Z : xF → Prop) (k23 : Int32 → xF → Prop) (k31 : Int32 → Int32 → xF → Prop) (M : xF) (J : (Nat → Int64)) (x1 : Int32) (x2 : Int32) (x3 : Int32) : Prop := LOOP3 (fun k41 x1 x3 M => M_tell_b41 Z k23 k31 k41 M J x1 x2 x3) x1 x3 M
theorem wk_M_tell_L41 {κ : Cx} {τ : xT} {Z : xF → Prop} {k23 : Int32 → xF → Prop} {k31 : Int32 → Int32 → xF → Prop} {M : xF} {J : (Nat → Int64)} {x1 : Int32} {x2 : Int32} {x3 : Int32} (o : OKc κ (wdM τ) 4 b_M_tell "StateExplorerModel" none (xR 2)) (hk23 : ∀ (x1 : Int32) (M : xF), k23 x1 M → GW κ (wdM τ) 4 (0, 0) (xMQ κ (wdM τ) (xR 2) (z1_v J Z)) (M, J) 23 [(0, .ref (τ.2.2 81)), (1, .int x1)] []) (hk31 : ∀ (x1 : Int32) (x2 : Int32) (M : xF), k31 x1 x2 M → GW κ (wdM τ) 4 (0, 0) (xMQ κ (wdM τ) (xR 2) (z1_v J Z)) (M, J) 31 [(0, .ref (τ.2.2 81)), (1, .int x1), (2, .int x2)] []) (h : M_tell_L41 Z k23 k31 M J x1 x2 x3) : GW κ (wdM τ) 4 (0, 0) (xMQ κ (wdM τ) (xR 2) (z1_v J Z)) (M, J) 41 [(0, .ref (τ.2.2 81)), (1, .int x1), (2, .int x2), (3, .int x3)] [] := by
  unfold M_tell_L41 at h
  exact LOOP3.use (G := fun x1 x3 M => GW κ (wdM τ) 4 (0, 0) (xMQ κ (wdM τ) (xR 2) (z1_v J Z)) (M, J) 41 [(0, .ref (τ.2.2 81)), (1, .int x1), (2, .int x2), (3, .int x3)] []) (fun k41 x1 x3 M hk41 h => wk_M_tell_b41 o hk23 hk31 hk41 h) h
def M_tell_b31 (Z : xF → Prop) (k23 : Int32 → xF → Prop) (k31 : Int32 → Int32 → xF → Prop) (M : xF) (J : (Nat → Int64)) (x1 : Int32) (x2 : Int32) : Prop := w_M_states M J (fun r33 => ((r33 ≤ x2) → (k23 x1 M)) ∧ (¬ (r33 ≤ x2) → (M_tell_L41 Z k23 k31 M J x1 x2 (0 : Int32))))
set_option maxRecDepth 10000 in
theorem wk_M_tell_b31 {κ : Cx} {τ : xT} {Z : xF → Prop} {k23 : Int32 → xF → Prop} {k31 : Int32 → Int32 → xF → Prop} {M : xF} {J : (Nat → Int64)} {x1 : Int32} {x2 : Int32} (o : OKc κ (wdM τ) 4 b_M_tell "StateExplorerModel" none (xR 2)) (hk23 : ∀ (x1 : Int32) (M : xF), k23 x1 M → GW κ (wdM τ) 4 (0, 0) (xMQ κ (wdM τ) (xR 2) (z1_v J Z)) (M, J) 23 [(0, .ref (τ.2.2 81)), (1, .int x1)] []) (hk31 : ∀ (x1 : Int32) (x2 : Int32) (M : xF), k31 x1 x2 M → GW κ (wdM τ) 4 (0, 0) (xMQ κ (wdM τ) (xR 2) (z1_v J Z)) (M, J) 31 [(0, .ref (τ.2.2 81)), (1, .int x1), (2, .int x2)] []) (h : M_tell_b31 Z k23 k31 M J x1 x2) : GW κ (wdM τ) 4 (0, 0) (xMQ κ (wdM τ) (xR 2) (z1_v J Z)) (M, J) 31 [(0, .ref (τ.2.2 81)), (1, .int x1), (2, .int x2)] [] := by
  unfold M_tell_b31 at h
  refine gw_iload_n (pc := 31) o d_M_tell_31 rfl 2 rfl ?_
  refine gw_aload_n (pc := 32) o d_M_tell_32 rfl 0 rfl ?_
  refine gw_callV (pc := 33) (b := τ.2.2 81) (As := []) (st := [.int x2]) o (ct_M_states o.hD h) mi_M_states q_647 q_649 qs_32 0 rfl rfl (xRo_of (by omega) (by decide)) rfl rfl (Nat.le_of_ble_eq_true rfl) d_M_tell_33 (kk_p_i rfl (fun r33 h => ?_))
  refine gw_icmp_ge (pc := 36) (tgt := 131) o d_M_tell_36 (by decide) (fun hc => ?_) (fun hc => ?_)
  · have h := h.1 hc
    refine gw_goto (pc := 131) (tgt := 23) o d_M_tell_131 (by decide) ?_
    exact gw_sub (lv' := [(0, .ref (τ.2.2 81)), (1, .int x1)]) [0, 1] rfl (hk23 _ _ h)
  · have h := h.2 hc
    refine gw_iconst (pc := 39) (v := (0 : Int32)) o d_M_tell_39 (by decide) ?_
    refine gw_istore_n (pc := 40) (lv' := [(3, .int (0 : Int32)), (0, .ref (τ.2.2 81)), (1, .int x1), (2, .int x2)]) o d_M_tell_40 rfl (by decide) rfl ?_
    exact gw_sub (lv' := [(0, .ref (τ.2.2 81)), (1, .int x1), (2, .int x2), (3, .int (0 : Int32))]) [1, 2, 3, 0] rfl (wk_M_tell_L41 o hk23 hk31 h)
def M_tell_L31 (Z : xF → Prop) (k23 : Int32 → xF → Prop) (M : xF) (J : (Nat → Int64)) (x1 : Int32) (x2 : Int32) : Prop := LOOP3 (fun k31 x1 x2 M => M_tell_b31 Z k23 k31 M J x1 x2) x1 x2 M
theorem wk_M_tell_L31 {κ : Cx} {τ : xT} {Z : xF → Prop} {k23 : Int32 → xF → Prop} {M : xF} {J : (Nat → Int64)} {x1 : Int32} {x2 : Int32} (o : OKc κ (wdM τ) 4 b_M_tell "StateExplorerModel" none (xR 2)) (hk23 : ∀ (x1 : Int32) (M : xF), k23 x1 M → GW κ (wdM τ) 4 (0, 0) (xMQ κ (wdM τ) (xR 2) (z1_v J Z)) (M, J) 23 [(0, .ref (τ.2.2 81)), (1, .int x1)] []) (h : M_tell_L31 Z k23 M J x1 x2) : GW κ (wdM τ) 4 (0, 0) (xMQ κ (wdM τ) (xR 2) (z1_v J Z)) (M, J) 31 [(0, .ref (τ.2.2 81)), (1, .int x1), (2, .int x2)] [] := by
  unfold M_tell_L31 at h
  exact LOOP3.use (G := fun x1 x2 M => GW κ (wdM τ) 4 (0, 0) (xMQ κ (wdM τ) (xR 2) (z1_v J Z)) (M, J) 31 [(0, .ref (τ.2.2 81)), (1, .int x1), (2, .int x2)] []) (fun k31 x1 x2 M hk31 h => wk_M_tell_b31 o hk23 hk31 h) h
def M_tell_b23 (Z : xF → Prop) (k23 : Int32 → xF → Prop) (M : xF) (J : (Nat → Int64)) (x1 : Int32) : Prop := ((x1 = 0) → (Z M)) ∧ (¬ (x1 = 0) → (M_tell_L31 Z k23 M J (0 : Int32) (0 : Int32)))
set_option maxRecDepth 10000 in
theorem wk_M_tell_b23 {κ : Cx} {τ : xT} {Z : xF → Prop} {k23 : Int32 → xF → Prop} {M : xF} {J : (Nat → Int64)} {x1 : Int32} (o : OKc κ (wdM τ) 4 b_M_tell "StateExplorerModel" none (xR 2)) (hk23 : ∀ (x1 : Int32) (M : xF), k23 x1 M → GW κ (wdM τ) 4 (0, 0) (xMQ κ (wdM τ) (xR 2) (z1_v J Z)) (M, J) 23 [(0, .ref (τ.2.2 81)), (1, .int x1)] []) (h : M_tell_b23 Z k23 M J x1) : GW κ (wdM τ) 4 (0, 0) (xMQ κ (wdM τ) (xR 2) (z1_v J Z)) (M, J) 23 [(0, .ref (τ.2.2 81)), (1, .int x1)] [] := by
  unfold M_tell_b23 at h
  refine gw_iload_n (pc := 23) o d_M_tell_23 rfl 1 rfl ?_
  refine gw_if_eq (pc := 24) (tgt := 134) o d_M_tell_24 (by decide) (fun hc => ?_) (fun hc => ?_)
  · have h := h.1 hc
    exact gw_vret (pc := 134) o ⟨Nat.le_refl _, Nat.le_refl _⟩ (z1_v.mk h) d_M_tell_134
  · have h := h.2 hc
    refine gw_iconst (pc := 27) (v := (0 : Int32)) o d_M_tell_27 (by decide) ?_
    refine gw_istore_n (pc := 28) (lv' := [(1, .int (0 : Int32)), (0, .ref (τ.2.2 81))]) o d_M_tell_28 rfl (by decide) rfl ?_
    refine gw_iconst (pc := 29) (v := (0 : Int32)) o d_M_tell_29 (by decide) ?_
    refine gw_istore_n (pc := 30) (lv' := [(2, .int (0 : Int32)), (1, .int (0 : Int32)), (0, .ref (τ.2.2 81))]) o d_M_tell_30 rfl (by decide) rfl ?_
    exact gw_sub (lv' := [(0, .ref (τ.2.2 81)), (1, .int (0 : Int32)), (2, .int (0 : Int32))]) [2, 1, 0] rfl (wk_M_tell_L31 o hk23 h)
def M_tell_L23 (Z : xF → Prop) (M : xF) (J : (Nat → Int64)) (x1 : Int32) : Prop := LOOP2 (fun k23 x1 M => M_tell_b23 Z k23 M J x1) x1 M
theorem wk_M_tell_L23 {κ : Cx} {τ : xT} {Z : xF → Prop} {M : xF} {J : (Nat → Int64)} {x1 : Int32} (o : OKc κ (wdM τ) 4 b_M_tell "StateExplorerModel" none (xR 2)) (h : M_tell_L23 Z M J x1) : GW κ (wdM τ) 4 (0, 0) (xMQ κ (wdM τ) (xR 2) (z1_v J Z)) (M, J) 23 [(0, .ref (τ.2.2 81)), (1, .int x1)] [] := by
  unfold M_tell_L23 at h
  exact LOOP2.use (G := fun x1 M => GW κ (wdM τ) 4 (0, 0) (xMQ κ (wdM τ) (xR 2) (z1_v J Z)) (M, J) 23 [(0, .ref (τ.2.2 81)), (1, .int x1)] []) (fun k23 x1 M hk23 h => wk_M_tell_b23 o hk23 h) h
def M_tell_b2 (Z : xF → Prop) (k2 : Int32 → xF → Prop) (M : xF) (J : (Nat → Int64)) (x1 : Int32) : Prop := (((65536 : Int32) ≤ x1) → (M_tell_L23 Z M J (1 : Int32))) ∧ (¬ ((65536 : Int32) ≤ x1) → (vp_in x1 65536 ∧ (∀ M_14 : xF, M_14 = xs M 19 x1.toNatClampNeg (0 : Int32) → (∀ x1_15 : Int32, x1_15 = x1 + (1 : Int32) → (k2 x1_15 M_14)))))
set_option maxRecDepth 10000 in
theorem wk_M_tell_b2 {κ : Cx} {τ : xT} {Z : xF → Prop} {k2 : Int32 → xF → Prop} {M : xF} {J : (Nat → Int64)} {x1 : Int32} (o : OKc κ (wdM τ) 4 b_M_tell "StateExplorerModel" none (xR 2)) (hk2 : ∀ (x1 : Int32) (M : xF), k2 x1 M → GW κ (wdM τ) 4 (0, 0) (xMQ κ (wdM τ) (xR 2) (z1_v J Z)) (M, J) 2 [(0, .ref (τ.2.2 81)), (1, .int x1)] []) (h : M_tell_b2 Z k2 M J x1) : GW κ (wdM τ) 4 (0, 0) (xMQ κ (wdM τ) (xR 2) (z1_v J Z)) (M, J) 2 [(0, .ref (τ.2.2 81)), (1, .int x1)] [] := by
  unfold M_tell_b2 at h
  refine gw_iload_n (pc := 2) o d_M_tell_2 rfl 1 rfl ?_
  refine gw_ldc (pc := 3) o q_545 d_M_tell_3 ?_
  refine gw_icmp_ge (pc := 5) (tgt := 21) o d_M_tell_5 (by decide) (fun hc => ?_) (fun hc => ?_)
  · have h := h.1 hc
    refine gw_iconst (pc := 21) (v := (1 : Int32)) o d_M_tell_21 (by decide) ?_
    refine gw_istore_n (pc := 22) (lv' := [(1, .int (1 : Int32)), (0, .ref (τ.2.2 81))]) o d_M_tell_22 rfl (by decide) rfl ?_
    exact gw_sub (lv' := [(0, .ref (τ.2.2 81)), (1, .int (1 : Int32))]) [1, 0] rfl (wk_M_tell_L23 o h)
  · have h := h.2 hc
    refine gw_aload_n (pc := 8) o d_M_tell_8 rfl 0 rfl ?_
    refine gM_get_apart (pc := 9) o q_565 d_M_tell_9 ?_
    refine gw_iload_n (pc := 12) o d_M_tell_12 rfl 1 rfl ?_
    refine gw_iconst (pc := 13) (v := (0 : Int32)) o d_M_tell_13 (by decide) ?_
    have hi := h.1
    have h := h.2
    refine gM_ast_apart (pc := 14) (y := (0 : Int32)) o hi rfl d_M_tell_14 (fun M_14 eM_14 => ?_)
    have h := h M_14 eM_14
    refine gw_iincN (pc := 15) (c := (1 : Int32)) (lw := fun x1_15 => [(1, .int x1_15), (0, .ref (τ.2.2 81))]) o d_M_tell_15 (by decide) 1 rfl (by decide) (fun _ => rfl) (fun x1_15 ex1_15 => ?_)
    have h := h x1_15 ex1_15
    refine gw_goto (pc := 18) (tgt := 2) o d_M_tell_18 (by decide) ?_
    exact gw_sub (lv' := [(0, .ref (τ.2.2 81)), (1, .int x1_15)]) [1, 0] rfl (hk2 _ _ h)
def M_tell_L2 (Z : xF → Prop) (M : xF) (J : (Nat → Int64)) (x1 : Int32) : Prop := LOOP2 (fun k2 x1 M => M_tell_b2 Z k2 M J x1) x1 M
theorem wk_M_tell_L2 {κ : Cx} {τ : xT} {Z : xF → Prop} {M : xF} {J : (Nat → Int64)} {x1 : Int32} (o : OKc κ (wdM τ) 4 b_M_tell "StateExplorerModel" none (xR 2)) (h : M_tell_L2 Z M J x1) : GW κ (wdM τ) 4 (0, 0) (xMQ κ (wdM τ) (xR 2) (z1_v J Z)) (M, J) 2 [(0, .ref (τ.2.2 81)), (1, .int x1)] [] := by
  unfold M_tell_L2 at h
  exact LOOP2.use (G := fun x1 M => GW κ (wdM τ) 4 (0, 0) (xMQ κ (wdM τ) (xR 2) (z1_v J Z)) (M, J) 2 [(0, .ref (τ.2.2 81)), (1, .int x1)] []) (fun k2 x1 M hk2 h => wk_M_tell_b2 o hk2 h) h
def M_tell_b0 (Z : xF → Prop) (M : xF) (J : (Nat → Int64)) : Prop := M_tell_L2 Z M J (0 : Int32)
set_option maxRecDepth 10000 in
theorem wk_M_tell_b0 {κ : Cx} {τ : xT} {Z : xF → Prop} {M : xF} {J : (Nat → Int64)} (o : OKc κ (wdM τ) 4 b_M_tell "StateExplorerModel" none (xR 2)) (h : M_tell_b0 Z M J) : GW κ (wdM τ) 4 (0, 0) (xMQ κ (wdM τ) (xR 2) (z1_v J Z)) (M, J) 0 [(0, .ref (τ.2.2 81))] [] := by
  unfold M_tell_b0 at h
  refine gw_iconst (pc := 0) (v := (0 : Int32)) o d_M_tell_0 (by decide) ?_
  refine gw_istore_n (pc := 1) (lv' := [(1, .int (0 : Int32)), (0, .ref (τ.2.2 81))]) o d_M_tell_1 rfl (by decide) rfl ?_
  exact gw_sub (lv' := [(0, .ref (τ.2.2 81)), (1, .int (0 : Int32))]) [1, 0] rfl (wk_M_tell_L2 o h)
def w_M_tell  (M : xF) (J : (Nat → Int64))  (Z : xF → Prop) : Prop := M_tell_b0  Z M J
theorem ct_M_tell {l : Launch} {τ : xT} {M : xF} {J : (Nat → Int64)}  {Z : xF → Prop} (hD : xD (wdM τ)) (h : w_M_tell  M J Z) : CT l (wdM τ) y_M_tell (.code y_M_tell b_M_tell 4 none) (xR 2) [.ref (τ.2.2 81)] (M, J) (z1_v J Z) := by
  subst_vars
  exact CT.of (by decide) (Nat.le_of_ble_eq_true rfl) hD (fun κ hl ha o => gw_sub (lv' := [(0, .ref (τ.2.2 81))]) [0] rfl (wk_M_tell_b0 o h))
def M_reached_b28 (Z : Int32 → Prop) (k4 : Int32 → Int32 → Prop) (M : xF) (J : (Nat → Int64)) (x2 : Int32) (s0 : Int32) : Prop := ∀ x2_29 : Int32, x2_29 = x2 + (1 : Int32) → (k4 s0 x2_29)
set_option maxRecDepth 10000 in
theorem wk_M_reached_b28 {κ : Cx} {τ : xT} {Z : Int32 → Prop} {k4 : Int32 → Int32 → Prop} {M : xF} {J : (Nat → Int64)} {x2 : Int32} {s0 : Int32} (o : OKc κ (wdM τ) 3 b_M_reached "StateExplorerModel" (some .int) (xR 1)) (hk4 : ∀ (x1 : Int32) (x2 : Int32), k4 x1 x2 → GW κ (wdM τ) 3 (0, 0) (xMQ κ (wdM τ) (xR 1) (zp_i (M, J) Z)) (M, J) 4 [(0, .ref (τ.2.2 81)), (1, .int x1), (2, .int x2)] []) (h : M_reached_b28 Z k4 M J x2 s0) : GW κ (wdM τ) 3 (0, 0) (xMQ κ (wdM τ) (xR 1) (zp_i (M, J) Z)) (M, J) 28 [(0, .ref (τ.2.2 81)), (2, .int x2)] [.int s0] := by
  unfold M_reached_b28 at h
  refine gw_istore_n (pc := 28) (lv' := [(1, .int s0), (0, .ref (τ.2.2 81)), (2, .int x2)]) o d_M_reached_28 rfl (by decide) rfl ?_
  refine gw_iincN (pc := 29) (c := (1 : Int32)) (lw := fun x2_29 => [(2, .int x2_29), (1, .int s0), (0, .ref (τ.2.2 81))]) o d_M_reached_29 (by decide) 2 rfl (by decide) (fun _ => rfl) (fun x2_29 ex2_29 => ?_)
  have h := h x2_29 ex2_29
  refine gw_goto (pc := 32) (tgt := 4) o d_M_reached_32 (by decide) ?_
  exact gw_sub (lv' := [(0, .ref (τ.2.2 81)), (1, .int s0), (2, .int x2_29)]) [2, 1, 0] rfl (hk4 _ _ h)
def M_reached_b4 (Z : Int32 → Prop) (k4 : Int32 → Int32 → Prop) (M : xF) (J : (Nat → Int64)) (x1 : Int32) (x2 : Int32) : Prop := w_M_states M J (fun r6 => ((r6 ≤ x2) → (Z x1)) ∧ (¬ (r6 ≤ x2) → (vp_in x2 256 ∧ ((((M 18 x2.toNatClampNeg) < 0) → (M_reached_b28 Z k4 M J x2 x1)) ∧ (¬ ((M 18 x2.toNatClampNeg) < 0) → (M_reached_b28 Z k4 M J x2 (x1 + (1 : Int32))))))))
set_option maxRecDepth 10000 in
theorem wk_M_reached_b4 {κ : Cx} {τ : xT} {Z : Int32 → Prop} {k4 : Int32 → Int32 → Prop} {M : xF} {J : (Nat → Int64)} {x1 : Int32} {x2 : Int32} (o : OKc κ (wdM τ) 3 b_M_reached "StateExplorerModel" (some .int) (xR 1)) (hk4 : ∀ (x1 : Int32) (x2 : Int32), k4 x1 x2 → GW κ (wdM τ) 3 (0, 0) (xMQ κ (wdM τ) (xR 1) (zp_i (M, J) Z)) (M, J) 4 [(0, .ref (τ.2.2 81)), (1, .int x1), (2, .int x2)] []) (h : M_reached_b4 Z k4 M J x1 x2) : GW κ (wdM τ) 3 (0, 0) (xMQ κ (wdM τ) (xR 1) (zp_i (M, J) Z)) (M, J) 4 [(0, .ref (τ.2.2 81)), (1, .int x1), (2, .int x2)] [] := by
  unfold M_reached_b4 at h
  refine gw_iload_n (pc := 4) o d_M_reached_4 rfl 2 rfl ?_
  refine gw_aload_n (pc := 5) o d_M_reached_5 rfl 0 rfl ?_
  refine gw_callV (pc := 6) (b := τ.2.2 81) (As := []) (st := [.int x2]) o (ct_M_states o.hD h) mi_M_states q_647 q_649 qs_32 0 rfl rfl (xRo_of (by omega) (by decide)) rfl rfl (Nat.le_of_ble_eq_true rfl) d_M_reached_6 (kk_p_i rfl (fun r6 h => ?_))
  refine gw_icmp_ge (pc := 9) (tgt := 35) o d_M_reached_9 (by decide) (fun hc => ?_) (fun hc => ?_)
  · have h := h.1 hc
    refine gw_iload_n (pc := 35) o d_M_reached_35 rfl 1 rfl ?_
    exact gw_iret (pc := 36) o ⟨Nat.le_refl _, Nat.le_refl _⟩ (zp_i.mk h) d_M_reached_36
  · have h := h.2 hc
    refine gw_aload_n (pc := 12) o d_M_reached_12 rfl 0 rfl ?_
    refine gM_get_distance (pc := 13) o q_564 d_M_reached_13 ?_
    refine gw_iload_n (pc := 16) o d_M_reached_16 rfl 2 rfl ?_
    have hi := h.1
    have h := h.2
    refine gM_ald_distance (pc := 17) o hi d_M_reached_17 ?_
    refine gw_if_lt (pc := 18) (tgt := 27) o d_M_reached_18 (by decide) (fun hc => ?_) (fun hc => ?_)
    · have h := h.1 hc
      refine gw_iload_n (pc := 27) o d_M_reached_27 rfl 1 rfl ?_
      exact gw_sub (lv' := [(0, .ref (τ.2.2 81)), (2, .int x2)]) [0, 2] rfl (wk_M_reached_b28 o hk4 h)
    · have h := h.2 hc
      refine gw_iload_n (pc := 21) o d_M_reached_21 rfl 1 rfl ?_
      refine gw_iconst (pc := 22) (v := (1 : Int32)) o d_M_reached_22 (by decide) ?_
      refine gw_iadd (pc := 23) o d_M_reached_23 ?_
      refine gw_goto (pc := 24) (tgt := 28) o d_M_reached_24 (by decide) ?_
      exact gw_sub (lv' := [(0, .ref (τ.2.2 81)), (2, .int x2)]) [0, 2] rfl (wk_M_reached_b28 o hk4 h)
def M_reached_L4 (Z : Int32 → Prop) (M : xF) (J : (Nat → Int64)) (x1 : Int32) (x2 : Int32) : Prop := LOOP2 (fun k4 x1 x2 => M_reached_b4 Z k4 M J x1 x2) x1 x2
theorem wk_M_reached_L4 {κ : Cx} {τ : xT} {Z : Int32 → Prop} {M : xF} {J : (Nat → Int64)} {x1 : Int32} {x2 : Int32} (o : OKc κ (wdM τ) 3 b_M_reached "StateExplorerModel" (some .int) (xR 1)) (h : M_reached_L4 Z M J x1 x2) : GW κ (wdM τ) 3 (0, 0) (xMQ κ (wdM τ) (xR 1) (zp_i (M, J) Z)) (M, J) 4 [(0, .ref (τ.2.2 81)), (1, .int x1), (2, .int x2)] [] := by
  unfold M_reached_L4 at h
  exact LOOP2.use (G := fun x1 x2 => GW κ (wdM τ) 3 (0, 0) (xMQ κ (wdM τ) (xR 1) (zp_i (M, J) Z)) (M, J) 4 [(0, .ref (τ.2.2 81)), (1, .int x1), (2, .int x2)] []) (fun k4 x1 x2 hk4 h => wk_M_reached_b4 o hk4 h) h
def M_reached_b0 (Z : Int32 → Prop) (M : xF) (J : (Nat → Int64)) : Prop := M_reached_L4 Z M J (0 : Int32) (0 : Int32)
set_option maxRecDepth 10000 in
theorem wk_M_reached_b0 {κ : Cx} {τ : xT} {Z : Int32 → Prop} {M : xF} {J : (Nat → Int64)} (o : OKc κ (wdM τ) 3 b_M_reached "StateExplorerModel" (some .int) (xR 1)) (h : M_reached_b0 Z M J) : GW κ (wdM τ) 3 (0, 0) (xMQ κ (wdM τ) (xR 1) (zp_i (M, J) Z)) (M, J) 0 [(0, .ref (τ.2.2 81))] [] := by
  unfold M_reached_b0 at h
  refine gw_iconst (pc := 0) (v := (0 : Int32)) o d_M_reached_0 (by decide) ?_
  refine gw_istore_n (pc := 1) (lv' := [(1, .int (0 : Int32)), (0, .ref (τ.2.2 81))]) o d_M_reached_1 rfl (by decide) rfl ?_
  refine gw_iconst (pc := 2) (v := (0 : Int32)) o d_M_reached_2 (by decide) ?_
  refine gw_istore_n (pc := 3) (lv' := [(2, .int (0 : Int32)), (1, .int (0 : Int32)), (0, .ref (τ.2.2 81))]) o d_M_reached_3 rfl (by decide) rfl ?_
  exact gw_sub (lv' := [(0, .ref (τ.2.2 81)), (1, .int (0 : Int32)), (2, .int (0 : Int32))]) [2, 1, 0] rfl (wk_M_reached_L4 o h)
def w_M_reached  (M : xF) (J : (Nat → Int64))  (Z : Int32 → Prop) : Prop := M_reached_b0  Z M J
theorem ct_M_reached {l : Launch} {τ : xT} {M : xF} {J : (Nat → Int64)}  {Z : Int32 → Prop} (hD : xD (wdM τ)) (h : w_M_reached  M J Z) : CT l (wdM τ) y_M_reached (.code y_M_reached b_M_reached 3 (some .int)) (xR 1) [.ref (τ.2.2 81)] (M, J) (zp_i (M, J) Z) := by
  subst_vars
  exact CT.of (by decide) (Nat.le_of_ble_eq_true rfl) hD (fun κ hl ha o => gw_sub (lv' := [(0, .ref (τ.2.2 81))]) [0] rfl (wk_M_reached_b0 o h))
