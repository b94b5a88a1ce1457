/-! walks, printed by mk.py -/
def M_held_b106 (Z : Int32 → Prop) (k6 : Int32 → Int32 → Prop) (M : xF) (J : (Nat → Int64)) (x1 : Int64) (x3 : Int32) (x5 : Int32) (s0 : Int32) : Prop := ∀ x5_108 : Int32, x5_108 = x5 + (1 : Int32) → (k6 s0 x5_108)
set_option maxRecDepth 10000 in
theorem wk_M_held_b106 {κ : Cx} {τ : xT} {Z : Int32 → Prop} {k6 : Int32 → Int32 → Prop} {M : xF} {J : (Nat → Int64)} {x1 : Int64} {x3 : Int32} {x5 : Int32} {s0 : Int32} (o : OKc κ (wdM τ) 9 b_M_held "StateExplorerModel" (some .int) (xR 1)) (hk6 : ∀ (x4 : Int32) (x5 : Int32), k6 x4 x5 → GW κ (wdM τ) 9 (0, 0) (xMQ κ (wdM τ) (xR 1) (zp_i (M, J) Z)) (M, J) 6 [(0, .ref (τ.2.2 81)), (1, .long x1), (3, .int x3), (4, .int x4), (5, .int x5)] []) (h : M_held_b106 Z k6 M J x1 x3 x5 s0) : GW κ (wdM τ) 9 (0, 0) (xMQ κ (wdM τ) (xR 1) (zp_i (M, J) Z)) (M, J) 106 [(0, .ref (τ.2.2 81)), (1, .long x1), (3, .int x3), (5, .int x5)] [.int s0] := by
  unfold M_held_b106 at h
  refine gw_istore (pc := 106) (lv' := [(4, .int s0), (0, .ref (τ.2.2 81)), (1, .long x1), (3, .int x3), (5, .int x5)]) o d_M_held_106 (by decide) rfl ?_
  refine gw_iincN (pc := 108) (c := (1 : Int32)) (lw := fun x5_108 => [(5, .int x5_108), (4, .int s0), (0, .ref (τ.2.2 81)), (1, .long x1), (3, .int x3)]) o d_M_held_108 (by decide) 4 rfl (by decide) (fun _ => rfl) (fun x5_108 ex5_108 => ?_)
  have h := h x5_108 ex5_108
  refine gw_goto (pc := 111) (tgt := 6) o d_M_held_111 (by decide) ?_
  exact gw_sub (lv' := [(0, .ref (τ.2.2 81)), (1, .long x1), (3, .int x3), (4, .int s0), (5, .int x5_108)]) [2, 3, 4, 1, 0] rfl (hk6 _ _ h)
def M_held_b97 (Z : Int32 → Prop) (k6 : Int32 → Int32 → Prop) (M : xF) (J : (Nat → Int64)) (x1 : Int64) (x3 : Int32) (x4 : Int32) (x5 : Int32) : Prop := M_held_b106 Z k6 M J x1 x3 x5 (x4 + (1 : Int32))
set_option maxRecDepth 10000 in
theorem wk_M_held_b97 {κ : Cx} {τ : xT} {Z : Int32 → Prop} {k6 : Int32 → Int32 → Prop} {M : xF} {J : (Nat → Int64)} {x1 : Int64} {x3 : Int32} {x4 : Int32} {x5 : Int32} (o : OKc κ (wdM τ) 9 b_M_held "StateExplorerModel" (some .int) (xR 1)) (hk6 : ∀ (x4 : Int32) (x5 : Int32), k6 x4 x5 → GW κ (wdM τ) 9 (0, 0) (xMQ κ (wdM τ) (xR 1) (zp_i (M, J) Z)) (M, J) 6 [(0, .ref (τ.2.2 81)), (1, .long x1), (3, .int x3), (4, .int x4), (5, .int x5)] []) (h : M_held_b97 Z k6 M J x1 x3 x4 x5) : GW κ (wdM τ) 9 (0, 0) (xMQ κ (wdM τ) (xR 1) (zp_i (M, J) Z)) (M, J) 97 [(0, .ref (τ.2.2 81)), (1, .long x1), (3, .int x3), (4, .int x4), (5, .int x5)] [] := by
  unfold M_held_b97 at h
  refine gw_iload (pc := 97) o d_M_held_97 3 rfl ?_
  refine gw_iconst (pc := 99) (v := (1 : Int32)) o d_M_held_99 (by decide) ?_
  refine gw_iadd (pc := 100) o d_M_held_100 ?_
  refine gw_goto (pc := 101) (tgt := 106) o d_M_held_101 (by decide) ?_
  exact gw_sub (lv' := [(0, .ref (τ.2.2 81)), (1, .long x1), (3, .int x3), (5, .int x5)]) [0, 1, 2, 4] rfl (wk_M_held_b106 o hk6 h)
def M_held_b104 (Z : Int32 → Prop) (k6 : Int32 → Int32 → Prop) (M : xF) (J : (Nat → Int64)) (x1 : Int64) (x3 : Int32) (x4 : Int32) (x5 : Int32) : Prop := M_held_b106 Z k6 M J x1 x3 x5 x4
set_option maxRecDepth 10000 in
theorem wk_M_held_b104 {κ : Cx} {τ : xT} {Z : Int32 → Prop} {k6 : Int32 → Int32 → Prop} {M : xF} {J : (Nat → Int64)} {x1 : Int64} {x3 : Int32} {x4 : Int32} {x5 : Int32} (o : OKc κ (wdM τ) 9 b_M_held "StateExplorerModel" (some .int) (xR 1)) (hk6 : ∀ (x4 : Int32) (x5 : Int32), k6 x4 x5 → GW κ (wdM τ) 9 (0, 0) (xMQ κ (wdM τ) (xR 1) (zp_i (M, J) Z)) (M, J) 6 [(0, .ref (τ.2.2 81)), (1, .long x1), (3, .int x3), (4, .int x4), (5, .int x5)] []) (h : M_held_b104 Z k6 M J x1 x3 x4 x5) : GW κ (wdM τ) 9 (0, 0) (xMQ κ (wdM τ) (xR 1) (zp_i (M, J) Z)) (M, J) 104 [(0, .ref (τ.2.2 81)), (1, .long x1), (3, .int x3), (4, .int x4), (5, .int x5)] [] := by
  unfold M_held_b104 at h
  refine gw_iload (pc := 104) o d_M_held_104 3 rfl ?_
  exact gw_sub (lv' := [(0, .ref (τ.2.2 81)), (1, .long x1), (3, .int x3), (5, .int x5)]) [0, 1, 2, 4] rfl (wk_M_held_b106 o hk6 h)
def M_held_b58 (Z : Int32 → Prop) (k6 : Int32 → Int32 → Prop) (M : xF) (J : (Nat → Int64)) (x1 : Int64) (x3 : Int32) (x4 : Int32) (x5 : Int32) (s0 : Int32) : Prop := vp_in x5 4096 ∧ (∀ x7_69 : Int64, x7_69 = (J x5.toNatClampNeg) &&& x1 → (((s0 = 0) → (M_held_b104 Z k6 M J x1 x3 x4 x5)) ∧ (¬ (s0 = 0) → (((x3 = 0) → (((x7_69 = (0 : Int64)) → (M_held_b97 Z k6 M J x1 x3 x4 x5)) ∧ (¬ (x7_69 = (0 : Int64)) → (M_held_b104 Z k6 M J x1 x3 x4 x5)))) ∧ (¬ (x3 = 0) → (((x7_69 = x1) → (M_held_b97 Z k6 M J x1 x3 x4 x5)) ∧ (¬ (x7_69 = x1) → (M_held_b104 Z k6 M J x1 x3 x4 x5))))))))
set_option maxRecDepth 10000 in
theorem wk_M_held_b58 {κ : Cx} {τ : xT} {Z : Int32 → Prop} {k6 : Int32 → Int32 → Prop} {M : xF} {J : (Nat → Int64)} {x1 : Int64} {x3 : Int32} {x4 : Int32} {x5 : Int32} {s0 : Int32} (o : OKc κ (wdM τ) 9 b_M_held "StateExplorerModel" (some .int) (xR 1)) (hk6 : ∀ (x4 : Int32) (x5 : Int32), k6 x4 x5 → GW κ (wdM τ) 9 (0, 0) (xMQ κ (wdM τ) (xR 1) (zp_i (M, J) Z)) (M, J) 6 [(0, .ref (τ.2.2 81)), (1, .long x1), (3, .int x3), (4, .int x4), (5, .int x5)] []) (h : M_held_b58 Z k6 M J x1 x3 x4 x5 s0) : GW κ (wdM τ) 9 (0, 0) (xMQ κ (wdM τ) (xR 1) (zp_i (M, J) Z)) (M, J) 58 [(0, .ref (τ.2.2 81)), (1, .long x1), (3, .int x3), (4, .int x4), (5, .int x5)] [.int s0] := by
  unfold M_held_b58 at h
  refine gw_istore (pc := 58) (lv' := [(6, .int s0), (0, .ref (τ.2.2 81)), (1, .long x1), (3, .int x3), (4, .int x4), (5, .int x5)]) o d_M_held_58 (by decide) rfl ?_
  refine gw_aload_n (pc := 60) o d_M_held_60 rfl 1 rfl ?_
  refine gM_get_ones (pc := 61) o q_563 d_M_held_61 ?_
  refine gw_iload (pc := 64) o d_M_held_64 5 rfl ?_
  have hi := h.1
  have h := h.2
  refine gM_ald_ones (pc := 66) o hi d_M_held_66 ?_
  refine gw_lload_n (pc := 67) o d_M_held_67 rfl 2 rfl ?_
  refine gw_land (pc := 68) o d_M_held_68 ?_
  refine gw_topl (fun x7_69 ex7_69 => ?_)
  have h := h x7_69 ex7_69
  refine gw_lstore (pc := 69) (lv' := [(7, .long x7_69), (6, .int s0), (0, .ref (τ.2.2 81)), (1, .long x1), (3, .int x3), (4, .int x4), (5, .int x5)]) o d_M_held_69 (by decide) rfl ?_
  refine gw_iload (pc := 71) o d_M_held_71 1 rfl ?_
  refine gw_if_eq (pc := 73) (tgt := 104) o d_M_held_73 (by decide) (fun hc => ?_) (fun hc => ?_)
  · have h := h.1 hc
    exact gw_sub (lv' := [(0, .ref (τ.2.2 81)), (1, .long x1), (3, .int x3), (4, .int x4), (5, .int x5)]) [2, 3, 4, 5, 6] rfl (wk_M_held_b104 o hk6 h)
  · have h := h.2 hc
    refine gw_iload_n (pc := 76) o d_M_held_76 rfl 4 rfl ?_
    refine gw_if_eq (pc := 77) (tgt := 90) o d_M_held_77 (by decide) (fun hc => ?_) (fun hc => ?_)
    · have h := h.1 hc
      refine gw_lload (pc := 90) o d_M_held_90 0 rfl ?_
      refine gw_lconst (pc := 92) (v := (0 : Int64)) o d_M_held_92 (by decide) ?_
      refine gw_lcmp (pc := 93) o d_M_held_93 ?_
      refine gw_if_ne (pc := 94) (tgt := 104) o d_M_held_94 (by decide) (fun hc => ?_) (fun hc => ?_)
      · have h := h.2 (fun e => hc (xcmp0.mpr e))
        exact gw_sub (lv' := [(0, .ref (τ.2.2 81)), (1, .long x1), (3, .int x3), (4, .int x4), (5, .int x5)]) [2, 3, 4, 5, 6] rfl (wk_M_held_b104 o hk6 h)
      · have h := h.1 (xcmp0.mp hc)
        exact gw_sub (lv' := [(0, .ref (τ.2.2 81)), (1, .long x1), (3, .int x3), (4, .int x4), (5, .int x5)]) [2, 3, 4, 5, 6] rfl (wk_M_held_b97 o hk6 h)
    · have h := h.2 hc
      refine gw_lload (pc := 80) o d_M_held_80 0 rfl ?_
      refine gw_lload_n (pc := 82) o d_M_held_82 rfl 3 rfl ?_
      refine gw_lcmp (pc := 83) o d_M_held_83 ?_
      refine gw_if_ne (pc := 84) (tgt := 104) o d_M_held_84 (by decide) (fun hc => ?_) (fun hc => ?_)
      · have h := h.2 (fun e => hc (xcmp0.mpr e))
        exact gw_sub (lv' := [(0, .ref (τ.2.2 81)), (1, .long x1), (3, .int x3), (4, .int x4), (5, .int x5)]) [2, 3, 4, 5, 6] rfl (wk_M_held_b104 o hk6 h)
      · have h := h.1 (xcmp0.mp hc)
        refine gw_goto (pc := 87) (tgt := 97) o d_M_held_87 (by decide) ?_
        exact gw_sub (lv' := [(0, .ref (τ.2.2 81)), (1, .long x1), (3, .int x3), (4, .int x4), (5, .int x5)]) [2, 3, 4, 5, 6] rfl (wk_M_held_b97 o hk6 h)
def M_held_b57 (Z : Int32 → Prop) (k6 : Int32 → Int32 → Prop) (M : xF) (J : (Nat → Int64)) (x1 : Int64) (x3 : Int32) (x4 : Int32) (x5 : Int32) : Prop := M_held_b58 Z k6 M J x1 x3 x4 x5 (0 : Int32)
set_option maxRecDepth 10000 in
theorem wk_M_held_b57 {κ : Cx} {τ : xT} {Z : Int32 → Prop} {k6 : Int32 → Int32 → Prop} {M : xF} {J : (Nat → Int64)} {x1 : Int64} {x3 : Int32} {x4 : Int32} {x5 : Int32} (o : OKc κ (wdM τ) 9 b_M_held "StateExplorerModel" (some .int) (xR 1)) (hk6 : ∀ (x4 : Int32) (x5 : Int32), k6 x4 x5 → GW κ (wdM τ) 9 (0, 0) (xMQ κ (wdM τ) (xR 1) (zp_i (M, J) Z)) (M, J) 6 [(0, .ref (τ.2.2 81)), (1, .long x1), (3, .int x3), (4, .int x4), (5, .int x5)] []) (h : M_held_b57 Z k6 M J x1 x3 x4 x5) : GW κ (wdM τ) 9 (0, 0) (xMQ κ (wdM τ) (xR 1) (zp_i (M, J) Z)) (M, J) 57 [(0, .ref (τ.2.2 81)), (1, .long x1), (3, .int x3), (4, .int x4), (5, .int x5)] [] := by
  unfold M_held_b57 at h
  refine gw_iconst (pc := 57) (v := (0 : Int32)) o d_M_held_57 (by decide) ?_
  exact gw_sub (lv' := [(0, .ref (τ.2.2 81)), (1, .long x1), (3, .int x3), (4, .int x4), (5, .int x5)]) [0, 1, 2, 3, 4] rfl (wk_M_held_b58 o hk6 h)
def M_held_b6 (Z : Int32 → Prop) (k6 : Int32 → Int32 → Prop) (M : xF) (J : (Nat → Int64)) (x1 : Int64) (x3 : Int32) (x4 : Int32) (x5 : Int32) : Prop := w_M_states M J (fun r11 => ((((16 : Int32) * r11) ≤ x5) → (Z x4)) ∧ (¬ (((16 : Int32) * r11) ≤ x5) → (vp_in (x5 / (16 : Int32)) 256 ∧ ((((M 18 (x5 / (16 : Int32)).toNatClampNeg) < 0) → (M_held_b57 Z k6 M J x1 x3 x4 x5)) ∧ (¬ ((M 18 (x5 / (16 : Int32)).toNatClampNeg) < 0) → (w_M_choices M J (fun r37 => ((r37 ≤ (x5 - x5 / (16 : Int32) * (16 : Int32))) → (M_held_b57 Z k6 M J x1 x3 x4 x5)) ∧ (¬ (r37 ≤ (x5 - x5 / (16 : Int32) * (16 : Int32))) → (vp_in x5 4096 ∧ ((((M 15 x5.toNatClampNeg) = 0) → (M_held_b57 Z k6 M J x1 x3 x4 x5)) ∧ (¬ ((M 15 x5.toNatClampNeg) = 0) → (M_held_b58 Z k6 M J x1 x3 x4 x5 (1 : Int32)))))))))))))
set_option maxRecDepth 10000 in
theorem wk_M_held_b6 {κ : Cx} {τ : xT} {Z : Int32 → Prop} {k6 : Int32 → Int32 → Prop} {M : xF} {J : (Nat → Int64)} {x1 : Int64} {x3 : Int32} {x4 : Int32} {x5 : Int32} (o : OKc κ (wdM τ) 9 b_M_held "StateExplorerModel" (some .int) (xR 1)) (hk6 : ∀ (x4 : Int32) (x5 : Int32), k6 x4 x5 → GW κ (wdM τ) 9 (0, 0) (xMQ κ (wdM τ) (xR 1) (zp_i (M, J) Z)) (M, J) 6 [(0, .ref (τ.2.2 81)), (1, .long x1), (3, .int x3), (4, .int x4), (5, .int x5)] []) (h : M_held_b6 Z k6 M J x1 x3 x4 x5) : GW κ (wdM τ) 9 (0, 0) (xMQ κ (wdM τ) (xR 1) (zp_i (M, J) Z)) (M, J) 6 [(0, .ref (τ.2.2 81)), (1, .long x1), (3, .int x3), (4, .int x4), (5, .int x5)] [] := by
  unfold M_held_b6 at h
  refine gw_iload (pc := 6) o d_M_held_6 4 rfl ?_
  refine gw_bipush (pc := 8) (v := (16 : Int32)) o d_M_held_8 (by decide) ?_
  refine gw_aload_n (pc := 10) o d_M_held_10 rfl 0 rfl ?_
  refine gw_callV (pc := 11) (b := τ.2.2 81) (As := []) (st := [.int (16 : Int32), .int x5]) o (ct_M_states o.hD h) mi_M_states q_647 q_649 qs_32 0 rfl rfl (xRo_of (by omega) (by decide)) rfl rfl (Nat.le_of_ble_eq_true rfl) d_M_held_11 (kk_p_i rfl (fun r11 h => ?_))
  refine gw_imul (pc := 14) o d_M_held_14 ?_
  refine gw_icmp_ge (pc := 15) (tgt := 114) o d_M_held_15 (by decide) (fun hc => ?_) (fun hc => ?_)
  · have h := h.1 hc
    refine gw_iload (pc := 114) o d_M_held_114 3 rfl ?_
    exact gw_iret (pc := 116) o ⟨Nat.le_refl _, Nat.le_refl _⟩ (zp_i.mk h) d_M_held_116
  · have h := h.2 hc
    refine gw_aload_n (pc := 18) o d_M_held_18 rfl 0 rfl ?_
    refine gM_get_distance (pc := 19) o q_564 d_M_held_19 ?_
    refine gw_iload (pc := 22) o d_M_held_22 4 rfl ?_
    refine gw_bipush (pc := 24) (v := (16 : Int32)) o d_M_held_24 (by decide) ?_
    refine gw_idiv (pc := 26) o d_M_held_26 (by decide) ?_
    have hi := h.1
    have h := h.2
    refine gM_ald_distance (pc := 27) o hi d_M_held_27 ?_
    refine gw_if_lt (pc := 28) (tgt := 57) o d_M_held_28 (by decide) (fun hc => ?_) (fun hc => ?_)
    · have h := h.1 hc
      exact gw_sub (lv' := [(0, .ref (τ.2.2 81)), (1, .long x1), (3, .int x3), (4, .int x4), (5, .int x5)]) [0, 1, 2, 3, 4] rfl (wk_M_held_b57 o hk6 h)
    · have h := h.2 hc
      refine gw_iload (pc := 31) o d_M_held_31 4 rfl ?_
      refine gw_bipush (pc := 33) (v := (16 : Int32)) o d_M_held_33 (by decide) ?_
      refine gw_irem (pc := 35) o d_M_held_35 (by decide) ?_
      refine gw_aload_n (pc := 36) o d_M_held_36 rfl 0 rfl ?_
      refine gw_callV (pc := 37) (b := τ.2.2 81) (As := []) (st := [.int (x5 - x5 / (16 : Int32) * (16 : Int32))]) o (ct_M_choices o.hD h) mi_M_choices q_651 q_653 qs_33 0 rfl rfl (xRo_of (by omega) (by decide)) rfl rfl (Nat.le_of_ble_eq_true rfl) d_M_held_37 (kk_p_i rfl (fun r37 h => ?_))
      refine gw_icmp_ge (pc := 40) (tgt := 57) o d_M_held_40 (by decide) (fun hc => ?_) (fun hc => ?_)
      · have h := h.1 hc
        exact gw_sub (lv' := [(0, .ref (τ.2.2 81)), (1, .long x1), (3, .int x3), (4, .int x4), (5, .int x5)]) [0, 1, 2, 3, 4] rfl (wk_M_held_b57 o hk6 h)
      · have h := h.2 hc
        refine gw_aload_n (pc := 43) o d_M_held_43 rfl 0 rfl ?_
        refine gM_get_settles (pc := 44) o q_561 d_M_held_44 ?_
        refine gw_iload (pc := 47) o d_M_held_47 4 rfl ?_
        have hi := h.1
        have h := h.2
        refine gM_ald_settles (pc := 49) o hi d_M_held_49 ?_
        refine gw_if_eq (pc := 50) (tgt := 57) o d_M_held_50 (by decide) (fun hc => ?_) (fun hc => ?_)
        · have h := h.1 hc
          exact gw_sub (lv' := [(0, .ref (τ.2.2 81)), (1, .long x1), (3, .int x3), (4, .int x4), (5, .int x5)]) [0, 1, 2, 3, 4] rfl (wk_M_held_b57 o hk6 h)
        · have h := h.2 hc
          refine gw_iconst (pc := 53) (v := (1 : Int32)) o d_M_held_53 (by decide) ?_
          refine gw_goto (pc := 54) (tgt := 58) o d_M_held_54 (by decide) ?_
          exact gw_sub (lv' := [(0, .ref (τ.2.2 81)), (1, .long x1), (3, .int x3), (4, .int x4), (5, .int x5)]) [0, 1, 2, 3, 4] rfl (wk_M_held_b58 o hk6 h)
def M_held_L6 (Z : Int32 → Prop) (M : xF) (J : (Nat → Int64)) (x1 : Int64) (x3 : Int32) (x4 : Int32) (x5 : Int32) : Prop := LOOP2 (fun k6 x4 x5 => M_held_b6 Z k6 M J x1 x3 x4 x5) x4 x5
theorem wk_M_held_L6 {κ : Cx} {τ : xT} {Z : Int32 → Prop} {M : xF} {J : (Nat → Int64)} {x1 : Int64} {x3 : Int32} {x4 : Int32} {x5 : Int32} (o : OKc κ (wdM τ) 9 b_M_held "StateExplorerModel" (some .int) (xR 1)) (h : M_held_L6 Z M J x1 x3 x4 x5) : GW κ (wdM τ) 9 (0, 0) (xMQ κ (wdM τ) (xR 1) (zp_i (M, J) Z)) (M, J) 6 [(0, .ref (τ.2.2 81)), (1, .long x1), (3, .int x3), (4, .int x4), (5, .int x5)] [] := by
  unfold M_held_L6 at h
  exact LOOP2.use (G := fun x4 x5 => GW κ (wdM τ) 9 (0, 0) (xMQ κ (wdM τ) (xR 1) (zp_i (M, J) Z)) (M, J) 6 [(0, .ref (τ.2.2 81)), (1, .long x1), (3, .int x3), (4, .int x4), (5, .int x5)] []) (fun k6 x4 x5 hk6 h => wk_M_held_b6 o hk6 h) h
def M_held_b0 (Z : Int32 → Prop) (M : xF) (J : (Nat → Int64)) (x1 : Int64) (x3 : Int32) : Prop := M_held_L6 Z M J x1 x3 (0 : Int32) (0 : Int32)
set_option maxRecDepth 10000 in
theorem wk_M_held_b0 {κ : Cx} {τ : xT} {Z : Int32 → Prop} {M : xF} {J : (Nat → Int64)} {x1 : Int64} {x3 : Int32} (o : OKc κ (wdM τ) 9 b_M_held "StateExplorerModel" (some .int) (xR 1)) (h : M_held_b0 Z M J x1 x3) : GW κ (wdM τ) 9 (0, 0) (xMQ κ (wdM τ) (xR 1) (zp_i (M, J) Z)) (M, J) 0 [(0, .ref (τ.2.2 81)), (1, .long x1), (3, .int x3)] [] := by
  unfold M_held_b0 at h
  refine gw_iconst (pc := 0) (v := (0 : Int32)) o d_M_held_0 (by decide) ?_
  refine gw_istore (pc := 1) (lv' := [(4, .int (0 : Int32)), (0, .ref (τ.2.2 81)), (1, .long x1), (3, .int x3)]) o d_M_held_1 (by decide) rfl ?_
  refine gw_iconst (pc := 3) (v := (0 : Int32)) o d_M_held_3 (by decide) ?_
  refine gw_istore (pc := 4) (lv' := [(5, .int (0 : Int32)), (4, .int (0 : Int32)), (0, .ref (τ.2.2 81)), (1, .long x1), (3, .int x3)]) o d_M_held_4 (by decide) rfl ?_
  exact gw_sub (lv' := [(0, .ref (τ.2.2 81)), (1, .long x1), (3, .int x3), (4, .int (0 : Int32)), (5, .int (0 : Int32))]) [2, 3, 4, 1, 0] rfl (wk_M_held_L6 o h)
def w_M_held  (M : xF) (J : (Nat → Int64)) (x1 : Int64) (x3 : Int32) (Z : Int32 → Prop) : Prop := M_held_b0  Z M J x1 x3
theorem ct_M_held {l : Launch} {τ : xT} {M : xF} {J : (Nat → Int64)} {x1 : Int64} {x3 : Int32} {Z : Int32 → Prop} (hD : xD (wdM τ)) (h : w_M_held  M J x1 x3 Z) : CT l (wdM τ) y_M_held (.code y_M_held b_M_held 9 (some .int)) (xR 1) [.ref (τ.2.2 81), .long x1, .int x3] (M, J) (zp_i (M, J) Z) := by
  subst_vars
  exact CT.of (by decide) (Nat.le_of_ble_eq_true rfl) hD (fun κ hl ha o => gw_sub (lv' := [(0, .ref (τ.2.2 81)), (1, .long x1), (3, .int x3)]) [0, 1, 2] rfl (wk_M_held_b0 o h))
def M_always_b77 (Z : Int32 → xF → Prop) (M : xF) (J : (Nat → Int64)) (s0 : Int32) : Prop := Z s0 M
set_option maxRecDepth 10000 in
theorem wk_M_always_b77 {κ : Cx} {τ : xT} {Z : Int32 → xF → Prop} {M : xF} {J : (Nat → Int64)} {s0 : Int32} (o : OKc κ (wdM τ) 4 b_M_always "StateExplorerModel" (some .int) (xR 2)) (h : M_always_b77 Z M J s0) : GW κ (wdM τ) 4 (0, 0) (xMQ κ (wdM τ) (xR 2) (z1_i J Z)) (M, J) 77 [] [.int s0] := by
  unfold M_always_b77 at h
  exact gw_iret (pc := 77) o ⟨Nat.le_refl _, Nat.le_refl _⟩ (z1_i.mk h) d_M_always_77
def M_always_b76 (Z : Int32 → xF → Prop) (M : xF) (J : (Nat → Int64)) : Prop := M_always_b77 Z M J (2 : Int32)
set_option maxRecDepth 10000 in
theorem wk_M_always_b76 {κ : Cx} {τ : xT} {Z : Int32 → xF → Prop} {M : xF} {J : (Nat → Int64)} (o : OKc κ (wdM τ) 4 b_M_always "StateExplorerModel" (some .int) (xR 2)) (h : M_always_b76 Z M J) : GW κ (wdM τ) 4 (0, 0) (xMQ κ (wdM τ) (xR 2) (z1_i J Z)) (M, J) 76 [] [] := by
  unfold M_always_b76 at h
  refine gw_iconst (pc := 76) (v := (2 : Int32)) o d_M_always_76 (by decide) ?_
  exact gw_sub (lv' := []) [] rfl (wk_M_always_b77 o h)
def M_always_b64 (Z : Int32 → xF → Prop) (M : xF) (J : (Nat → Int64)) (x2 : Int32) (x3 : Int32) : Prop := ((x3 ≤ 0) → (M_always_b76 Z M J)) ∧ (¬ (x3 ≤ 0) → (((x2 = 0) → (M_always_b77 Z M J (0 : Int32))) ∧ (¬ (x2 = 0) → (M_always_b76 Z M J))))
set_option maxRecDepth 10000 in
theorem wk_M_always_b64 {κ : Cx} {τ : xT} {Z : Int32 → xF → Prop} {M : xF} {J : (Nat → Int64)} {x2 : Int32} {x3 : Int32} (o : OKc κ (wdM τ) 4 b_M_always "StateExplorerModel" (some .int) (xR 2)) (h : M_always_b64 Z M J x2 x3) : GW κ (wdM τ) 4 (0, 0) (xMQ κ (wdM τ) (xR 2) (z1_i J Z)) (M, J) 64 [(2, .int x2), (3, .int x3)] [] := by
  unfold M_always_b64 at h
  refine gw_iload_n (pc := 64) o d_M_always_64 rfl 1 rfl ?_
  refine gw_if_le (pc := 65) (tgt := 76) o d_M_always_65 (by decide) (fun hc => ?_) (fun hc => ?_)
  · have h := h.1 hc
    exact gw_sub (lv' := []) [] rfl (wk_M_always_b76 o h)
  · have h := h.2 hc
    refine gw_iload_n (pc := 68) o d_M_always_68 rfl 0 rfl ?_
    refine gw_if_ne (pc := 69) (tgt := 76) o d_M_always_69 (by decide) (fun hc => ?_) (fun hc => ?_)
    · have h := h.2 hc
      exact gw_sub (lv' := []) [] rfl (wk_M_always_b76 o h)
    · have h := h.1 hc
      refine gw_iconst (pc := 72) (v := (0 : Int32)) o d_M_always_72 (by decide) ?_
      refine gw_goto (pc := 73) (tgt := 77) o d_M_always_73 (by decide) ?_
      exact gw_sub (lv' := []) [] rfl (wk_M_always_b77 o h)
def M_always_b26 (Z : Int32 → xF → Prop) (M : xF) (J : (Nat → Int64)) (x1 : Int32) (s1 : Int32) (s2 : Int32) : Prop := w_M_fails M J s1 s2 (fun r26 M_26 => ((r26 = 0) → (w_M_held M_26 J ((1 : Int64) <<< (x1.toInt64 &&& 63)) (1 : Int32) (fun r39 => w_M_held M_26 J ((1 : Int64) <<< (x1.toInt64 &&& 63)) (0 : Int32) (fun r48 => ((r39 ≤ 0) → (M_always_b64 Z M_26 J r39 r48)) ∧ (¬ (r39 ≤ 0) → (((r48 = 0) → (M_always_b77 Z M_26 J (1 : Int32))) ∧ (¬ (r48 = 0) → (M_always_b64 Z M_26 J r39 r48)))))))) ∧ (¬ (r26 = 0) → (Z (0 : Int32) M_26)))
set_option maxRecDepth 10000 in
theorem wk_M_always_b26 {κ : Cx} {τ : xT} {Z : Int32 → xF → Prop} {M : xF} {J : (Nat → Int64)} {x1 : Int32} {s1 : Int32} {s2 : Int32} (o : OKc κ (wdM τ) 4 b_M_always "StateExplorerModel" (some .int) (xR 2)) (h : M_always_b26 Z M J x1 s1 s2) : GW κ (wdM τ) 4 (0, 0) (xMQ κ (wdM τ) (xR 2) (z1_i J Z)) (M, J) 26 [(0, .ref (τ.2.2 81)), (1, .int x1)] [.int s2, .int s1, .ref (τ.2.2 81)] := by
  unfold M_always_b26 at h
  refine gw_callV (pc := 26) (b := τ.2.2 81) (As := [.int s1, .int s2]) (st := []) o (ct_M_fails o.hD h) mi_M_fails q_619 q_621 qs_29 0 rfl rfl (xRo_of (by omega) (by decide)) rfl rfl (Nat.le_of_ble_eq_true rfl) d_M_always_26 (kk_1_i rfl (fun r26 M_26 h => ?_))
  refine gw_if_eq (pc := 29) (tgt := 34) o d_M_always_29 (by decide) (fun hc => ?_) (fun hc => ?_)
  · have h := h.1 hc
    refine gw_aload_n (pc := 34) o d_M_always_34 rfl 0 rfl ?_
    refine gw_lconst (pc := 35) (v := (1 : Int64)) o d_M_always_35 (by decide) ?_
    refine gw_iload_n (pc := 36) o d_M_always_36 rfl 1 rfl ?_
    refine gw_lshl (pc := 37) o d_M_always_37 ?_
    refine gw_iconst (pc := 38) (v := (1 : Int32)) o d_M_always_38 (by decide) ?_
    refine gw_callV (pc := 39) (b := τ.2.2 81) (As := [.long ((1 : Int64) <<< (x1.toInt64 &&& 63)), .int (1 : Int32)]) (st := []) o (ct_M_held o.hD h) mi_M_held q_715 q_717 qs_43 0 rfl rfl (xRo_of (by omega) (by decide)) rfl rfl (Nat.le_of_ble_eq_true rfl) d_M_always_39 (kk_p_i rfl (fun r39 h => ?_))
    refine gw_istore_n (pc := 42) (lv' := [(2, .int r39), (0, .ref (τ.2.2 81)), (1, .int x1)]) o d_M_always_42 rfl (by decide) rfl ?_
    refine gw_aload_n (pc := 43) o d_M_always_43 rfl 1 rfl ?_
    refine gw_lconst (pc := 44) (v := (1 : Int64)) o d_M_always_44 (by decide) ?_
    refine gw_iload_n (pc := 45) o d_M_always_45 rfl 2 rfl ?_
    refine gw_lshl (pc := 46) o d_M_always_46 ?_
    refine gw_iconst (pc := 47) (v := (0 : Int32)) o d_M_always_47 (by decide) ?_
    refine gw_callV (pc := 48) (b := τ.2.2 81) (As := [.long ((1 : Int64) <<< (x1.toInt64 &&& 63)), .int (0 : Int32)]) (st := []) o (ct_M_held o.hD h) mi_M_held q_715 q_717 qs_43 0 rfl rfl (xRo_of (by omega) (by decide)) rfl rfl (Nat.le_of_ble_eq_true rfl) d_M_always_48 (kk_p_i rfl (fun r48 h => ?_))
    refine gw_istore_n (pc := 51) (lv' := [(3, .int r48), (2, .int r39), (0, .ref (τ.2.2 81)), (1, .int x1)]) o d_M_always_51 rfl (by decide) rfl ?_
    refine gw_iload_n (pc := 52) o d_M_always_52 rfl 1 rfl ?_
    refine gw_if_le (pc := 53) (tgt := 64) o d_M_always_53 (by decide) (fun hc => ?_) (fun hc => ?_)
    · have h := h.1 hc
      exact gw_sub (lv' := [(2, .int r39), (3, .int r48)]) [1, 0] rfl (wk_M_always_b64 o h)
    · have h := h.2 hc
      refine gw_iload_n (pc := 56) o d_M_always_56 rfl 0 rfl ?_
      refine gw_if_ne (pc := 57) (tgt := 64) o d_M_always_57 (by decide) (fun hc => ?_) (fun hc => ?_)
      · have h := h.2 hc
        exact gw_sub (lv' := [(2, .int r39), (3, .int r48)]) [1, 0] rfl (wk_M_always_b64 o h)
      · have h := h.1 hc
        refine gw_iconst (pc := 60) (v := (1 : Int32)) o d_M_always_60 (by decide) ?_
        refine gw_goto (pc := 61) (tgt := 77) o d_M_always_61 (by decide) ?_
        exact gw_sub (lv' := []) [] rfl (wk_M_always_b77 o h)
  · have h := h.2 hc
    refine gw_iconst (pc := 32) (v := (0 : Int32)) o d_M_always_32 (by decide) ?_
    exact gw_iret (pc := 33) o ⟨Nat.le_refl _, Nat.le_refl _⟩ (z1_i.mk h) d_M_always_33
def M_always_b13 (Z : Int32 → xF → Prop) (M : xF) (J : (Nat → Int64)) (x1 : Int32) (s1 : Int32) : Prop := w_M_isGate M J x1 (fun r15 => ((r15 = 0) → (M_always_b26 Z M J x1 s1 (1 : Int32))) ∧ (¬ (r15 = 0) → (M_always_b26 Z M J x1 s1 (0 : Int32))))
set_option maxRecDepth 10000 in
theorem wk_M_always_b13 {κ : Cx} {τ : xT} {Z : Int32 → xF → Prop} {M : xF} {J : (Nat → Int64)} {x1 : Int32} {s1 : Int32} (o : OKc κ (wdM τ) 4 b_M_always "StateExplorerModel" (some .int) (xR 2)) (h : M_always_b13 Z M J x1 s1) : GW κ (wdM τ) 4 (0, 0) (xMQ κ (wdM τ) (xR 2) (z1_i J Z)) (M, J) 13 [(0, .ref (τ.2.2 81)), (1, .int x1)] [.int s1, .ref (τ.2.2 81)] := by
  unfold M_always_b13 at h
  refine gw_aload_n (pc := 13) o d_M_always_13 rfl 0 rfl ?_
  refine gw_iload_n (pc := 14) o d_M_always_14 rfl 1 rfl ?_
  refine gw_callV (pc := 15) (b := τ.2.2 81) (As := [.int x1]) (st := [.int s1, .ref (τ.2.2 81)]) o (ct_M_isGate o.hD h) mi_M_isGate q_627 q_629 qs_30 0 rfl rfl (xRo_of (by omega) (by decide)) rfl rfl (Nat.le_of_ble_eq_true rfl) d_M_always_15 (kk_p_i rfl (fun r15 h => ?_))
  refine gw_if_ne (pc := 18) (tgt := 25) o d_M_always_18 (by decide) (fun hc => ?_) (fun hc => ?_)
  · have h := h.2 hc
    refine gw_iconst (pc := 25) (v := (0 : Int32)) o d_M_always_25 (by decide) ?_
    exact gw_sub (lv' := [(0, .ref (τ.2.2 81)), (1, .int x1)]) [0, 1] rfl (wk_M_always_b26 o h)
  · have h := h.1 hc
    refine gw_iconst (pc := 21) (v := (1 : Int32)) o d_M_always_21 (by decide) ?_
    refine gw_goto (pc := 22) (tgt := 26) o d_M_always_22 (by decide) ?_
    exact gw_sub (lv' := [(0, .ref (τ.2.2 81)), (1, .int x1)]) [0, 1] rfl (wk_M_always_b26 o h)
def M_always_b0 (Z : Int32 → xF → Prop) (M : xF) (J : (Nat → Int64)) (x1 : Int32) : Prop := (((M 21 14) = 0) → (M_always_b13 Z M J x1 (1 : Int32))) ∧ (¬ ((M 21 14) = 0) → (M_always_b13 Z M J x1 (0 : Int32)))
set_option maxRecDepth 10000 in
theorem wk_M_always_b0 {κ : Cx} {τ : xT} {Z : Int32 → xF → Prop} {M : xF} {J : (Nat → Int64)} {x1 : Int32} (o : OKc κ (wdM τ) 4 b_M_always "StateExplorerModel" (some .int) (xR 2)) (h : M_always_b0 Z M J x1) : GW κ (wdM τ) 4 (0, 0) (xMQ κ (wdM τ) (xR 2) (z1_i J Z)) (M, J) 0 [(0, .ref (τ.2.2 81)), (1, .int x1)] [] := by
  unfold M_always_b0 at h
  refine gw_aload_n (pc := 0) o d_M_always_0 rfl 0 rfl ?_
  refine gw_aload_n (pc := 1) o d_M_always_1 rfl 0 rfl ?_
  refine gM_get_explored (pc := 2) o q_560 d_M_always_2 ?_
  refine gw_if_ne (pc := 5) (tgt := 12) o d_M_always_5 (by decide) (fun hc => ?_) (fun hc => ?_)
  · have h := h.2 hc
    refine gw_iconst (pc := 12) (v := (0 : Int32)) o d_M_always_12 (by decide) ?_
    exact gw_sub (lv' := [(0, .ref (τ.2.2 81)), (1, .int x1)]) [0, 1] rfl (wk_M_always_b13 o h)
  · have h := h.1 hc
    refine gw_iconst (pc := 8) (v := (1 : Int32)) o d_M_always_8 (by decide) ?_
    refine gw_goto (pc := 9) (tgt := 13) o d_M_always_9 (by decide) ?_
    exact gw_sub (lv' := [(0, .ref (τ.2.2 81)), (1, .int x1)]) [0, 1] rfl (wk_M_always_b13 o h)
def w_M_always  (M : xF) (J : (Nat → Int64)) (x1 : Int32) (Z : Int32 → xF → Prop) : Prop := M_always_b0  Z M J x1
theorem ct_M_always {l : Launch} {τ : xT} {M : xF} {J : (Nat → Int64)} {x1 : Int32} {Z : Int32 → xF → Prop} (hD : xD (wdM τ)) (h : w_M_always  M J x1 Z) : CT l (wdM τ) y_M_always (.code y_M_always b_M_always 4 (some .int)) (xR 2) [.ref (τ.2.2 81), .int x1] (M, J) (z1_i J Z) := by
  subst_vars
  exact CT.of (by decide) (Nat.le_of_ble_eq_true rfl) hD (fun κ hl ha o => gw_sub (lv' := [(0, .ref (τ.2.2 81)), (1, .int x1)]) [0, 1] rfl (wk_M_always_b0 o h))
def M_isSame_b77 (Z : Int32 → xF → Prop) (M : xF) (J : (Nat → Int64)) (s0 : Int32) : Prop := (s0 = 0 ∨ s0 = 1) ∧ (Z s0 M)
set_option maxRecDepth 10000 in
theorem wk_M_isSame_b77 {κ : Cx} {τ : xT} {Z : Int32 → xF → Prop} {M : xF} {J : (Nat → Int64)} {s0 : Int32} (o : OKc κ (wdM τ) 5 b_M_isSame "StateExplorerModel" (some .boolean) (xR 2)) (h : M_isSame_b77 Z M J s0) : GW κ (wdM τ) 5 (0, 0) (xMQ κ (wdM τ) (xR 2) (z1_i J Z)) (M, J) 77 [] [.int s0] := by
  unfold M_isSame_b77 at h
  exact gw_zret (pc := 77) o ⟨Nat.le_refl _, Nat.le_refl _⟩ h.1 (z1_i.mk h.2) d_M_isSame_77
def M_isSame_b34 (Z : Int32 → xF → Prop) (M : xF) (J : (Nat → Int64)) (x1 : Int32) (x2 : Int32) (s1 : Int32) (s2 : Int32) : Prop := w_M_fails M J s1 s2 (fun r34 M_34 => ((r34 = 0) → (∀ x3_49 : Int64, x3_49 = ((1 : Int64) <<< (x1.toInt64 &&& 63)) ||| ((1 : Int64) <<< (x2.toInt64 &&& 63)) → (w_M_held M_34 J x3_49 (1 : Int32) (fun r53 => w_M_held M_34 J x3_49 (0 : Int32) (fun r59 => w_M_held M_34 J (0 : Int64) (1 : Int32) (fun r66 => (((r53 + r59) = r66) → (M_isSame_b77 Z M_34 J (1 : Int32))) ∧ (¬ ((r53 + r59) = r66) → (M_isSame_b77 Z M_34 J (0 : Int32))))))))) ∧ (¬ (r34 = 0) → (Z (0 : Int32) M_34)))
set_option maxRecDepth 10000 in
theorem wk_M_isSame_b34 {κ : Cx} {τ : xT} {Z : Int32 → xF → Prop} {M : xF} {J : (Nat → Int64)} {x1 : Int32} {x2 : Int32} {s1 : Int32} {s2 : Int32} (o : OKc κ (wdM τ) 5 b_M_isSame "StateExplorerModel" (some .boolean) (xR 2)) (h : M_isSame_b34 Z M J x1 x2 s1 s2) : GW κ (wdM τ) 5 (0, 0) (xMQ κ (wdM τ) (xR 2) (z1_i J Z)) (M, J) 34 [(0, .ref (τ.2.2 81)), (1, .int x1), (2, .int x2)] [.int s2, .int s1, .ref (τ.2.2 81)] := by
  unfold M_isSame_b34 at h
  refine gw_callV (pc := 34) (b := τ.2.2 81) (As := [.int s1, .int s2]) (st := []) o (ct_M_fails o.hD h) mi_M_fails q_619 q_621 qs_29 0 rfl rfl (xRo_of (by omega) (by decide)) rfl rfl (Nat.le_of_ble_eq_true rfl) d_M_isSame_34 (kk_1_i rfl (fun r34 M_34 h => ?_))
  refine gw_if_eq (pc := 37) (tgt := 42) o d_M_isSame_37 (by decide) (fun hc => ?_) (fun hc => ?_)
  · have h := h.1 hc
    refine gw_lconst (pc := 42) (v := (1 : Int64)) o d_M_isSame_42 (by decide) ?_
    refine gw_iload_n (pc := 43) o d_M_isSame_43 rfl 1 rfl ?_
    refine gw_lshl (pc := 44) o d_M_isSame_44 ?_
    refine gw_lconst (pc := 45) (v := (1 : Int64)) o d_M_isSame_45 (by decide) ?_
    refine gw_iload_n (pc := 46) o d_M_isSame_46 rfl 2 rfl ?_
    refine gw_lshl (pc := 47) o d_M_isSame_47 ?_
    refine gw_lor (pc := 48) o d_M_isSame_48 ?_
    refine gw_topl (fun x3_49 ex3_49 => ?_)
    have h := h x3_49 ex3_49
    refine gw_lstore_n (pc := 49) (lv' := [(3, .long x3_49), (0, .ref (τ.2.2 81)), (1, .int x1), (2, .int x2)]) o d_M_isSame_49 rfl (by decide) rfl ?_
    refine gw_aload_n (pc := 50) o d_M_isSame_50 rfl 1 rfl ?_
    refine gw_lload_n (pc := 51) o d_M_isSame_51 rfl 0 rfl ?_
    refine gw_iconst (pc := 52) (v := (1 : Int32)) o d_M_isSame_52 (by decide) ?_
    refine gw_callV (pc := 53) (b := τ.2.2 81) (As := [.long x3_49, .int (1 : Int32)]) (st := []) o (ct_M_held o.hD h) mi_M_held q_715 q_717 qs_43 0 rfl rfl (xRo_of (by omega) (by decide)) rfl rfl (Nat.le_of_ble_eq_true rfl) d_M_isSame_53 (kk_p_i rfl (fun r53 h => ?_))
    refine gw_aload_n (pc := 56) o d_M_isSame_56 rfl 1 rfl ?_
    refine gw_lload_n (pc := 57) o d_M_isSame_57 rfl 0 rfl ?_
    refine gw_iconst (pc := 58) (v := (0 : Int32)) o d_M_isSame_58 (by decide) ?_
    refine gw_callV (pc := 59) (b := τ.2.2 81) (As := [.long x3_49, .int (0 : Int32)]) (st := [.int r53]) o (ct_M_held o.hD h) mi_M_held q_715 q_717 qs_43 0 rfl rfl (xRo_of (by omega) (by decide)) rfl rfl (Nat.le_of_ble_eq_true rfl) d_M_isSame_59 (kk_p_i rfl (fun r59 h => ?_))
    refine gw_iadd (pc := 62) o d_M_isSame_62 ?_
    refine gw_aload_n (pc := 63) o d_M_isSame_63 rfl 1 rfl ?_
    refine gw_lconst (pc := 64) (v := (0 : Int64)) o d_M_isSame_64 (by decide) ?_
    refine gw_iconst (pc := 65) (v := (1 : Int32)) o d_M_isSame_65 (by decide) ?_
    refine gw_callV (pc := 66) (b := τ.2.2 81) (As := [.long (0 : Int64), .int (1 : Int32)]) (st := [.int (r53 + r59)]) o (ct_M_held o.hD h) mi_M_held q_715 q_717 qs_43 0 rfl rfl (xRo_of (by omega) (by decide)) rfl rfl (Nat.le_of_ble_eq_true rfl) d_M_isSame_66 (kk_p_i rfl (fun r66 h => ?_))
    refine gw_icmp_ne (pc := 69) (tgt := 76) o d_M_isSame_69 (by decide) (fun hc => ?_) (fun hc => ?_)
    · have h := h.2 hc
      refine gw_iconst (pc := 76) (v := (0 : Int32)) o d_M_isSame_76 (by decide) ?_
      exact gw_sub (lv' := []) [] rfl (wk_M_isSame_b77 o h)
    · have h := h.1 hc
      refine gw_iconst (pc := 72) (v := (1 : Int32)) o d_M_isSame_72 (by decide) ?_
      refine gw_goto (pc := 73) (tgt := 77) o d_M_isSame_73 (by decide) ?_
      exact gw_sub (lv' := []) [] rfl (wk_M_isSame_b77 o h)
  · have h := h.2 hc
    refine gw_iconst (pc := 40) (v := (0 : Int32)) o d_M_isSame_40 (by decide) ?_
    exact gw_zret (pc := 41) o ⟨Nat.le_refl _, Nat.le_refl _⟩ (by decide) (z1_i.mk h) d_M_isSame_41
def M_isSame_b13 (Z : Int32 → xF → Prop) (M : xF) (J : (Nat → Int64)) (x1 : Int32) (x2 : Int32) (s1 : Int32) : Prop := w_M_isGate M J x1 (fun r15 => ((r15 = 0) → (M_isSame_b34 Z M J x1 x2 s1 (1 : Int32))) ∧ (¬ (r15 = 0) → (w_M_isGate M J x2 (fun r23 => ((r23 = 0) → (M_isSame_b34 Z M J x1 x2 s1 (1 : Int32))) ∧ (¬ (r23 = 0) → (M_isSame_b34 Z M J x1 x2 s1 (0 : Int32)))))))
set_option maxRecDepth 10000 in
theorem wk_M_isSame_b13 {κ : Cx} {τ : xT} {Z : Int32 → xF → Prop} {M : xF} {J : (Nat → Int64)} {x1 : Int32} {x2 : Int32} {s1 : Int32} (o : OKc κ (wdM τ) 5 b_M_isSame "StateExplorerModel" (some .boolean) (xR 2)) (h : M_isSame_b13 Z M J x1 x2 s1) : GW κ (wdM τ) 5 (0, 0) (xMQ κ (wdM τ) (xR 2) (z1_i J Z)) (M, J) 13 [(0, .ref (τ.2.2 81)), (1, .int x1), (2, .int x2)] [.int s1, .ref (τ.2.2 81)] := by
  unfold M_isSame_b13 at h
  refine gw_aload_n (pc := 13) o d_M_isSame_13 rfl 0 rfl ?_
  refine gw_iload_n (pc := 14) o d_M_isSame_14 rfl 1 rfl ?_
  refine gw_callV (pc := 15) (b := τ.2.2 81) (As := [.int x1]) (st := [.int s1, .ref (τ.2.2 81)]) o (ct_M_isGate o.hD h) mi_M_isGate q_627 q_629 qs_30 0 rfl rfl (xRo_of (by omega) (by decide)) rfl rfl (Nat.le_of_ble_eq_true rfl) d_M_isSame_15 (kk_p_i rfl (fun r15 h => ?_))
  refine gw_if_eq (pc := 18) (tgt := 29) o d_M_isSame_18 (by decide) (fun hc => ?_) (fun hc => ?_)
  · have h := h.1 hc
    refine gw_iconst (pc := 29) (v := (1 : Int32)) o d_M_isSame_29 (by decide) ?_
    refine gw_goto (pc := 30) (tgt := 34) o d_M_isSame_30 (by decide) ?_
    exact gw_sub (lv' := [(0, .ref (τ.2.2 81)), (1, .int x1), (2, .int x2)]) [0, 1, 2] rfl (wk_M_isSame_b34 o h)
  · have h := h.2 hc
    refine gw_aload_n (pc := 21) o d_M_isSame_21 rfl 0 rfl ?_
    refine gw_iload_n (pc := 22) o d_M_isSame_22 rfl 2 rfl ?_
    refine gw_callV (pc := 23) (b := τ.2.2 81) (As := [.int x2]) (st := [.int s1, .ref (τ.2.2 81)]) o (ct_M_isGate o.hD h) mi_M_isGate q_627 q_629 qs_30 0 rfl rfl (xRo_of (by omega) (by decide)) rfl rfl (Nat.le_of_ble_eq_true rfl) d_M_isSame_23 (kk_p_i rfl (fun r23 h => ?_))
    refine gw_if_ne (pc := 26) (tgt := 33) o d_M_isSame_26 (by decide) (fun hc => ?_) (fun hc => ?_)
    · have h := h.2 hc
      refine gw_iconst (pc := 33) (v := (0 : Int32)) o d_M_isSame_33 (by decide) ?_
      exact gw_sub (lv' := [(0, .ref (τ.2.2 81)), (1, .int x1), (2, .int x2)]) [0, 1, 2] rfl (wk_M_isSame_b34 o h)
    · have h := h.1 hc
      refine gw_iconst (pc := 29) (v := (1 : Int32)) o d_M_isSame_29 (by decide) ?_
      refine gw_goto (pc := 30) (tgt := 34) o d_M_isSame_30 (by decide) ?_
      exact gw_sub (lv' := [(0, .ref (τ.2.2 81)), (1, .int x1), (2, .int x2)]) [0, 1, 2] rfl (wk_M_isSame_b34 o h)
def M_isSame_b0 (Z : Int32 → xF → Prop) (M : xF) (J : (Nat → Int64)) (x1 : Int32) (x2 : Int32) : Prop := (((M 21 14) = 0) → (M_isSame_b13 Z M J x1 x2 (1 : Int32))) ∧ (¬ ((M 21 14) = 0) → (M_isSame_b13 Z M J x1 x2 (0 : Int32)))
set_option maxRecDepth 10000 in
theorem wk_M_isSame_b0 {κ : Cx} {τ : xT} {Z : Int32 → xF → Prop} {M : xF} {J : (Nat → Int64)} {x1 : Int32} {x2 : Int32} (o : OKc κ (wdM τ) 5 b_M_isSame "StateExplorerModel" (some .boolean) (xR 2)) (h : M_isSame_b0 Z M J x1 x2) : GW κ (wdM τ) 5 (0, 0) (xMQ κ (wdM τ) (xR 2) (z1_i J Z)) (M, J) 0 [(0, .ref (τ.2.2 81)), (1, .int x1), (2, .int x2)] [] := by
  unfold M_isSame_b0 at h
  refine gw_aload_n (pc := 0) o d_M_isSame_0 rfl 0 rfl ?_
  refine gw_aload_n (pc := 1) o d_M_isSame_1 rfl 0 rfl ?_
  refine gM_get_explored (pc := 2) o q_560 d_M_isSame_2 ?_
  refine gw_if_ne (pc := 5) (tgt := 12) o d_M_isSame_5 (by decide) (fun hc => ?_) (fun hc => ?_)
  · have h := h.2 hc
    refine gw_iconst (pc := 12) (v := (0 : Int32)) o d_M_isSame_12 (by decide) ?_
    exact gw_sub (lv' := [(0, .ref (τ.2.2 81)), (1, .int x1), (2, .int x2)]) [0, 1, 2] rfl (wk_M_isSame_b13 o h)
  · have h := h.1 hc
    refine gw_iconst (pc := 8) (v := (1 : Int32)) o d_M_isSame_8 (by decide) ?_
    refine gw_goto (pc := 9) (tgt := 13) o d_M_isSame_9 (by decide) ?_
    exact gw_sub (lv' := [(0, .ref (τ.2.2 81)), (1, .int x1), (2, .int x2)]) [0, 1, 2] rfl (wk_M_isSame_b13 o h)
def w_M_isSame  (M : xF) (J : (Nat → Int64)) (x1 : Int32) (x2 : Int32) (Z : Int32 → xF → Prop) : Prop := M_isSame_b0  Z M J x1 x2
theorem ct_M_isSame {l : Launch} {τ : xT} {M : xF} {J : (Nat → Int64)} {x1 : Int32} {x2 : Int32} {Z : Int32 → xF → Prop} (hD : xD (wdM τ)) (h : w_M_isSame  M J x1 x2 Z) : CT l (wdM τ) y_M_isSame (.code y_M_isSame b_M_isSame 5 (some .boolean)) (xR 2) [.ref (τ.2.2 81), .int x1, .int x2] (M, J) (z1_i J Z) := by
  subst_vars
  exact CT.of (by decide) (Nat.le_of_ble_eq_true rfl) hD (fun κ hl ha o => gw_sub (lv' := [(0, .ref (τ.2.2 81)), (1, .int x1), (2, .int x2)]) [0, 1, 2] rfl (wk_M_isSame_b0 o h))
def M_least_b26 (Z : Int32 → Prop) (k2 : Int32 → Prop) (M : xF) (J : (Nat → Int64)) (x1 : Int32) (x2 : Int32) : Prop := ∀ x2_26 : Int32, x2_26 = x2 + (1 : Int32) → (k2 x2_26)
set_option maxRecDepth 10000 in
theorem wk_M_least_b26 {κ : Cx} {τ : xT} {Z : Int32 → Prop} {k2 : Int32 → Prop} {M : xF} {J : (Nat → Int64)} {x1 : Int32} {x2 : Int32} (o : OKc κ (wdM τ) 3 b_M_least "StateExplorerModel" (some .int) (xR 0)) (hk2 : ∀ (x2 : Int32), k2 x2 → GW κ (wdM τ) 3 (0, 0) (xMQ κ (wdM τ) (xR 0) (zp_i (M, J) Z)) (M, J) 2 [(0, .ref (τ.2.2 81)), (1, .int x1), (2, .int x2)] []) (h : M_least_b26 Z k2 M J x1 x2) : GW κ (wdM τ) 3 (0, 0) (xMQ κ (wdM τ) (xR 0) (zp_i (M, J) Z)) (M, J) 26 [(0, .ref (τ.2.2 81)), (1, .int x1), (2, .int x2)] [] := by
  unfold M_least_b26 at h
  refine gw_iincN (pc := 26) (c := (1 : Int32)) (lw := fun x2_26 => [(2, .int x2_26), (0, .ref (τ.2.2 81)), (1, .int x1)]) o d_M_least_26 (by decide) 2 rfl (by decide) (fun _ => rfl) (fun x2_26 ex2_26 => ?_)
  have h := h x2_26 ex2_26
  refine gw_goto (pc := 29) (tgt := 2) o d_M_least_29 (by decide) ?_
  exact gw_sub (lv' := [(0, .ref (τ.2.2 81)), (1, .int x1), (2, .int x2_26)]) [1, 2, 0] rfl (hk2 _ h)
def M_least_b2 (Z : Int32 → Prop) (k2 : Int32 → Prop) (M : xF) (J : (Nat → Int64)) (x1 : Int32) (x2 : Int32) : Prop := vp_in x2 256 ∧ ((((M 18 x2.toNatClampNeg) < 0) → (M_least_b26 Z k2 M J x1 x2)) ∧ (¬ ((M 18 x2.toNatClampNeg) < 0) → (vp_in (((256 : Int32) * x1) + x2) 65536 ∧ ((((M 19 (((256 : Int32) * x1) + x2).toNatClampNeg) = 0) → (Z x2)) ∧ (¬ ((M 19 (((256 : Int32) * x1) + x2).toNatClampNeg) = 0) → (M_least_b26 Z k2 M J x1 x2))))))
set_option maxRecDepth 10000 in
theorem wk_M_least_b2 {κ : Cx} {τ : xT} {Z : Int32 → Prop} {k2 : Int32 → Prop} {M : xF} {J : (Nat → Int64)} {x1 : Int32} {x2 : Int32} (o : OKc κ (wdM τ) 3 b_M_least "StateExplorerModel" (some .int) (xR 0)) (hk2 : ∀ (x2 : Int32), k2 x2 → GW κ (wdM τ) 3 (0, 0) (xMQ κ (wdM τ) (xR 0) (zp_i (M, J) Z)) (M, J) 2 [(0, .ref (τ.2.2 81)), (1, .int x1), (2, .int x2)] []) (h : M_least_b2 Z k2 M J x1 x2) : GW κ (wdM τ) 3 (0, 0) (xMQ κ (wdM τ) (xR 0) (zp_i (M, J) Z)) (M, J) 2 [(0, .ref (τ.2.2 81)), (1, .int x1), (2, .int x2)] [] := by
  unfold M_least_b2 at h
  refine gw_aload_n (pc := 2) o d_M_least_2 rfl 0 rfl ?_
  refine gM_get_distance (pc := 3) o q_564 d_M_least_3 ?_
  refine gw_iload_n (pc := 6) o d_M_least_6 rfl 2 rfl ?_
  have hi := h.1
  have h := h.2
  refine gM_ald_distance (pc := 7) o hi d_M_least_7 ?_
  refine gw_if_lt (pc := 8) (tgt := 26) o d_M_least_8 (by decide) (fun hc => ?_) (fun hc => ?_)
  · have h := h.1 hc
    exact gw_sub (lv' := [(0, .ref (τ.2.2 81)), (1, .int x1), (2, .int x2)]) [0, 1, 2] rfl (wk_M_least_b26 o hk2 h)
  · have h := h.2 hc
    refine gw_aload_n (pc := 11) o d_M_least_11 rfl 0 rfl ?_
    refine gM_get_apart (pc := 12) o q_565 d_M_least_12 ?_
    refine gw_sipush (pc := 15) (v := (256 : Int32)) o d_M_least_15 (by decide) ?_
    refine gw_iload_n (pc := 18) o d_M_least_18 rfl 1 rfl ?_
    refine gw_imul (pc := 19) o d_M_least_19 ?_
    refine gw_iload_n (pc := 20) o d_M_least_20 rfl 2 rfl ?_
    refine gw_iadd (pc := 21) o d_M_least_21 ?_
    have hi := h.1
    have h := h.2
    refine gM_ald_apart (pc := 22) o hi d_M_least_22 ?_
    refine gw_if_eq (pc := 23) (tgt := 32) o d_M_least_23 (by decide) (fun hc => ?_) (fun hc => ?_)
    · have h := h.1 hc
      refine gw_iload_n (pc := 32) o d_M_least_32 rfl 2 rfl ?_
      exact gw_iret (pc := 33) o ⟨Nat.le_refl _, Nat.le_refl _⟩ (zp_i.mk h) d_M_least_33
    · have h := h.2 hc
      exact gw_sub (lv' := [(0, .ref (τ.2.2 81)), (1, .int x1), (2, .int x2)]) [0, 1, 2] rfl (wk_M_least_b26 o hk2 h)
def M_least_L2 (Z : Int32 → Prop) (M : xF) (J : (Nat → Int64)) (x1 : Int32) (x2 : Int32) : Prop := LOOP1 (fun k2 x2 => M_least_b2 Z k2 M J x1 x2) x2
theorem wk_M_least_L2 {κ : Cx} {τ : xT} {Z : Int32 → Prop} {M : xF} {J : (Nat → Int64)} {x1 : Int32} {x2 : Int32} (o : OKc κ (wdM τ) 3 b_M_least "StateExplorerModel" (some .int) (xR 0)) (h : M_least_L2 Z M J x1 x2) : GW κ (wdM τ) 3 (0, 0) (xMQ κ (wdM τ) (xR 0) (zp_i (M, J) Z)) (M, J) 2 [(0, .ref (τ.2.2 81)), (1, .int x1), (2, .int x2)] [] := by
  unfold M_least_L2 at h
  exact LOOP1.use (G := fun x2 => GW κ (wdM τ) 3 (0, 0) (xMQ κ (wdM τ) (xR 0) (zp_i (M, J) Z)) (M, J) 2 [(0, .ref (τ.2.2 81)), (1, .int x1), (2, .int x2)] []) (fun k2 x2 hk2 h => wk_M_least_b2 o hk2 h) h
def M_least_b0 (Z : Int32 → Prop) (M : xF) (J : (Nat → Int64)) (x1 : Int32) : Prop := M_least_L2 Z M J x1 (0 : Int32)
set_option maxRecDepth 10000 in
theorem wk_M_least_b0 {κ : Cx} {τ : xT} {Z : Int32 → Prop} {M : xF} {J : (Nat → Int64)} {x1 : Int32} (o : OKc κ (wdM τ) 3 b_M_least "StateExplorerModel" (some .int) (xR 0)) (h : M_least_b0 Z M J x1) : GW κ (wdM τ) 3 (0, 0) (xMQ κ (wdM τ) (xR 0) (zp_i (M, J) Z)) (M, J) 0 [(0, .ref (τ.2.2 81)), (1, .int x1)] [] := by
  unfold M_least_b0 at h
  refine gw_iconst (pc := 0) (v := (0 : Int32)) o d_M_least_0 (by decide) ?_
  refine gw_istore_n (pc := 1) (lv' := [(2, .int (0 : Int32)), (0, .ref (τ.2.2 81)), (1, .int x1)]) o d_M_least_1 rfl (by decide) rfl ?_
  exact gw_sub (lv' := [(0, .ref (τ.2.2 81)), (1, .int x1), (2, .int (0 : Int32))]) [1, 2, 0] rfl (wk_M_least_L2 o h)
def w_M_least  (M : xF) (J : (Nat → Int64)) (x1 : Int32) (Z : Int32 → Prop) : Prop := M_least_b0  Z M J x1
theorem ct_M_least {l : Launch} {τ : xT} {M : xF} {J : (Nat → Int64)} {x1 : Int32} {Z : Int32 → Prop} (hD : xD (wdM τ)) (h : w_M_least  M J x1 Z) : CT l (wdM τ) y_M_least (.code y_M_least b_M_least 3 (some .int)) (xR 0) [.ref (τ.2.2 81), .int x1] (M, J) (zp_i (M, J) Z) := by
  subst_vars
  exact CT.of (by decide) (Nat.le_of_ble_eq_true rfl) hD (fun κ hl ha o => gw_sub (lv' := [(0, .ref (τ.2.2 81)), (1, .int x1)]) [0, 1] rfl (wk_M_least_b0 o h))
def M_group_b54 (Z : Int32 → xF → Prop) (M : xF) (J : (Nat → Int64)) (s0 : Int32) : Prop := Z s0 M
set_option maxRecDepth 10000 in
theorem wk_M_group_b54 {κ : Cx} {τ : xT} {Z : Int32 → xF → Prop} {M : xF} {J : (Nat → Int64)} {s0 : Int32} (o : OKc κ (wdM τ) 2 b_M_group "StateExplorerModel" (some .int) (xR 2)) (h : M_group_b54 Z M J s0) : GW κ (wdM τ) 2 (0, 0) (xMQ κ (wdM τ) (xR 2) (z1_i J Z)) (M, J) 54 [] [.int s0] := by
  unfold M_group_b54 at h
  exact gw_iret (pc := 54) o ⟨Nat.le_refl _, Nat.le_refl _⟩ (z1_i.mk h) d_M_group_54
def M_group_b26 (Z : Int32 → xF → Prop) (M : xF) (J : (Nat → Int64)) (x1 : Int32) (s1 : Int32) (s2 : Int32) : Prop := w_M_fails M J s1 s2 (fun r26 M_26 => ((r26 = 0) → (vp_in x1 256 ∧ (((0 ≤ (M_26 18 x1.toNatClampNeg)) → (w_M_least M_26 J x1 (fun r51 => M_group_b54 Z M_26 J r51))) ∧ (¬ (0 ≤ (M_26 18 x1.toNatClampNeg)) → (M_group_b54 Z M_26 J (-1 : Int32)))))) ∧ (¬ (r26 = 0) → (M_group_b54 Z M_26 J (0 : Int32))))
set_option maxRecDepth 10000 in
theorem wk_M_group_b26 {κ : Cx} {τ : xT} {Z : Int32 → xF → Prop} {M : xF} {J : (Nat → Int64)} {x1 : Int32} {s1 : Int32} {s2 : Int32} (o : OKc κ (wdM τ) 2 b_M_group "StateExplorerModel" (some .int) (xR 2)) (h : M_group_b26 Z M J x1 s1 s2) : GW κ (wdM τ) 2 (0, 0) (xMQ κ (wdM τ) (xR 2) (z1_i J Z)) (M, J) 26 [(0, .ref (τ.2.2 81)), (1, .int x1)] [.int s2, .int s1, .ref (τ.2.2 81)] := by
  unfold M_group_b26 at h
  refine gw_callV (pc := 26) (b := τ.2.2 81) (As := [.int s1, .int s2]) (st := []) o (ct_M_fails o.hD h) mi_M_fails q_619 q_621 qs_29 0 rfl rfl (xRo_of (by omega) (by decide)) rfl rfl (Nat.le_of_ble_eq_true rfl) d_M_group_26 (kk_1_i rfl (fun r26 M_26 h => ?_))
  refine gw_if_eq (pc := 29) (tgt := 36) o d_M_group_29 (by decide) (fun hc => ?_) (fun hc => ?_)
  · have h := h.1 hc
    refine gw_aload_n (pc := 36) o d_M_group_36 rfl 0 rfl ?_
    refine gM_get_distance (pc := 37) o q_564 d_M_group_37 ?_
    refine gw_iload_n (pc := 40) o d_M_group_40 rfl 1 rfl ?_
    have hi := h.1
    have h := h.2
    refine gM_ald_distance (pc := 41) o hi d_M_group_41 ?_
    refine gw_if_ge (pc := 42) (tgt := 49) o d_M_group_42 (by decide) (fun hc => ?_) (fun hc => ?_)
    · have h := h.1 hc
      refine gw_aload_n (pc := 49) o d_M_group_49 rfl 0 rfl ?_
      refine gw_iload_n (pc := 50) o d_M_group_50 rfl 1 rfl ?_
      refine gw_callV (pc := 51) (b := τ.2.2 81) (As := [.int x1]) (st := []) o (ct_M_least o.hD h) mi_M_least q_727 q_729 qs_44 0 rfl rfl (xRo_of (by omega) (by decide)) rfl rfl (Nat.le_of_ble_eq_true rfl) d_M_group_51 (kk_p_i rfl (fun r51 h => ?_))
      exact gw_sub (lv' := []) [] rfl (wk_M_group_b54 o h)
    · have h := h.2 hc
      refine gw_iconst (pc := 45) (v := (-1 : Int32)) o d_M_group_45 (by decide) ?_
      refine gw_goto (pc := 46) (tgt := 54) o d_M_group_46 (by decide) ?_
      exact gw_sub (lv' := []) [] rfl (wk_M_group_b54 o h)
  · have h := h.2 hc
    refine gw_iconst (pc := 32) (v := (0 : Int32)) o d_M_group_32 (by decide) ?_
    refine gw_goto (pc := 33) (tgt := 54) o d_M_group_33 (by decide) ?_
    exact gw_sub (lv' := []) [] rfl (wk_M_group_b54 o h)
def M_group_b13 (Z : Int32 → xF → Prop) (M : xF) (J : (Nat → Int64)) (x1 : Int32) (s1 : Int32) : Prop := w_M_isState M J x1 (fun r15 => ((r15 = 0) → (M_group_b26 Z M J x1 s1 (1 : Int32))) ∧ (¬ (r15 = 0) → (M_group_b26 Z M J x1 s1 (0 : Int32))))
set_option maxRecDepth 10000 in
theorem wk_M_group_b13 {κ : Cx} {τ : xT} {Z : Int32 → xF → Prop} {M : xF} {J : (Nat → Int64)} {x1 : Int32} {s1 : Int32} (o : OKc κ (wdM τ) 2 b_M_group "StateExplorerModel" (some .int) (xR 2)) (h : M_group_b13 Z M J x1 s1) : GW κ (wdM τ) 2 (0, 0) (xMQ κ (wdM τ) (xR 2) (z1_i J Z)) (M, J) 13 [(0, .ref (τ.2.2 81)), (1, .int x1)] [.int s1, .ref (τ.2.2 81)] := by
  unfold M_group_b13 at h
  refine gw_aload_n (pc := 13) o d_M_group_13 rfl 0 rfl ?_
  refine gw_iload_n (pc := 14) o d_M_group_14 rfl 1 rfl ?_
  refine gw_callV (pc := 15) (b := τ.2.2 81) (As := [.int x1]) (st := [.int s1, .ref (τ.2.2 81)]) o (ct_M_isState o.hD h) mi_M_isState q_687 q_689 qs_41 0 rfl rfl (xRo_of (by omega) (by decide)) rfl rfl (Nat.le_of_ble_eq_true rfl) d_M_group_15 (kk_p_i rfl (fun r15 h => ?_))
  refine gw_if_ne (pc := 18) (tgt := 25) o d_M_group_18 (by decide) (fun hc => ?_) (fun hc => ?_)
  · have h := h.2 hc
    refine gw_iconst (pc := 25) (v := (0 : Int32)) o d_M_group_25 (by decide) ?_
    exact gw_sub (lv' := [(0, .ref (τ.2.2 81)), (1, .int x1)]) [0, 1] rfl (wk_M_group_b26 o h)
  · have h := h.1 hc
    refine gw_iconst (pc := 21) (v := (1 : Int32)) o d_M_group_21 (by decide) ?_
    refine gw_goto (pc := 22) (tgt := 26) o d_M_group_22 (by decide) ?_
    exact gw_sub (lv' := [(0, .ref (τ.2.2 81)), (1, .int x1)]) [0, 1] rfl (wk_M_group_b26 o h)
def M_group_b0 (Z : Int32 → xF → Prop) (M : xF) (J : (Nat → Int64)) (x1 : Int32) : Prop := (((M 21 14) = 0) → (M_group_b13 Z M J x1 (1 : Int32))) ∧ (¬ ((M 21 14) = 0) → (M_group_b13 Z M J x1 (0 : Int32)))
set_option maxRecDepth 10000 in
theorem wk_M_group_b0 {κ : Cx} {τ : xT} {Z : Int32 → xF → Prop} {M : xF} {J : (Nat → Int64)} {x1 : Int32} (o : OKc κ (wdM τ) 2 b_M_group "StateExplorerModel" (some .int) (xR 2)) (h : M_group_b0 Z M J x1) : GW κ (wdM τ) 2 (0, 0) (xMQ κ (wdM τ) (xR 2) (z1_i J Z)) (M, J) 0 [(0, .ref (τ.2.2 81)), (1, .int x1)] [] := by
  unfold M_group_b0 at h
  refine gw_aload_n (pc := 0) o d_M_group_0 rfl 0 rfl ?_
  refine gw_aload_n (pc := 1) o d_M_group_1 rfl 0 rfl ?_
  refine gM_get_explored (pc := 2) o q_560 d_M_group_2 ?_
  refine gw_if_ne (pc := 5) (tgt := 12) o d_M_group_5 (by decide) (fun hc => ?_) (fun hc => ?_)
  · have h := h.2 hc
    refine gw_iconst (pc := 12) (v := (0 : Int32)) o d_M_group_12 (by decide) ?_
    exact gw_sub (lv' := [(0, .ref (τ.2.2 81)), (1, .int x1)]) [0, 1] rfl (wk_M_group_b13 o h)
  · have h := h.1 hc
    refine gw_iconst (pc := 8) (v := (1 : Int32)) o d_M_group_8 (by decide) ?_
    refine gw_goto (pc := 9) (tgt := 13) o d_M_group_9 (by decide) ?_
    exact gw_sub (lv' := [(0, .ref (τ.2.2 81)), (1, .int x1)]) [0, 1] rfl (wk_M_group_b13 o h)
def w_M_group  (M : xF) (J : (Nat → Int64)) (x1 : Int32) (Z : Int32 → xF → Prop) : Prop := M_group_b0  Z M J x1
theorem ct_M_group {l : Launch} {τ : xT} {M : xF} {J : (Nat → Int64)} {x1 : Int32} {Z : Int32 → xF → Prop} (hD : xD (wdM τ)) (h : w_M_group  M J x1 Z) : CT l (wdM τ) y_M_group (.code y_M_group b_M_group 2 (some .int)) (xR 2) [.ref (τ.2.2 81), .int x1] (M, J) (z1_i J Z) := by
  subst_vars
  exact CT.of (by decide) (Nat.le_of_ble_eq_true rfl) hD (fun κ hl ha o => gw_sub (lv' := [(0, .ref (τ.2.2 81)), (1, .int x1)]) [0, 1] rfl (wk_M_group_b0 o h))
