/-! walks, printed by mk.py -/
def M_way_b124 (Z : Int32 → xF → Prop) (k67 : Int32 → Int32 → Int32 → Prop) (k76 : Int32 → Prop) (M : xF) (J : (Nat → Int64)) (x2 : Int32) (x3 : Int32) (x4 : Int32) (x5 : Int32) (x6 : Int32) : Prop := ∀ x5_124 : Int32, x5_124 = x5 + (1 : Int32) → (k76 x5_124)
set_option maxRecDepth 10000 in
theorem wk_M_way_b124 {κ : Cx} {τ : xT} {Z : Int32 → xF → Prop} {k67 : Int32 → Int32 → Int32 → Prop} {k76 : Int32 → Prop} {M : xF} {J : (Nat → Int64)} {x2 : Int32} {x3 : Int32} {x4 : Int32} {x5 : Int32} {x6 : Int32} (o : OKc κ (wdM τ) 7 b_M_way "StateExplorerModel" (some .int) (xR 2)) (hk67 : ∀ (x4 : Int32) (x5 : Int32) (x6 : Int32), k67 x4 x5 x6 → GW κ (wdM τ) 7 (0, 0) (xMQ κ (wdM τ) (xR 2) (z1_i J Z)) (M, J) 67 [(0, .ref (τ.2.2 81)), (2, .int x2), (3, .int x3), (4, .int x4), (5, .int x5), (6, .int x6)] []) (hk76 : ∀ (x5 : Int32), k76 x5 → GW κ (wdM τ) 7 (0, 0) (xMQ κ (wdM τ) (xR 2) (z1_i J Z)) (M, J) 76 [(0, .ref (τ.2.2 81)), (2, .int x2), (3, .int x3), (4, .int x4), (5, .int x5), (6, .int x6)] []) (h : M_way_b124 Z k67 k76 M J x2 x3 x4 x5 x6) : GW κ (wdM τ) 7 (0, 0) (xMQ κ (wdM τ) (xR 2) (z1_i J Z)) (M, J) 124 [(0, .ref (τ.2.2 81)), (2, .int x2), (3, .int x3), (4, .int x4), (5, .int x5), (6, .int x6)] [] := by
  unfold M_way_b124 at h
  refine gw_iincN (pc := 124) (c := (1 : Int32)) (lw := fun x5_124 => [(5, .int x5_124), (0, .ref (τ.2.2 81)), (2, .int x2), (3, .int x3), (4, .int x4), (6, .int x6)]) o d_M_way_124 (by decide) 4 rfl (by decide) (fun _ => rfl) (fun x5_124 ex5_124 => ?_)
  have h := h x5_124 ex5_124
  refine gw_goto (pc := 127) (tgt := 76) o d_M_way_127 (by decide) ?_
  exact gw_sub (lv' := [(0, .ref (τ.2.2 81)), (2, .int x2), (3, .int x3), (4, .int x4), (5, .int x5_124), (6, .int x6)]) [1, 2, 3, 4, 0, 5] rfl (hk76 _ h)
def M_way_b76 (Z : Int32 → xF → Prop) (k67 : Int32 → Int32 → Int32 → Prop) (k76 : Int32 → Prop) (M : xF) (J : (Nat → Int64)) (x2 : Int32) (x3 : Int32) (x4 : Int32) (x5 : Int32) (x6 : Int32) : Prop := vp_in (((16 : Int32) * x4) + x5) 4096 ∧ ((((M 15 (((16 : Int32) * x4) + x5).toNatClampNeg) = 0) → (M_way_b124 Z k67 k76 M J x2 x3 x4 x5 x6)) ∧ (¬ ((M 15 (((16 : Int32) * x4) + x5).toNatClampNeg) = 0) → (vp_in (((16 : Int32) * x4) + x5) 4096 ∧ (vp_in (((256 : Int32) * ((x3 - x6) - (1 : Int32))) + (M 16 (((16 : Int32) * x4) + x5).toNatClampNeg)) 65536 ∧ ((((M 20 (((256 : Int32) * ((x3 - x6) - (1 : Int32))) + (M 16 (((16 : Int32) * x4) + x5).toNatClampNeg)).toNatClampNeg) = 0) → (M_way_b124 Z k67 k76 M J x2 x3 x4 x5 x6)) ∧ (¬ ((M 20 (((256 : Int32) * ((x3 - x6) - (1 : Int32))) + (M 16 (((16 : Int32) * x4) + x5).toNatClampNeg)).toNatClampNeg) = 0) → (vp_in (((16 : Int32) * x4) + x5) 4096 ∧ (∀ x4_143 : Int32, x4_143 = M 16 (((16 : Int32) * x4) + x5).toNatClampNeg → (∀ x6_145 : Int32, x6_145 = x6 + (1 : Int32) → (k67 x4_143 x5 x6_145))))))))))
set_option maxRecDepth 10000 in
theorem wk_M_way_b76 {κ : Cx} {τ : xT} {Z : Int32 → xF → Prop} {k67 : Int32 → Int32 → Int32 → Prop} {k76 : Int32 → Prop} {M : xF} {J : (Nat → Int64)} {x2 : Int32} {x3 : Int32} {x4 : Int32} {x5 : Int32} {x6 : Int32} (o : OKc κ (wdM τ) 7 b_M_way "StateExplorerModel" (some .int) (xR 2)) (hk67 : ∀ (x4 : Int32) (x5 : Int32) (x6 : Int32), k67 x4 x5 x6 → GW κ (wdM τ) 7 (0, 0) (xMQ κ (wdM τ) (xR 2) (z1_i J Z)) (M, J) 67 [(0, .ref (τ.2.2 81)), (2, .int x2), (3, .int x3), (4, .int x4), (5, .int x5), (6, .int x6)] []) (hk76 : ∀ (x5 : Int32), k76 x5 → GW κ (wdM τ) 7 (0, 0) (xMQ κ (wdM τ) (xR 2) (z1_i J Z)) (M, J) 76 [(0, .ref (τ.2.2 81)), (2, .int x2), (3, .int x3), (4, .int x4), (5, .int x5), (6, .int x6)] []) (h : M_way_b76 Z k67 k76 M J x2 x3 x4 x5 x6) : GW κ (wdM τ) 7 (0, 0) (xMQ κ (wdM τ) (xR 2) (z1_i J Z)) (M, J) 76 [(0, .ref (τ.2.2 81)), (2, .int x2), (3, .int x3), (4, .int x4), (5, .int x5), (6, .int x6)] [] := by
  unfold M_way_b76 at h
  refine gw_aload_n (pc := 76) o d_M_way_76 rfl 0 rfl ?_
  refine gM_get_settles (pc := 77) o q_561 d_M_way_77 ?_
  refine gw_bipush (pc := 80) (v := (16 : Int32)) o d_M_way_80 (by decide) ?_
  refine gw_iload (pc := 82) o d_M_way_82 3 rfl ?_
  refine gw_imul (pc := 84) o d_M_way_84 ?_
  refine gw_iload (pc := 85) o d_M_way_85 4 rfl ?_
  refine gw_iadd (pc := 87) o d_M_way_87 ?_
  have hi := h.1
  have h := h.2
  refine gM_ald_settles (pc := 88) o hi d_M_way_88 ?_
  refine gw_if_eq (pc := 89) (tgt := 124) o d_M_way_89 (by decide) (fun hc => ?_) (fun hc => ?_)
  · have h := h.1 hc
    exact gw_sub (lv' := [(0, .ref (τ.2.2 81)), (2, .int x2), (3, .int x3), (4, .int x4), (5, .int x5), (6, .int x6)]) [0, 1, 2, 3, 4, 5] rfl (wk_M_way_b124 o hk67 hk76 h)
  · have h := h.2 hc
    refine gw_aload_n (pc := 92) o d_M_way_92 rfl 0 rfl ?_
    refine gM_get_leads (pc := 93) o q_566 d_M_way_93 ?_
    refine gw_sipush (pc := 96) (v := (256 : Int32)) o d_M_way_96 (by decide) ?_
    refine gw_iload_n (pc := 99) o d_M_way_99 rfl 2 rfl ?_
    refine gw_iload (pc := 100) o d_M_way_100 5 rfl ?_
    refine gw_isub (pc := 102) o d_M_way_102 ?_
    refine gw_iconst (pc := 103) (v := (1 : Int32)) o d_M_way_103 (by decide) ?_
    refine gw_isub (pc := 104) o d_M_way_104 ?_
    refine gw_imul (pc := 105) o d_M_way_105 ?_
    refine gw_aload_n (pc := 106) o d_M_way_106 rfl 0 rfl ?_
    refine gM_get_next (pc := 107) o q_562 d_M_way_107 ?_
    refine gw_bipush (pc := 110) (v := (16 : Int32)) o d_M_way_110 (by decide) ?_
    refine gw_iload (pc := 112) o d_M_way_112 3 rfl ?_
    refine gw_imul (pc := 114) o d_M_way_114 ?_
    refine gw_iload (pc := 115) o d_M_way_115 4 rfl ?_
    refine gw_iadd (pc := 117) o d_M_way_117 ?_
    have hi := h.1
    have h := h.2
    refine gM_ald_next (pc := 118) o hi d_M_way_118 ?_
    refine gw_iadd (pc := 119) o d_M_way_119 ?_
    have hi := h.1
    have h := h.2
    refine gM_ald_leads (pc := 120) o hi d_M_way_120 ?_
    refine gw_if_ne (pc := 121) (tgt := 130) o d_M_way_121 (by decide) (fun hc => ?_) (fun hc => ?_)
    · have h := h.2 hc
      refine gw_aload_n (pc := 130) o d_M_way_130 rfl 0 rfl ?_
      refine gM_get_next (pc := 131) o q_562 d_M_way_131 ?_
      refine gw_bipush (pc := 134) (v := (16 : Int32)) o d_M_way_134 (by decide) ?_
      refine gw_iload (pc := 136) o d_M_way_136 3 rfl ?_
      refine gw_imul (pc := 138) o d_M_way_138 ?_
      refine gw_iload (pc := 139) o d_M_way_139 4 rfl ?_
      refine gw_iadd (pc := 141) o d_M_way_141 ?_
      have hi := h.1
      have h := h.2
      refine gM_ald_next (pc := 142) o hi d_M_way_142 ?_
      refine gw_topi (fun x4_143 ex4_143 => ?_)
      have h := h x4_143 ex4_143
      refine gw_istore (pc := 143) (lv' := [(4, .int x4_143), (0, .ref (τ.2.2 81)), (2, .int x2), (3, .int x3), (5, .int x5), (6, .int x6)]) o d_M_way_143 (by decide) rfl ?_
      refine gw_iincN (pc := 145) (c := (1 : Int32)) (lw := fun x6_145 => [(6, .int x6_145), (4, .int x4_143), (0, .ref (τ.2.2 81)), (2, .int x2), (3, .int x3), (5, .int x5)]) o d_M_way_145 (by decide) 5 rfl (by decide) (fun _ => rfl) (fun x6_145 ex6_145 => ?_)
      have h := h x6_145 ex6_145
      refine gw_goto (pc := 148) (tgt := 67) o d_M_way_148 (by decide) ?_
      exact gw_sub (lv' := [(0, .ref (τ.2.2 81)), (2, .int x2), (3, .int x3), (4, .int x4_143), (5, .int x5), (6, .int x6_145)]) [2, 3, 4, 1, 5, 0] rfl (hk67 _ _ _ h)
    · have h := h.1 hc
      exact gw_sub (lv' := [(0, .ref (τ.2.2 81)), (2, .int x2), (3, .int x3), (4, .int x4), (5, .int x5), (6, .int x6)]) [0, 1, 2, 3, 4, 5] rfl (wk_M_way_b124 o hk67 hk76 h)
def M_way_L76 (Z : Int32 → xF → Prop) (k67 : Int32 → Int32 → Int32 → Prop) (M : xF) (J : (Nat → Int64)) (x2 : Int32) (x3 : Int32) (x4 : Int32) (x5 : Int32) (x6 : Int32) : Prop := LOOP1 (fun k76 x5 => M_way_b76 Z k67 k76 M J x2 x3 x4 x5 x6) x5
theorem wk_M_way_L76 {κ : Cx} {τ : xT} {Z : Int32 → xF → Prop} {k67 : Int32 → Int32 → Int32 → Prop} {M : xF} {J : (Nat → Int64)} {x2 : Int32} {x3 : Int32} {x4 : Int32} {x5 : Int32} {x6 : Int32} (o : OKc κ (wdM τ) 7 b_M_way "StateExplorerModel" (some .int) (xR 2)) (hk67 : ∀ (x4 : Int32) (x5 : Int32) (x6 : Int32), k67 x4 x5 x6 → GW κ (wdM τ) 7 (0, 0) (xMQ κ (wdM τ) (xR 2) (z1_i J Z)) (M, J) 67 [(0, .ref (τ.2.2 81)), (2, .int x2), (3, .int x3), (4, .int x4), (5, .int x5), (6, .int x6)] []) (h : M_way_L76 Z k67 M J x2 x3 x4 x5 x6) : GW κ (wdM τ) 7 (0, 0) (xMQ κ (wdM τ) (xR 2) (z1_i J Z)) (M, J) 76 [(0, .ref (τ.2.2 81)), (2, .int x2), (3, .int x3), (4, .int x4), (5, .int x5), (6, .int x6)] [] := by
  unfold M_way_L76 at h
  exact LOOP1.use (G := fun x5 => GW κ (wdM τ) 7 (0, 0) (xMQ κ (wdM τ) (xR 2) (z1_i J Z)) (M, J) 76 [(0, .ref (τ.2.2 81)), (2, .int x2), (3, .int x3), (4, .int x4), (5, .int x5), (6, .int x6)] []) (fun k76 x5 hk76 h => wk_M_way_b76 o hk67 hk76 h) h
def M_way_b67 (Z : Int32 → xF → Prop) (k67 : Int32 → Int32 → Int32 → Prop) (M : xF) (J : (Nat → Int64)) (x2 : Int32) (x3 : Int32) (x4 : Int32) (x5 : Int32) (x6 : Int32) : Prop := ((x2 < x6) → (Z x5 M)) ∧ (¬ (x2 < x6) → (M_way_L76 Z k67 M J x2 x3 x4 (0 : Int32) x6))
set_option maxRecDepth 10000 in
theorem wk_M_way_b67 {κ : Cx} {τ : xT} {Z : Int32 → xF → Prop} {k67 : Int32 → Int32 → Int32 → Prop} {M : xF} {J : (Nat → Int64)} {x2 : Int32} {x3 : Int32} {x4 : Int32} {x5 : Int32} {x6 : Int32} (o : OKc κ (wdM τ) 7 b_M_way "StateExplorerModel" (some .int) (xR 2)) (hk67 : ∀ (x4 : Int32) (x5 : Int32) (x6 : Int32), k67 x4 x5 x6 → GW κ (wdM τ) 7 (0, 0) (xMQ κ (wdM τ) (xR 2) (z1_i J Z)) (M, J) 67 [(0, .ref (τ.2.2 81)), (2, .int x2), (3, .int x3), (4, .int x4), (5, .int x5), (6, .int x6)] []) (h : M_way_b67 Z k67 M J x2 x3 x4 x5 x6) : GW κ (wdM τ) 7 (0, 0) (xMQ κ (wdM τ) (xR 2) (z1_i J Z)) (M, J) 67 [(0, .ref (τ.2.2 81)), (2, .int x2), (3, .int x3), (4, .int x4), (5, .int x5), (6, .int x6)] [] := by
  unfold M_way_b67 at h
  refine gw_iload (pc := 67) o d_M_way_67 5 rfl ?_
  refine gw_iload_n (pc := 69) o d_M_way_69 rfl 1 rfl ?_
  refine gw_icmp_gt (pc := 70) (tgt := 151) o d_M_way_70 (by decide) (fun hc => ?_) (fun hc => ?_)
  · have h := h.1 hc
    refine gw_iload (pc := 151) o d_M_way_151 4 rfl ?_
    exact gw_iret (pc := 153) o ⟨Nat.le_refl _, Nat.le_refl _⟩ (z1_i.mk h) d_M_way_153
  · have h := h.2 hc
    refine gw_iconst (pc := 73) (v := (0 : Int32)) o d_M_way_73 (by decide) ?_
    refine gw_istore (pc := 74) (lv' := [(5, .int (0 : Int32)), (0, .ref (τ.2.2 81)), (2, .int x2), (3, .int x3), (4, .int x4), (6, .int x6)]) o d_M_way_74 (by decide) rfl ?_
    exact gw_sub (lv' := [(0, .ref (τ.2.2 81)), (2, .int x2), (3, .int x3), (4, .int x4), (5, .int (0 : Int32)), (6, .int x6)]) [1, 2, 3, 4, 0, 5] rfl (wk_M_way_L76 o hk67 h)
def M_way_L67 (Z : Int32 → xF → Prop) (M : xF) (J : (Nat → Int64)) (x2 : Int32) (x3 : Int32) (x4 : Int32) (x5 : Int32) (x6 : Int32) : Prop := LOOP3 (fun k67 x4 x5 x6 => M_way_b67 Z k67 M J x2 x3 x4 x5 x6) x4 x5 x6
theorem wk_M_way_L67 {κ : Cx} {τ : xT} {Z : Int32 → xF → Prop} {M : xF} {J : (Nat → Int64)} {x2 : Int32} {x3 : Int32} {x4 : Int32} {x5 : Int32} {x6 : Int32} (o : OKc κ (wdM τ) 7 b_M_way "StateExplorerModel" (some .int) (xR 2)) (h : M_way_L67 Z M J x2 x3 x4 x5 x6) : GW κ (wdM τ) 7 (0, 0) (xMQ κ (wdM τ) (xR 2) (z1_i J Z)) (M, J) 67 [(0, .ref (τ.2.2 81)), (2, .int x2), (3, .int x3), (4, .int x4), (5, .int x5), (6, .int x6)] [] := by
  unfold M_way_L67 at h
  exact LOOP3.use (G := fun x4 x5 x6 => GW κ (wdM τ) 7 (0, 0) (xMQ κ (wdM τ) (xR 2) (z1_i J Z)) (M, J) 67 [(0, .ref (τ.2.2 81)), (2, .int x2), (3, .int x3), (4, .int x4), (5, .int x5), (6, .int x6)] []) (fun k67 x4 x5 x6 hk67 h => wk_M_way_b67 o hk67 h) h
def M_way_b26 (Z : Int32 → xF → Prop) (M : xF) (J : (Nat → Int64)) (x1 : Int32) (x2 : Int32) (s1 : Int32) (s2 : Int32) : Prop := w_M_fails M J s1 s2 (fun r26 M_26 => ((r26 = 0) → (vp_in x1 256 ∧ (∀ x3_40 : Int32, x3_40 = M_26 18 x1.toNatClampNeg → (((x2 < 0) → (Z (-1 : Int32) M_26)) ∧ (¬ (x2 < 0) → (((x2 < x3_40) → (w_M_lead M_26 J x1 x3_40 (fun M_55 => M_way_L67 Z M_55 J x2 x3_40 (0 : Int32) (0 : Int32) (0 : Int32)))) ∧ (¬ (x2 < x3_40) → (Z (-1 : Int32) M_26)))))))) ∧ (¬ (r26 = 0) → (Z (0 : Int32) M_26)))
set_option maxRecDepth 10000 in
theorem wk_M_way_b26 {κ : Cx} {τ : xT} {Z : Int32 → xF → Prop} {M : xF} {J : (Nat → Int64)} {x1 : Int32} {x2 : Int32} {s1 : Int32} {s2 : Int32} (o : OKc κ (wdM τ) 7 b_M_way "StateExplorerModel" (some .int) (xR 2)) (h : M_way_b26 Z M J x1 x2 s1 s2) : GW κ (wdM τ) 7 (0, 0) (xMQ κ (wdM τ) (xR 2) (z1_i J Z)) (M, J) 26 [(0, .ref (τ.2.2 81)), (1, .int x1), (2, .int x2)] [.int s2, .int s1, .ref (τ.2.2 81)] := by
  unfold M_way_b26 at h
  refine gw_callV (pc := 26) (b := τ.2.2 81) (As := [.int s1, .int s2]) (st := []) o (ct_M_fails o.hD h) mi_M_fails q_619 q_621 qs_29 0 rfl rfl (xRo_of (by omega) (by decide)) rfl rfl (Nat.le_of_ble_eq_true rfl) d_M_way_26 (kk_1_i rfl (fun r26 M_26 h => ?_))
  refine gw_if_eq (pc := 29) (tgt := 34) o d_M_way_29 (by decide) (fun hc => ?_) (fun hc => ?_)
  · have h := h.1 hc
    refine gw_aload_n (pc := 34) o d_M_way_34 rfl 0 rfl ?_
    refine gM_get_distance (pc := 35) o q_564 d_M_way_35 ?_
    refine gw_iload_n (pc := 38) o d_M_way_38 rfl 1 rfl ?_
    have hi := h.1
    have h := h.2
    refine gM_ald_distance (pc := 39) o hi d_M_way_39 ?_
    refine gw_topi (fun x3_40 ex3_40 => ?_)
    have h := h x3_40 ex3_40
    refine gw_istore_n (pc := 40) (lv' := [(3, .int x3_40), (0, .ref (τ.2.2 81)), (1, .int x1), (2, .int x2)]) o d_M_way_40 rfl (by decide) rfl ?_
    refine gw_iload_n (pc := 41) o d_M_way_41 rfl 3 rfl ?_
    refine gw_if_lt (pc := 42) (tgt := 50) o d_M_way_42 (by decide) (fun hc => ?_) (fun hc => ?_)
    · have h := h.1 hc
      refine gw_iconst (pc := 50) (v := (-1 : Int32)) o d_M_way_50 (by decide) ?_
      exact gw_iret (pc := 51) o ⟨Nat.le_refl _, Nat.le_refl _⟩ (z1_i.mk h) d_M_way_51
    · have h := h.2 hc
      refine gw_iload_n (pc := 45) o d_M_way_45 rfl 3 rfl ?_
      refine gw_iload_n (pc := 46) o d_M_way_46 rfl 0 rfl ?_
      refine gw_icmp_lt (pc := 47) (tgt := 52) o d_M_way_47 (by decide) (fun hc => ?_) (fun hc => ?_)
      · have h := h.1 hc
        refine gw_aload_n (pc := 52) o d_M_way_52 rfl 1 rfl ?_
        refine gw_iload_n (pc := 53) o d_M_way_53 rfl 2 rfl ?_
        refine gw_iload_n (pc := 54) o d_M_way_54 rfl 0 rfl ?_
        refine gw_callV (pc := 55) (b := τ.2.2 81) (As := [.int x1, .int x3_40]) (st := []) o (ct_M_lead o.hD h) mi_M_lead q_695 q_697 qs_42 0 rfl rfl (xRo_of (by omega) (by decide)) rfl rfl (Nat.le_of_ble_eq_true rfl) d_M_way_55 (kk_1_v rfl (fun M_55 h => ?_))
        refine gw_iconst (pc := 58) (v := (0 : Int32)) o d_M_way_58 (by decide) ?_
        refine gw_istore (pc := 59) (lv' := [(4, .int (0 : Int32)), (3, .int x3_40), (0, .ref (τ.2.2 81)), (1, .int x1), (2, .int x2)]) o d_M_way_59 (by decide) rfl ?_
        refine gw_iconst (pc := 61) (v := (0 : Int32)) o d_M_way_61 (by decide) ?_
        refine gw_istore (pc := 62) (lv' := [(5, .int (0 : Int32)), (4, .int (0 : Int32)), (3, .int x3_40), (0, .ref (τ.2.2 81)), (1, .int x1), (2, .int x2)]) o d_M_way_62 (by decide) rfl ?_
        refine gw_iconst (pc := 64) (v := (0 : Int32)) o d_M_way_64 (by decide) ?_
        refine gw_istore (pc := 65) (lv' := [(6, .int (0 : Int32)), (5, .int (0 : Int32)), (4, .int (0 : Int32)), (3, .int x3_40), (0, .ref (τ.2.2 81)), (1, .int x1), (2, .int x2)]) o d_M_way_65 (by decide) rfl ?_
        exact gw_sub (lv' := [(0, .ref (τ.2.2 81)), (2, .int x2), (3, .int x3_40), (4, .int (0 : Int32)), (5, .int (0 : Int32)), (6, .int (0 : Int32))]) [4, 6, 3, 2, 1, 0] rfl (wk_M_way_L67 o h)
      · have h := h.2 hc
        refine gw_iconst (pc := 50) (v := (-1 : Int32)) o d_M_way_50 (by decide) ?_
        exact gw_iret (pc := 51) o ⟨Nat.le_refl _, Nat.le_refl _⟩ (z1_i.mk h) d_M_way_51
  · have h := h.2 hc
    refine gw_iconst (pc := 32) (v := (0 : Int32)) o d_M_way_32 (by decide) ?_
    exact gw_iret (pc := 33) o ⟨Nat.le_refl _, Nat.le_refl _⟩ (z1_i.mk h) d_M_way_33
def M_way_b13 (Z : Int32 → xF → Prop) (M : xF) (J : (Nat → Int64)) (x1 : Int32) (x2 : Int32) (s1 : Int32) : Prop := w_M_isState M J x1 (fun r15 => ((r15 = 0) → (M_way_b26 Z M J x1 x2 s1 (1 : Int32))) ∧ (¬ (r15 = 0) → (M_way_b26 Z M J x1 x2 s1 (0 : Int32))))
set_option maxRecDepth 10000 in
theorem wk_M_way_b13 {κ : Cx} {τ : xT} {Z : Int32 → xF → Prop} {M : xF} {J : (Nat → Int64)} {x1 : Int32} {x2 : Int32} {s1 : Int32} (o : OKc κ (wdM τ) 7 b_M_way "StateExplorerModel" (some .int) (xR 2)) (h : M_way_b13 Z M J x1 x2 s1) : GW κ (wdM τ) 7 (0, 0) (xMQ κ (wdM τ) (xR 2) (z1_i J Z)) (M, J) 13 [(0, .ref (τ.2.2 81)), (1, .int x1), (2, .int x2)] [.int s1, .ref (τ.2.2 81)] := by
  unfold M_way_b13 at h
  refine gw_aload_n (pc := 13) o d_M_way_13 rfl 0 rfl ?_
  refine gw_iload_n (pc := 14) o d_M_way_14 rfl 1 rfl ?_
  refine gw_callV (pc := 15) (b := τ.2.2 81) (As := [.int x1]) (st := [.int s1, .ref (τ.2.2 81)]) o (ct_M_isState o.hD h) mi_M_isState q_687 q_689 qs_41 0 rfl rfl (xRo_of (by omega) (by decide)) rfl rfl (Nat.le_of_ble_eq_true rfl) d_M_way_15 (kk_p_i rfl (fun r15 h => ?_))
  refine gw_if_ne (pc := 18) (tgt := 25) o d_M_way_18 (by decide) (fun hc => ?_) (fun hc => ?_)
  · have h := h.2 hc
    refine gw_iconst (pc := 25) (v := (0 : Int32)) o d_M_way_25 (by decide) ?_
    exact gw_sub (lv' := [(0, .ref (τ.2.2 81)), (1, .int x1), (2, .int x2)]) [0, 1, 2] rfl (wk_M_way_b26 o h)
  · have h := h.1 hc
    refine gw_iconst (pc := 21) (v := (1 : Int32)) o d_M_way_21 (by decide) ?_
    refine gw_goto (pc := 22) (tgt := 26) o d_M_way_22 (by decide) ?_
    exact gw_sub (lv' := [(0, .ref (τ.2.2 81)), (1, .int x1), (2, .int x2)]) [0, 1, 2] rfl (wk_M_way_b26 o h)
def M_way_b0 (Z : Int32 → xF → Prop) (M : xF) (J : (Nat → Int64)) (x1 : Int32) (x2 : Int32) : Prop := (((M 21 14) = 0) → (M_way_b13 Z M J x1 x2 (1 : Int32))) ∧ (¬ ((M 21 14) = 0) → (M_way_b13 Z M J x1 x2 (0 : Int32)))
set_option maxRecDepth 10000 in
theorem wk_M_way_b0 {κ : Cx} {τ : xT} {Z : Int32 → xF → Prop} {M : xF} {J : (Nat → Int64)} {x1 : Int32} {x2 : Int32} (o : OKc κ (wdM τ) 7 b_M_way "StateExplorerModel" (some .int) (xR 2)) (h : M_way_b0 Z M J x1 x2) : GW κ (wdM τ) 7 (0, 0) (xMQ κ (wdM τ) (xR 2) (z1_i J Z)) (M, J) 0 [(0, .ref (τ.2.2 81)), (1, .int x1), (2, .int x2)] [] := by
  unfold M_way_b0 at h
  refine gw_aload_n (pc := 0) o d_M_way_0 rfl 0 rfl ?_
  refine gw_aload_n (pc := 1) o d_M_way_1 rfl 0 rfl ?_
  refine gM_get_explored (pc := 2) o q_560 d_M_way_2 ?_
  refine gw_if_ne (pc := 5) (tgt := 12) o d_M_way_5 (by decide) (fun hc => ?_) (fun hc => ?_)
  · have h := h.2 hc
    refine gw_iconst (pc := 12) (v := (0 : Int32)) o d_M_way_12 (by decide) ?_
    exact gw_sub (lv' := [(0, .ref (τ.2.2 81)), (1, .int x1), (2, .int x2)]) [0, 1, 2] rfl (wk_M_way_b13 o h)
  · have h := h.1 hc
    refine gw_iconst (pc := 8) (v := (1 : Int32)) o d_M_way_8 (by decide) ?_
    refine gw_goto (pc := 9) (tgt := 13) o d_M_way_9 (by decide) ?_
    exact gw_sub (lv' := [(0, .ref (τ.2.2 81)), (1, .int x1), (2, .int x2)]) [0, 1, 2] rfl (wk_M_way_b13 o h)
def w_M_way  (M : xF) (J : (Nat → Int64)) (x1 : Int32) (x2 : Int32) (Z : Int32 → xF → Prop) : Prop := M_way_b0  Z M J x1 x2
theorem ct_M_way {l : Launch} {τ : xT} {M : xF} {J : (Nat → Int64)} {x1 : Int32} {x2 : Int32} {Z : Int32 → xF → Prop} (hD : xD (wdM τ)) (h : w_M_way  M J x1 x2 Z) : CT l (wdM τ) y_M_way (.code y_M_way b_M_way 7 (some .int)) (xR 2) [.ref (τ.2.2 81), .int x1, .int x2] (M, J) (z1_i J Z) := by
  subst_vars
  exact CT.of (by decide) (Nat.le_of_ble_eq_true rfl) hD (fun κ hl ha o => gw_sub (lv' := [(0, .ref (τ.2.2 81)), (1, .int x1), (2, .int x2)]) [0, 1, 2] rfl (wk_M_way_b0 o h))
def M_many_b55 (Z : Int32 → xF → Prop) (k26 : Int32 → Int32 → Prop) (M : xF) (J : (Nat → Int64)) (x1 : Int32) (x3 : Int32) (s0 : Int32) : Prop := ∀ x3_56 : Int32, x3_56 = x3 + (1 : Int32) → (k26 s0 x3_56)
set_option maxRecDepth 10000 in
theorem wk_M_many_b55 {κ : Cx} {τ : xT} {Z : Int32 → xF → Prop} {k26 : Int32 → Int32 → Prop} {M : xF} {J : (Nat → Int64)} {x1 : Int32} {x3 : Int32} {s0 : Int32} (o : OKc κ (wdM τ) 4 b_M_many "StateExplorerModel" (some .int) (xR 1)) (hk26 : ∀ (x2 : Int32) (x3 : Int32), k26 x2 x3 → GW κ (wdM τ) 4 (0, 0) (xMQ κ (wdM τ) (xR 1) (z1_i J Z)) (M, J) 26 [(0, .ref (τ.2.2 81)), (1, .int x1), (2, .int x2), (3, .int x3)] []) (h : M_many_b55 Z k26 M J x1 x3 s0) : GW κ (wdM τ) 4 (0, 0) (xMQ κ (wdM τ) (xR 1) (z1_i J Z)) (M, J) 55 [(0, .ref (τ.2.2 81)), (1, .int x1), (3, .int x3)] [.int s0] := by
  unfold M_many_b55 at h
  refine gw_istore_n (pc := 55) (lv' := [(2, .int s0), (0, .ref (τ.2.2 81)), (1, .int x1), (3, .int x3)]) o d_M_many_55 rfl (by decide) rfl ?_
  refine gw_iincN (pc := 56) (c := (1 : Int32)) (lw := fun x3_56 => [(3, .int x3_56), (2, .int s0), (0, .ref (τ.2.2 81)), (1, .int x1)]) o d_M_many_56 (by decide) 3 rfl (by decide) (fun _ => rfl) (fun x3_56 ex3_56 => ?_)
  have h := h x3_56 ex3_56
  refine gw_goto (pc := 59) (tgt := 26) o d_M_many_59 (by decide) ?_
  exact gw_sub (lv' := [(0, .ref (τ.2.2 81)), (1, .int x1), (2, .int s0), (3, .int x3_56)]) [2, 3, 1, 0] rfl (hk26 _ _ h)
def M_many_b62 (Z : Int32 → xF → Prop) (M : xF) (J : (Nat → Int64)) (x2 : Int32) : Prop := Z x2 M
set_option maxRecDepth 10000 in
theorem wk_M_many_b62 {κ : Cx} {τ : xT} {Z : Int32 → xF → Prop} {M : xF} {J : (Nat → Int64)} {x2 : Int32} (o : OKc κ (wdM τ) 4 b_M_many "StateExplorerModel" (some .int) (xR 1)) (h : M_many_b62 Z M J x2) : GW κ (wdM τ) 4 (0, 0) (xMQ κ (wdM τ) (xR 1) (z1_i J Z)) (M, J) 62 [(2, .int x2)] [] := by
  unfold M_many_b62 at h
  refine gw_iload_n (pc := 62) o d_M_many_62 rfl 0 rfl ?_
  exact gw_iret (pc := 63) o ⟨Nat.le_refl _, Nat.le_refl _⟩ (z1_i.mk h) d_M_many_63
def M_many_b26 (Z : Int32 → xF → Prop) (k26 : Int32 → Int32 → Prop) (M : xF) (J : (Nat → Int64)) (x1 : Int32) (x2 : Int32) (x3 : Int32) : Prop := w_M_states M J (fun r28 => ((r28 ≤ x3) → (M_many_b62 Z M J x2)) ∧ (¬ (r28 ≤ x3) → (((x1 < 0) → (M_many_b62 Z M J x2)) ∧ (¬ (x1 < 0) → (vp_in x3 256 ∧ ((((M 18 x3.toNatClampNeg) = x1) → (M_many_b55 Z k26 M J x1 x3 (x2 + (1 : Int32)))) ∧ (¬ ((M 18 x3.toNatClampNeg) = x1) → (M_many_b55 Z k26 M J x1 x3 x2))))))))
set_option maxRecDepth 10000 in
theorem wk_M_many_b26 {κ : Cx} {τ : xT} {Z : Int32 → xF → Prop} {k26 : Int32 → Int32 → Prop} {M : xF} {J : (Nat → Int64)} {x1 : Int32} {x2 : Int32} {x3 : Int32} (o : OKc κ (wdM τ) 4 b_M_many "StateExplorerModel" (some .int) (xR 1)) (hk26 : ∀ (x2 : Int32) (x3 : Int32), k26 x2 x3 → GW κ (wdM τ) 4 (0, 0) (xMQ κ (wdM τ) (xR 1) (z1_i J Z)) (M, J) 26 [(0, .ref (τ.2.2 81)), (1, .int x1), (2, .int x2), (3, .int x3)] []) (h : M_many_b26 Z k26 M J x1 x2 x3) : GW κ (wdM τ) 4 (0, 0) (xMQ κ (wdM τ) (xR 1) (z1_i J Z)) (M, J) 26 [(0, .ref (τ.2.2 81)), (1, .int x1), (2, .int x2), (3, .int x3)] [] := by
  unfold M_many_b26 at h
  refine gw_iload_n (pc := 26) o d_M_many_26 rfl 3 rfl ?_
  refine gw_aload_n (pc := 27) o d_M_many_27 rfl 0 rfl ?_
  refine gw_callV (pc := 28) (b := τ.2.2 81) (As := []) (st := [.int x3]) o (ct_M_states o.hD h) mi_M_states q_647 q_649 qs_32 0 rfl rfl (xRo_of (by omega) (by decide)) rfl rfl (Nat.le_of_ble_eq_true rfl) d_M_many_28 (kk_p_i rfl (fun r28 h => ?_))
  refine gw_icmp_ge (pc := 31) (tgt := 62) o d_M_many_31 (by decide) (fun hc => ?_) (fun hc => ?_)
  · have h := h.1 hc
    exact gw_sub (lv' := [(2, .int x2)]) [2] rfl (wk_M_many_b62 o h)
  · have h := h.2 hc
    refine gw_iload_n (pc := 34) o d_M_many_34 rfl 1 rfl ?_
    refine gw_if_lt (pc := 35) (tgt := 62) o d_M_many_35 (by decide) (fun hc => ?_) (fun hc => ?_)
    · have h := h.1 hc
      exact gw_sub (lv' := [(2, .int x2)]) [2] rfl (wk_M_many_b62 o h)
    · have h := h.2 hc
      refine gw_aload_n (pc := 38) o d_M_many_38 rfl 0 rfl ?_
      refine gM_get_distance (pc := 39) o q_564 d_M_many_39 ?_
      refine gw_iload_n (pc := 42) o d_M_many_42 rfl 3 rfl ?_
      have hi := h.1
      have h := h.2
      refine gM_ald_distance (pc := 43) o hi d_M_many_43 ?_
      refine gw_iload_n (pc := 44) o d_M_many_44 rfl 1 rfl ?_
      refine gw_icmp_ne (pc := 45) (tgt := 54) o d_M_many_45 (by decide) (fun hc => ?_) (fun hc => ?_)
      · have h := h.2 hc
        refine gw_iload_n (pc := 54) o d_M_many_54 rfl 2 rfl ?_
        exact gw_sub (lv' := [(0, .ref (τ.2.2 81)), (1, .int x1), (3, .int x3)]) [0, 1, 3] rfl (wk_M_many_b55 o hk26 h)
      · have h := h.1 hc
        refine gw_iload_n (pc := 48) o d_M_many_48 rfl 2 rfl ?_
        refine gw_iconst (pc := 49) (v := (1 : Int32)) o d_M_many_49 (by decide) ?_
        refine gw_iadd (pc := 50) o d_M_many_50 ?_
        refine gw_goto (pc := 51) (tgt := 55) o d_M_many_51 (by decide) ?_
        exact gw_sub (lv' := [(0, .ref (τ.2.2 81)), (1, .int x1), (3, .int x3)]) [0, 1, 3] rfl (wk_M_many_b55 o hk26 h)
def M_many_L26 (Z : Int32 → xF → Prop) (M : xF) (J : (Nat → Int64)) (x1 : Int32) (x2 : Int32) (x3 : Int32) : Prop := LOOP2 (fun k26 x2 x3 => M_many_b26 Z k26 M J x1 x2 x3) x2 x3
theorem wk_M_many_L26 {κ : Cx} {τ : xT} {Z : Int32 → xF → Prop} {M : xF} {J : (Nat → Int64)} {x1 : Int32} {x2 : Int32} {x3 : Int32} (o : OKc κ (wdM τ) 4 b_M_many "StateExplorerModel" (some .int) (xR 1)) (h : M_many_L26 Z M J x1 x2 x3) : GW κ (wdM τ) 4 (0, 0) (xMQ κ (wdM τ) (xR 1) (z1_i J Z)) (M, J) 26 [(0, .ref (τ.2.2 81)), (1, .int x1), (2, .int x2), (3, .int x3)] [] := by
  unfold M_many_L26 at h
  exact LOOP2.use (G := fun x2 x3 => GW κ (wdM τ) 4 (0, 0) (xMQ κ (wdM τ) (xR 1) (z1_i J Z)) (M, J) 26 [(0, .ref (τ.2.2 81)), (1, .int x1), (2, .int x2), (3, .int x3)] []) (fun k26 x2 x3 hk26 h => wk_M_many_b26 o hk26 h) h
def M_many_b13 (Z : Int32 → xF → Prop) (M : xF) (J : (Nat → Int64)) (x1 : Int32) (s1 : Int32) : Prop := w_M_fails M J s1 (0 : Int32) (fun r14 M_14 => ((r14 = 0) → (M_many_L26 Z M_14 J x1 (0 : Int32) (0 : Int32))) ∧ (¬ (r14 = 0) → (Z (0 : Int32) M_14)))
set_option maxRecDepth 10000 in
theorem wk_M_many_b13 {κ : Cx} {τ : xT} {Z : Int32 → xF → Prop} {M : xF} {J : (Nat → Int64)} {x1 : Int32} {s1 : Int32} (o : OKc κ (wdM τ) 4 b_M_many "StateExplorerModel" (some .int) (xR 1)) (h : M_many_b13 Z M J x1 s1) : GW κ (wdM τ) 4 (0, 0) (xMQ κ (wdM τ) (xR 1) (z1_i J Z)) (M, J) 13 [(0, .ref (τ.2.2 81)), (1, .int x1)] [.int s1, .ref (τ.2.2 81)] := by
  unfold M_many_b13 at h
  refine gw_iconst (pc := 13) (v := (0 : Int32)) o d_M_many_13 (by decide) ?_
  refine gw_callV (pc := 14) (b := τ.2.2 81) (As := [.int s1, .int (0 : Int32)]) (st := []) o (ct_M_fails o.hD h) mi_M_fails q_619 q_621 qs_29 0 rfl rfl (xRo_of (by omega) (by decide)) rfl rfl (Nat.le_of_ble_eq_true rfl) d_M_many_14 (kk_1_i rfl (fun r14 M_14 h => ?_))
  refine gw_if_eq (pc := 17) (tgt := 22) o d_M_many_17 (by decide) (fun hc => ?_) (fun hc => ?_)
  · have h := h.1 hc
    refine gw_iconst (pc := 22) (v := (0 : Int32)) o d_M_many_22 (by decide) ?_
    refine gw_istore_n (pc := 23) (lv' := [(2, .int (0 : Int32)), (0, .ref (τ.2.2 81)), (1, .int x1)]) o d_M_many_23 rfl (by decide) rfl ?_
    refine gw_iconst (pc := 24) (v := (0 : Int32)) o d_M_many_24 (by decide) ?_
    refine gw_istore_n (pc := 25) (lv' := [(3, .int (0 : Int32)), (2, .int (0 : Int32)), (0, .ref (τ.2.2 81)), (1, .int x1)]) o d_M_many_25 rfl (by decide) rfl ?_
    exact gw_sub (lv' := [(0, .ref (τ.2.2 81)), (1, .int x1), (2, .int (0 : Int32)), (3, .int (0 : Int32))]) [2, 3, 1, 0] rfl (wk_M_many_L26 o h)
  · have h := h.2 hc
    refine gw_iconst (pc := 20) (v := (0 : Int32)) o d_M_many_20 (by decide) ?_
    exact gw_iret (pc := 21) o ⟨Nat.le_refl _, Nat.le_refl _⟩ (z1_i.mk h) d_M_many_21
def M_many_b0 (Z : Int32 → xF → Prop) (M : xF) (J : (Nat → Int64)) (x1 : Int32) : Prop := (((M 21 14) = 0) → (M_many_b13 Z M J x1 (1 : Int32))) ∧ (¬ ((M 21 14) = 0) → (M_many_b13 Z M J x1 (0 : Int32)))
set_option maxRecDepth 10000 in
theorem wk_M_many_b0 {κ : Cx} {τ : xT} {Z : Int32 → xF → Prop} {M : xF} {J : (Nat → Int64)} {x1 : Int32} (o : OKc κ (wdM τ) 4 b_M_many "StateExplorerModel" (some .int) (xR 1)) (h : M_many_b0 Z M J x1) : GW κ (wdM τ) 4 (0, 0) (xMQ κ (wdM τ) (xR 1) (z1_i J Z)) (M, J) 0 [(0, .ref (τ.2.2 81)), (1, .int x1)] [] := by
  unfold M_many_b0 at h
  refine gw_aload_n (pc := 0) o d_M_many_0 rfl 0 rfl ?_
  refine gw_aload_n (pc := 1) o d_M_many_1 rfl 0 rfl ?_
  refine gM_get_explored (pc := 2) o q_560 d_M_many_2 ?_
  refine gw_if_ne (pc := 5) (tgt := 12) o d_M_many_5 (by decide) (fun hc => ?_) (fun hc => ?_)
  · have h := h.2 hc
    refine gw_iconst (pc := 12) (v := (0 : Int32)) o d_M_many_12 (by decide) ?_
    exact gw_sub (lv' := [(0, .ref (τ.2.2 81)), (1, .int x1)]) [0, 1] rfl (wk_M_many_b13 o h)
  · have h := h.1 hc
    refine gw_iconst (pc := 8) (v := (1 : Int32)) o d_M_many_8 (by decide) ?_
    refine gw_goto (pc := 9) (tgt := 13) o d_M_many_9 (by decide) ?_
    exact gw_sub (lv' := [(0, .ref (τ.2.2 81)), (1, .int x1)]) [0, 1] rfl (wk_M_many_b13 o h)
def w_M_many  (M : xF) (J : (Nat → Int64)) (x1 : Int32) (Z : Int32 → xF → Prop) : Prop := M_many_b0  Z M J x1
theorem ct_M_many {l : Launch} {τ : xT} {M : xF} {J : (Nat → Int64)} {x1 : Int32} {Z : Int32 → xF → Prop} (hD : xD (wdM τ)) (h : w_M_many  M J x1 Z) : CT l (wdM τ) y_M_many (.code y_M_many b_M_many 4 (some .int)) (xR 1) [.ref (τ.2.2 81), .int x1] (M, J) (z1_i J Z) := by
  subst_vars
  exact CT.of (by decide) (Nat.le_of_ble_eq_true rfl) hD (fun κ hl ha o => gw_sub (lv' := [(0, .ref (τ.2.2 81)), (1, .int x1)]) [0, 1] rfl (wk_M_many_b0 o h))
def M_next_b75 (Z : Int32 → xF → Prop) (M : xF) (J : (Nat → Int64)) (s0 : Int32) : Prop := Z s0 M
set_option maxRecDepth 10000 in
theorem wk_M_next_b75 {κ : Cx} {τ : xT} {Z : Int32 → xF → Prop} {M : xF} {J : (Nat → Int64)} {s0 : Int32} (o : OKc κ (wdM τ) 4 b_M_next "StateExplorerModel" (some .int) (xR 2)) (h : M_next_b75 Z M J s0) : GW κ (wdM τ) 4 (0, 0) (xMQ κ (wdM τ) (xR 2) (z1_i J Z)) (M, J) 75 [] [.int s0] := by
  unfold M_next_b75 at h
  exact gw_iret (pc := 75) o ⟨Nat.le_refl _, Nat.le_refl _⟩ (z1_i.mk h) d_M_next_75
def M_next_b36 (Z : Int32 → xF → Prop) (M : xF) (J : (Nat → Int64)) (x1 : Int32) (x2 : Int32) (s1 : Int32) (s2 : Int32) : Prop := w_M_fails M J s1 s2 (fun r36 M_36 => ((r36 = 0) → (w_M_choices M_36 J (fun r50 => ¬ r50 = 0 ∧ (∀ x3_55 : Int32, x3_55 = ((16 : Int32) * x1) + (x2 - x2 / r50 * r50) → (vp_in x3_55 4096 ∧ ((((M_36 15 x3_55.toNatClampNeg) = 0) → (M_next_b75 Z M_36 J (-1 : Int32))) ∧ (¬ ((M_36 15 x3_55.toNatClampNeg) = 0) → (vp_in x3_55 4096 ∧ (M_next_b75 Z M_36 J (M_36 16 x3_55.toNatClampNeg)))))))))) ∧ (¬ (r36 = 0) → (Z (0 : Int32) M_36)))
set_option maxRecDepth 10000 in
theorem wk_M_next_b36 {κ : Cx} {τ : xT} {Z : Int32 → xF → Prop} {M : xF} {J : (Nat → Int64)} {x1 : Int32} {x2 : Int32} {s1 : Int32} {s2 : Int32} (o : OKc κ (wdM τ) 4 b_M_next "StateExplorerModel" (some .int) (xR 2)) (h : M_next_b36 Z M J x1 x2 s1 s2) : GW κ (wdM τ) 4 (0, 0) (xMQ κ (wdM τ) (xR 2) (z1_i J Z)) (M, J) 36 [(0, .ref (τ.2.2 81)), (1, .int x1), (2, .int x2)] [.int s2, .int s1, .ref (τ.2.2 81)] := by
  unfold M_next_b36 at h
  refine gw_callV (pc := 36) (b := τ.2.2 81) (As := [.int s1, .int s2]) (st := []) o (ct_M_fails o.hD h) mi_M_fails q_619 q_621 qs_29 0 rfl rfl (xRo_of (by omega) (by decide)) rfl rfl (Nat.le_of_ble_eq_true rfl) d_M_next_36 (kk_1_i rfl (fun r36 M_36 h => ?_))
  refine gw_if_eq (pc := 39) (tgt := 44) o d_M_next_39 (by decide) (fun hc => ?_) (fun hc => ?_)
  · have h := h.1 hc
    refine gw_bipush (pc := 44) (v := (16 : Int32)) o d_M_next_44 (by decide) ?_
    refine gw_iload_n (pc := 46) o d_M_next_46 rfl 1 rfl ?_
    refine gw_imul (pc := 47) o d_M_next_47 ?_
    refine gw_iload_n (pc := 48) o d_M_next_48 rfl 2 rfl ?_
    refine gw_aload_n (pc := 49) o d_M_next_49 rfl 0 rfl ?_
    refine gw_callV (pc := 50) (b := τ.2.2 81) (As := []) (st := [.int x2, .int ((16 : Int32) * x1)]) o (ct_M_choices o.hD h) mi_M_choices q_651 q_653 qs_33 0 rfl rfl (xRo_of (by omega) (by decide)) rfl rfl (Nat.le_of_ble_eq_true rfl) d_M_next_50 (kk_p_i rfl (fun r50 h => ?_))
    have h0 := h.1
    have h := h.2
    refine gw_irem (pc := 53) o d_M_next_53 h0 ?_
    refine gw_iadd (pc := 54) o d_M_next_54 ?_
    refine gw_topi (fun x3_55 ex3_55 => ?_)
    have h := h x3_55 ex3_55
    refine gw_istore_n (pc := 55) (lv' := [(3, .int x3_55), (0, .ref (τ.2.2 81)), (1, .int x1), (2, .int x2)]) o d_M_next_55 rfl (by decide) rfl ?_
    refine gw_aload_n (pc := 56) o d_M_next_56 rfl 1 rfl ?_
    refine gM_get_settles (pc := 57) o q_561 d_M_next_57 ?_
    refine gw_iload_n (pc := 60) o d_M_next_60 rfl 0 rfl ?_
    have hi := h.1
    have h := h.2
    refine gM_ald_settles (pc := 61) o hi d_M_next_61 ?_
    refine gw_if_eq (pc := 62) (tgt := 74) o d_M_next_62 (by decide) (fun hc => ?_) (fun hc => ?_)
    · have h := h.1 hc
      refine gw_iconst (pc := 74) (v := (-1 : Int32)) o d_M_next_74 (by decide) ?_
      exact gw_sub (lv' := []) [] rfl (wk_M_next_b75 o h)
    · have h := h.2 hc
      refine gw_aload_n (pc := 65) o d_M_next_65 rfl 1 rfl ?_
      refine gM_get_next (pc := 66) o q_562 d_M_next_66 ?_
      refine gw_iload_n (pc := 69) o d_M_next_69 rfl 0 rfl ?_
      have hi := h.1
      have h := h.2
      refine gM_ald_next (pc := 70) o hi d_M_next_70 ?_
      refine gw_goto (pc := 71) (tgt := 75) o d_M_next_71 (by decide) ?_
      exact gw_sub (lv' := []) [] rfl (wk_M_next_b75 o h)
  · have h := h.2 hc
    refine gw_iconst (pc := 42) (v := (0 : Int32)) o d_M_next_42 (by decide) ?_
    exact gw_iret (pc := 43) o ⟨Nat.le_refl _, Nat.le_refl _⟩ (z1_i.mk h) d_M_next_43
def M_next_b13 (Z : Int32 → xF → Prop) (M : xF) (J : (Nat → Int64)) (x1 : Int32) (x2 : Int32) (s1 : Int32) : Prop := w_M_isState M J x1 (fun r15 => ((r15 = 0) → (M_next_b36 Z M J x1 x2 s1 (1 : Int32))) ∧ (¬ (r15 = 0) → (((x2 < 0) → (M_next_b36 Z M J x1 x2 s1 (1 : Int32))) ∧ (¬ (x2 < 0) → (((x2 ≤ (15 : Int32)) → (M_next_b36 Z M J x1 x2 s1 (0 : Int32))) ∧ (¬ (x2 ≤ (15 : Int32)) → (M_next_b36 Z M J x1 x2 s1 (1 : Int32))))))))
set_option maxRecDepth 10000 in
theorem wk_M_next_b13 {κ : Cx} {τ : xT} {Z : Int32 → xF → Prop} {M : xF} {J : (Nat → Int64)} {x1 : Int32} {x2 : Int32} {s1 : Int32} (o : OKc κ (wdM τ) 4 b_M_next "StateExplorerModel" (some .int) (xR 2)) (h : M_next_b13 Z M J x1 x2 s1) : GW κ (wdM τ) 4 (0, 0) (xMQ κ (wdM τ) (xR 2) (z1_i J Z)) (M, J) 13 [(0, .ref (τ.2.2 81)), (1, .int x1), (2, .int x2)] [.int s1, .ref (τ.2.2 81)] := by
  unfold M_next_b13 at h
  refine gw_aload_n (pc := 13) o d_M_next_13 rfl 0 rfl ?_
  refine gw_iload_n (pc := 14) o d_M_next_14 rfl 1 rfl ?_
  refine gw_callV (pc := 15) (b := τ.2.2 81) (As := [.int x1]) (st := [.int s1, .ref (τ.2.2 81)]) o (ct_M_isState o.hD h) mi_M_isState q_687 q_689 qs_41 0 rfl rfl (xRo_of (by omega) (by decide)) rfl rfl (Nat.le_of_ble_eq_true rfl) d_M_next_15 (kk_p_i rfl (fun r15 h => ?_))
  refine gw_if_eq (pc := 18) (tgt := 31) o d_M_next_18 (by decide) (fun hc => ?_) (fun hc => ?_)
  · have h := h.1 hc
    refine gw_iconst (pc := 31) (v := (1 : Int32)) o d_M_next_31 (by decide) ?_
    refine gw_goto (pc := 32) (tgt := 36) o d_M_next_32 (by decide) ?_
    exact gw_sub (lv' := [(0, .ref (τ.2.2 81)), (1, .int x1), (2, .int x2)]) [0, 1, 2] rfl (wk_M_next_b36 o h)
  · have h := h.2 hc
    refine gw_iload_n (pc := 21) o d_M_next_21 rfl 2 rfl ?_
    refine gw_if_lt (pc := 22) (tgt := 31) o d_M_next_22 (by decide) (fun hc => ?_) (fun hc => ?_)
    · have h := h.1 hc
      refine gw_iconst (pc := 31) (v := (1 : Int32)) o d_M_next_31 (by decide) ?_
      refine gw_goto (pc := 32) (tgt := 36) o d_M_next_32 (by decide) ?_
      exact gw_sub (lv' := [(0, .ref (τ.2.2 81)), (1, .int x1), (2, .int x2)]) [0, 1, 2] rfl (wk_M_next_b36 o h)
    · have h := h.2 hc
      refine gw_iload_n (pc := 25) o d_M_next_25 rfl 2 rfl ?_
      refine gw_bipush (pc := 26) (v := (15 : Int32)) o d_M_next_26 (by decide) ?_
      refine gw_icmp_le (pc := 28) (tgt := 35) o d_M_next_28 (by decide) (fun hc => ?_) (fun hc => ?_)
      · have h := h.1 hc
        refine gw_iconst (pc := 35) (v := (0 : Int32)) o d_M_next_35 (by decide) ?_
        exact gw_sub (lv' := [(0, .ref (τ.2.2 81)), (1, .int x1), (2, .int x2)]) [0, 1, 2] rfl (wk_M_next_b36 o h)
      · have h := h.2 hc
        refine gw_iconst (pc := 31) (v := (1 : Int32)) o d_M_next_31 (by decide) ?_
        refine gw_goto (pc := 32) (tgt := 36) o d_M_next_32 (by decide) ?_
        exact gw_sub (lv' := [(0, .ref (τ.2.2 81)), (1, .int x1), (2, .int x2)]) [0, 1, 2] rfl (wk_M_next_b36 o h)
def M_next_b0 (Z : Int32 → xF → Prop) (M : xF) (J : (Nat → Int64)) (x1 : Int32) (x2 : Int32) : Prop := (((M 21 14) = 0) → (M_next_b13 Z M J x1 x2 (1 : Int32))) ∧ (¬ ((M 21 14) = 0) → (M_next_b13 Z M J x1 x2 (0 : Int32)))
set_option maxRecDepth 10000 in
theorem wk_M_next_b0 {κ : Cx} {τ : xT} {Z : Int32 → xF → Prop} {M : xF} {J : (Nat → Int64)} {x1 : Int32} {x2 : Int32} (o : OKc κ (wdM τ) 4 b_M_next "StateExplorerModel" (some .int) (xR 2)) (h : M_next_b0 Z M J x1 x2) : GW κ (wdM τ) 4 (0, 0) (xMQ κ (wdM τ) (xR 2) (z1_i J Z)) (M, J) 0 [(0, .ref (τ.2.2 81)), (1, .int x1), (2, .int x2)] [] := by
  unfold M_next_b0 at h
  refine gw_aload_n (pc := 0) o d_M_next_0 rfl 0 rfl ?_
  refine gw_aload_n (pc := 1) o d_M_next_1 rfl 0 rfl ?_
  refine gM_get_explored (pc := 2) o q_560 d_M_next_2 ?_
  refine gw_if_ne (pc := 5) (tgt := 12) o d_M_next_5 (by decide) (fun hc => ?_) (fun hc => ?_)
  · have h := h.2 hc
    refine gw_iconst (pc := 12) (v := (0 : Int32)) o d_M_next_12 (by decide) ?_
    exact gw_sub (lv' := [(0, .ref (τ.2.2 81)), (1, .int x1), (2, .int x2)]) [0, 1, 2] rfl (wk_M_next_b13 o h)
  · have h := h.1 hc
    refine gw_iconst (pc := 8) (v := (1 : Int32)) o d_M_next_8 (by decide) ?_
    refine gw_goto (pc := 9) (tgt := 13) o d_M_next_9 (by decide) ?_
    exact gw_sub (lv' := [(0, .ref (τ.2.2 81)), (1, .int x1), (2, .int x2)]) [0, 1, 2] rfl (wk_M_next_b13 o h)
def w_M_next  (M : xF) (J : (Nat → Int64)) (x1 : Int32) (x2 : Int32) (Z : Int32 → xF → Prop) : Prop := M_next_b0  Z M J x1 x2
theorem ct_M_next {l : Launch} {τ : xT} {M : xF} {J : (Nat → Int64)} {x1 : Int32} {x2 : Int32} {Z : Int32 → xF → Prop} (hD : xD (wdM τ)) (h : w_M_next  M J x1 x2 Z) : CT l (wdM τ) y_M_next (.code y_M_next b_M_next 4 (some .int)) (xR 2) [.ref (τ.2.2 81), .int x1, .int x2] (M, J) (z1_i J Z) := by
  subst_vars
  exact CT.of (by decide) (Nat.le_of_ble_eq_true rfl) hD (fun κ hl ha o => gw_sub (lv' := [(0, .ref (τ.2.2 81)), (1, .int x1), (2, .int x2)]) [0, 1, 2] rfl (wk_M_next_b0 o h))
def M_doubt_b114 (Z : Int32 → xF → Prop) (M : xF) (J : (Nat → Int64)) (s0 : Int32) : Prop := Z s0 M
set_option maxRecDepth 10000 in
theorem wk_M_doubt_b114 {κ : Cx} {τ : xT} {Z : Int32 → xF → Prop} {M : xF} {J : (Nat → Int64)} {s0 : Int32} (o : OKc κ (wdM τ) 4 b_M_doubt "StateExplorerModel" (some .int) (xR 1)) (h : M_doubt_b114 Z M J s0) : GW κ (wdM τ) 4 (0, 0) (xMQ κ (wdM τ) (xR 1) (z1_i J Z)) (M, J) 114 [] [.int s0] := by
  unfold M_doubt_b114 at h
  exact gw_iret (pc := 114) o ⟨Nat.le_refl _, Nat.le_refl _⟩ (z1_i.mk h) d_M_doubt_114
def M_doubt_b115 (Z : Int32 → xF → Prop) (k37 : Int32 → Prop) (k46 : Int32 → Prop) (M : xF) (J : (Nat → Int64)) (x1 : Int32) (x2 : Int32) (x3 : Int32) : Prop := ∀ x3_115 : Int32, x3_115 = x3 + (1 : Int32) → (k46 x3_115)
set_option maxRecDepth 10000 in
theorem wk_M_doubt_b115 {κ : Cx} {τ : xT} {Z : Int32 → xF → Prop} {k37 : Int32 → Prop} {k46 : Int32 → Prop} {M : xF} {J : (Nat → Int64)} {x1 : Int32} {x2 : Int32} {x3 : Int32} (o : OKc κ (wdM τ) 4 b_M_doubt "StateExplorerModel" (some .int) (xR 1)) (hk37 : ∀ (x2 : Int32), k37 x2 → GW κ (wdM τ) 4 (0, 0) (xMQ κ (wdM τ) (xR 1) (z1_i J Z)) (M, J) 37 [(0, .ref (τ.2.2 81)), (1, .int x1), (2, .int x2)] []) (hk46 : ∀ (x3 : Int32), k46 x3 → GW κ (wdM τ) 4 (0, 0) (xMQ κ (wdM τ) (xR 1) (z1_i J Z)) (M, J) 46 [(0, .ref (τ.2.2 81)), (1, .int x1), (2, .int x2), (3, .int x3)] []) (h : M_doubt_b115 Z k37 k46 M J x1 x2 x3) : GW κ (wdM τ) 4 (0, 0) (xMQ κ (wdM τ) (xR 1) (z1_i J Z)) (M, J) 115 [(0, .ref (τ.2.2 81)), (1, .int x1), (2, .int x2), (3, .int x3)] [] := by
  unfold M_doubt_b115 at h
  refine gw_iincN (pc := 115) (c := (1 : Int32)) (lw := fun x3_115 => [(3, .int x3_115), (0, .ref (τ.2.2 81)), (1, .int x1), (2, .int x2)]) o d_M_doubt_115 (by decide) 3 rfl (by decide) (fun _ => rfl) (fun x3_115 ex3_115 => ?_)
  have h := h x3_115 ex3_115
  refine gw_goto (pc := 118) (tgt := 46) o d_M_doubt_118 (by decide) ?_
  exact gw_sub (lv' := [(0, .ref (τ.2.2 81)), (1, .int x1), (2, .int x2), (3, .int x3_115)]) [1, 2, 3, 0] rfl (hk46 _ h)
def M_doubt_b46 (Z : Int32 → xF → Prop) (k37 : Int32 → Prop) (k46 : Int32 → Prop) (M : xF) (J : (Nat → Int64)) (x1 : Int32) (x2 : Int32) (x3 : Int32) : Prop := w_M_states M J (fun r50 => ((((16 : Int32) * r50) ≤ x3) → (∀ x2_121 : Int32, x2_121 = x2 + (1 : Int32) → (k37 x2_121))) ∧ (¬ (((16 : Int32) * r50) ≤ x3) → (vp_in (x3 / (16 : Int32)) 256 ∧ ((((M 18 (x3 / (16 : Int32)).toNatClampNeg) = x2) → (w_M_choices M J (fun r75 => ((r75 ≤ (x3 - x3 / (16 : Int32) * (16 : Int32))) → (M_doubt_b115 Z k37 k46 M J x1 x2 x3)) ∧ (¬ (r75 ≤ (x3 - x3 / (16 : Int32) * (16 : Int32))) → (vp_in x3 4096 ∧ ((((M 15 x3.toNatClampNeg) = 0) → (((x1 = 0) → (M_doubt_b114 Z M J x2)) ∧ (¬ (x1 = 0) → (((x1 = (1 : Int32)) → (M_doubt_b114 Z M J (x3 / (16 : Int32)))) ∧ (¬ (x1 = (1 : Int32)) → (M_doubt_b114 Z M J (x3 - x3 / (16 : Int32) * (16 : Int32)))))))) ∧ (¬ ((M 15 x3.toNatClampNeg) = 0) → (M_doubt_b115 Z k37 k46 M J x1 x2 x3)))))))) ∧ (¬ ((M 18 (x3 / (16 : Int32)).toNatClampNeg) = x2) → (M_doubt_b115 Z k37 k46 M J x1 x2 x3))))))
set_option maxRecDepth 10000 in
theorem wk_M_doubt_b46 {κ : Cx} {τ : xT} {Z : Int32 → xF → Prop} {k37 : Int32 → Prop} {k46 : Int32 → Prop} {M : xF} {J : (Nat → Int64)} {x1 : Int32} {x2 : Int32} {x3 : Int32} (o : OKc κ (wdM τ) 4 b_M_doubt "StateExplorerModel" (some .int) (xR 1)) (hk37 : ∀ (x2 : Int32), k37 x2 → GW κ (wdM τ) 4 (0, 0) (xMQ κ (wdM τ) (xR 1) (z1_i J Z)) (M, J) 37 [(0, .ref (τ.2.2 81)), (1, .int x1), (2, .int x2)] []) (hk46 : ∀ (x3 : Int32), k46 x3 → GW κ (wdM τ) 4 (0, 0) (xMQ κ (wdM τ) (xR 1) (z1_i J Z)) (M, J) 46 [(0, .ref (τ.2.2 81)), (1, .int x1), (2, .int x2), (3, .int x3)] []) (h : M_doubt_b46 Z k37 k46 M J x1 x2 x3) : GW κ (wdM τ) 4 (0, 0) (xMQ κ (wdM τ) (xR 1) (z1_i J Z)) (M, J) 46 [(0, .ref (τ.2.2 81)), (1, .int x1), (2, .int x2), (3, .int x3)] [] := by
  unfold M_doubt_b46 at h
  refine gw_iload_n (pc := 46) o d_M_doubt_46 rfl 3 rfl ?_
  refine gw_bipush (pc := 47) (v := (16 : Int32)) o d_M_doubt_47 (by decide) ?_
  refine gw_aload_n (pc := 49) o d_M_doubt_49 rfl 0 rfl ?_
  refine gw_callV (pc := 50) (b := τ.2.2 81) (As := []) (st := [.int (16 : Int32), .int x3]) o (ct_M_states o.hD h) mi_M_states q_647 q_649 qs_32 0 rfl rfl (xRo_of (by omega) (by decide)) rfl rfl (Nat.le_of_ble_eq_true rfl) d_M_doubt_50 (kk_p_i rfl (fun r50 h => ?_))
  refine gw_imul (pc := 53) o d_M_doubt_53 ?_
  refine gw_icmp_ge (pc := 54) (tgt := 121) o d_M_doubt_54 (by decide) (fun hc => ?_) (fun hc => ?_)
  · have h := h.1 hc
    refine gw_iincN (pc := 121) (c := (1 : Int32)) (lw := fun x2_121 => [(2, .int x2_121), (0, .ref (τ.2.2 81)), (1, .int x1), (3, .int x3)]) o d_M_doubt_121 (by decide) 2 rfl (by decide) (fun _ => rfl) (fun x2_121 ex2_121 => ?_)
    have h := h x2_121 ex2_121
    refine gw_goto (pc := 124) (tgt := 37) o d_M_doubt_124 (by decide) ?_
    exact gw_sub (lv' := [(0, .ref (τ.2.2 81)), (1, .int x1), (2, .int x2_121)]) [1, 2, 0] rfl (hk37 _ h)
  · have h := h.2 hc
    refine gw_aload_n (pc := 57) o d_M_doubt_57 rfl 0 rfl ?_
    refine gM_get_distance (pc := 58) o q_564 d_M_doubt_58 ?_
    refine gw_iload_n (pc := 61) o d_M_doubt_61 rfl 3 rfl ?_
    refine gw_bipush (pc := 62) (v := (16 : Int32)) o d_M_doubt_62 (by decide) ?_
    refine gw_idiv (pc := 64) o d_M_doubt_64 (by decide) ?_
    have hi := h.1
    have h := h.2
    refine gM_ald_distance (pc := 65) o hi d_M_doubt_65 ?_
    refine gw_iload_n (pc := 66) o d_M_doubt_66 rfl 2 rfl ?_
    refine gw_icmp_ne (pc := 67) (tgt := 115) o d_M_doubt_67 (by decide) (fun hc => ?_) (fun hc => ?_)
    · have h := h.2 hc
      exact gw_sub (lv' := [(0, .ref (τ.2.2 81)), (1, .int x1), (2, .int x2), (3, .int x3)]) [0, 1, 2, 3] rfl (wk_M_doubt_b115 o hk37 hk46 h)
    · have h := h.1 hc
      refine gw_iload_n (pc := 70) o d_M_doubt_70 rfl 3 rfl ?_
      refine gw_bipush (pc := 71) (v := (16 : Int32)) o d_M_doubt_71 (by decide) ?_
      refine gw_irem (pc := 73) o d_M_doubt_73 (by decide) ?_
      refine gw_aload_n (pc := 74) o d_M_doubt_74 rfl 0 rfl ?_
      refine gw_callV (pc := 75) (b := τ.2.2 81) (As := []) (st := [.int (x3 - x3 / (16 : Int32) * (16 : Int32))]) o (ct_M_choices o.hD h) mi_M_choices q_651 q_653 qs_33 0 rfl rfl (xRo_of (by omega) (by decide)) rfl rfl (Nat.le_of_ble_eq_true rfl) d_M_doubt_75 (kk_p_i rfl (fun r75 h => ?_))
      refine gw_icmp_ge (pc := 78) (tgt := 115) o d_M_doubt_78 (by decide) (fun hc => ?_) (fun hc => ?_)
      · have h := h.1 hc
        exact gw_sub (lv' := [(0, .ref (τ.2.2 81)), (1, .int x1), (2, .int x2), (3, .int x3)]) [0, 1, 2, 3] rfl (wk_M_doubt_b115 o hk37 hk46 h)
      · have h := h.2 hc
        refine gw_aload_n (pc := 81) o d_M_doubt_81 rfl 0 rfl ?_
        refine gM_get_settles (pc := 82) o q_561 d_M_doubt_82 ?_
        refine gw_iload_n (pc := 85) o d_M_doubt_85 rfl 3 rfl ?_
        have hi := h.1
        have h := h.2
        refine gM_ald_settles (pc := 86) o hi d_M_doubt_86 ?_
        refine gw_if_ne (pc := 87) (tgt := 115) o d_M_doubt_87 (by decide) (fun hc => ?_) (fun hc => ?_)
        · have h := h.2 hc
          exact gw_sub (lv' := [(0, .ref (τ.2.2 81)), (1, .int x1), (2, .int x2), (3, .int x3)]) [0, 1, 2, 3] rfl (wk_M_doubt_b115 o hk37 hk46 h)
        · have h := h.1 hc
          refine gw_iload_n (pc := 90) o d_M_doubt_90 rfl 1 rfl ?_
          refine gw_if_ne (pc := 91) (tgt := 98) o d_M_doubt_91 (by decide) (fun hc => ?_) (fun hc => ?_)
          · have h := h.2 hc
            refine gw_iload_n (pc := 98) o d_M_doubt_98 rfl 1 rfl ?_
            refine gw_iconst (pc := 99) (v := (1 : Int32)) o d_M_doubt_99 (by decide) ?_
            refine gw_icmp_ne (pc := 100) (tgt := 110) o d_M_doubt_100 (by decide) (fun hc => ?_) (fun hc => ?_)
            · have h := h.2 hc
              refine gw_iload_n (pc := 110) o d_M_doubt_110 rfl 3 rfl ?_
              refine gw_bipush (pc := 111) (v := (16 : Int32)) o d_M_doubt_111 (by decide) ?_
              refine gw_irem (pc := 113) o d_M_doubt_113 (by decide) ?_
              exact gw_sub (lv' := []) [] rfl (wk_M_doubt_b114 o h)
            · have h := h.1 hc
              refine gw_iload_n (pc := 103) o d_M_doubt_103 rfl 3 rfl ?_
              refine gw_bipush (pc := 104) (v := (16 : Int32)) o d_M_doubt_104 (by decide) ?_
              refine gw_idiv (pc := 106) o d_M_doubt_106 (by decide) ?_
              refine gw_goto (pc := 107) (tgt := 114) o d_M_doubt_107 (by decide) ?_
              exact gw_sub (lv' := []) [] rfl (wk_M_doubt_b114 o h)
          · have h := h.1 hc
            refine gw_iload_n (pc := 94) o d_M_doubt_94 rfl 2 rfl ?_
            refine gw_goto (pc := 95) (tgt := 114) o d_M_doubt_95 (by decide) ?_
            exact gw_sub (lv' := []) [] rfl (wk_M_doubt_b114 o h)
def M_doubt_L46 (Z : Int32 → xF → Prop) (k37 : Int32 → Prop) (M : xF) (J : (Nat → Int64)) (x1 : Int32) (x2 : Int32) (x3 : Int32) : Prop := LOOP1 (fun k46 x3 => M_doubt_b46 Z k37 k46 M J x1 x2 x3) x3
theorem wk_M_doubt_L46 {κ : Cx} {τ : xT} {Z : Int32 → xF → Prop} {k37 : Int32 → Prop} {M : xF} {J : (Nat → Int64)} {x1 : Int32} {x2 : Int32} {x3 : Int32} (o : OKc κ (wdM τ) 4 b_M_doubt "StateExplorerModel" (some .int) (xR 1)) (hk37 : ∀ (x2 : Int32), k37 x2 → GW κ (wdM τ) 4 (0, 0) (xMQ κ (wdM τ) (xR 1) (z1_i J Z)) (M, J) 37 [(0, .ref (τ.2.2 81)), (1, .int x1), (2, .int x2)] []) (h : M_doubt_L46 Z k37 M J x1 x2 x3) : GW κ (wdM τ) 4 (0, 0) (xMQ κ (wdM τ) (xR 1) (z1_i J Z)) (M, J) 46 [(0, .ref (τ.2.2 81)), (1, .int x1), (2, .int x2), (3, .int x3)] [] := by
  unfold M_doubt_L46 at h
  exact LOOP1.use (G := fun x3 => GW κ (wdM τ) 4 (0, 0) (xMQ κ (wdM τ) (xR 1) (z1_i J Z)) (M, J) 46 [(0, .ref (τ.2.2 81)), (1, .int x1), (2, .int x2), (3, .int x3)] []) (fun k46 x3 hk46 h => wk_M_doubt_b46 o hk37 hk46 h) h
def M_doubt_b37 (Z : Int32 → xF → Prop) (k37 : Int32 → Prop) (M : xF) (J : (Nat → Int64)) (x1 : Int32) (x2 : Int32) : Prop := (((256 : Int32) ≤ x2) → (Z (-1 : Int32) M)) ∧ (¬ ((256 : Int32) ≤ x2) → (M_doubt_L46 Z k37 M J x1 x2 (0 : Int32)))
set_option maxRecDepth 10000 in
theorem wk_M_doubt_b37 {κ : Cx} {τ : xT} {Z : Int32 → xF → Prop} {k37 : Int32 → Prop} {M : xF} {J : (Nat → Int64)} {x1 : Int32} {x2 : Int32} (o : OKc κ (wdM τ) 4 b_M_doubt "StateExplorerModel" (some .int) (xR 1)) (hk37 : ∀ (x2 : Int32), k37 x2 → GW κ (wdM τ) 4 (0, 0) (xMQ κ (wdM τ) (xR 1) (z1_i J Z)) (M, J) 37 [(0, .ref (τ.2.2 81)), (1, .int x1), (2, .int x2)] []) (h : M_doubt_b37 Z k37 M J x1 x2) : GW κ (wdM τ) 4 (0, 0) (xMQ κ (wdM τ) (xR 1) (z1_i J Z)) (M, J) 37 [(0, .ref (τ.2.2 81)), (1, .int x1), (2, .int x2)] [] := by
  unfold M_doubt_b37 at h
  refine gw_iload_n (pc := 37) o d_M_doubt_37 rfl 2 rfl ?_
  refine gw_sipush (pc := 38) (v := (256 : Int32)) o d_M_doubt_38 (by decide) ?_
  refine gw_icmp_ge (pc := 41) (tgt := 127) o d_M_doubt_41 (by decide) (fun hc => ?_) (fun hc => ?_)
  · have h := h.1 hc
    refine gw_iconst (pc := 127) (v := (-1 : Int32)) o d_M_doubt_127 (by decide) ?_
    exact gw_iret (pc := 128) o ⟨Nat.le_refl _, Nat.le_refl _⟩ (z1_i.mk h) d_M_doubt_128
  · have h := h.2 hc
    refine gw_iconst (pc := 44) (v := (0 : Int32)) o d_M_doubt_44 (by decide) ?_
    refine gw_istore_n (pc := 45) (lv' := [(3, .int (0 : Int32)), (0, .ref (τ.2.2 81)), (1, .int x1), (2, .int x2)]) o d_M_doubt_45 rfl (by decide) rfl ?_
    exact gw_sub (lv' := [(0, .ref (τ.2.2 81)), (1, .int x1), (2, .int x2), (3, .int (0 : Int32))]) [1, 2, 3, 0] rfl (wk_M_doubt_L46 o hk37 h)
def M_doubt_L37 (Z : Int32 → xF → Prop) (M : xF) (J : (Nat → Int64)) (x1 : Int32) (x2 : Int32) : Prop := LOOP1 (fun k37 x2 => M_doubt_b37 Z k37 M J x1 x2) x2
theorem wk_M_doubt_L37 {κ : Cx} {τ : xT} {Z : Int32 → xF → Prop} {M : xF} {J : (Nat → Int64)} {x1 : Int32} {x2 : Int32} (o : OKc κ (wdM τ) 4 b_M_doubt "StateExplorerModel" (some .int) (xR 1)) (h : M_doubt_L37 Z M J x1 x2) : GW κ (wdM τ) 4 (0, 0) (xMQ κ (wdM τ) (xR 1) (z1_i J Z)) (M, J) 37 [(0, .ref (τ.2.2 81)), (1, .int x1), (2, .int x2)] [] := by
  unfold M_doubt_L37 at h
  exact LOOP1.use (G := fun x2 => GW κ (wdM τ) 4 (0, 0) (xMQ κ (wdM τ) (xR 1) (z1_i J Z)) (M, J) 37 [(0, .ref (τ.2.2 81)), (1, .int x1), (2, .int x2)] []) (fun k37 x2 hk37 h => wk_M_doubt_b37 o hk37 h) h
def M_doubt_b27 (Z : Int32 → xF → Prop) (M : xF) (J : (Nat → Int64)) (x1 : Int32) (s1 : Int32) (s2 : Int32) : Prop := w_M_fails M J s1 s2 (fun r27 M_27 => ((r27 = 0) → (M_doubt_L37 Z M_27 J x1 (0 : Int32))) ∧ (¬ (r27 = 0) → (Z (0 : Int32) M_27)))
set_option maxRecDepth 10000 in
theorem wk_M_doubt_b27 {κ : Cx} {τ : xT} {Z : Int32 → xF → Prop} {M : xF} {J : (Nat → Int64)} {x1 : Int32} {s1 : Int32} {s2 : Int32} (o : OKc κ (wdM τ) 4 b_M_doubt "StateExplorerModel" (some .int) (xR 1)) (h : M_doubt_b27 Z M J x1 s1 s2) : GW κ (wdM τ) 4 (0, 0) (xMQ κ (wdM τ) (xR 1) (z1_i J Z)) (M, J) 27 [(0, .ref (τ.2.2 81)), (1, .int x1)] [.int s2, .int s1, .ref (τ.2.2 81)] := by
  unfold M_doubt_b27 at h
  refine gw_callV (pc := 27) (b := τ.2.2 81) (As := [.int s1, .int s2]) (st := []) o (ct_M_fails o.hD h) mi_M_fails q_619 q_621 qs_29 0 rfl rfl (xRo_of (by omega) (by decide)) rfl rfl (Nat.le_of_ble_eq_true rfl) d_M_doubt_27 (kk_1_i rfl (fun r27 M_27 h => ?_))
  refine gw_if_eq (pc := 30) (tgt := 35) o d_M_doubt_30 (by decide) (fun hc => ?_) (fun hc => ?_)
  · have h := h.1 hc
    refine gw_iconst (pc := 35) (v := (0 : Int32)) o d_M_doubt_35 (by decide) ?_
    refine gw_istore_n (pc := 36) (lv' := [(2, .int (0 : Int32)), (0, .ref (τ.2.2 81)), (1, .int x1)]) o d_M_doubt_36 rfl (by decide) rfl ?_
    exact gw_sub (lv' := [(0, .ref (τ.2.2 81)), (1, .int x1), (2, .int (0 : Int32))]) [1, 2, 0] rfl (wk_M_doubt_L37 o h)
  · have h := h.2 hc
    refine gw_iconst (pc := 33) (v := (0 : Int32)) o d_M_doubt_33 (by decide) ?_
    exact gw_iret (pc := 34) o ⟨Nat.le_refl _, Nat.le_refl _⟩ (z1_i.mk h) d_M_doubt_34
def M_doubt_b13 (Z : Int32 → xF → Prop) (M : xF) (J : (Nat → Int64)) (x1 : Int32) (s1 : Int32) : Prop := ((x1 < 0) → (M_doubt_b27 Z M J x1 s1 (1 : Int32))) ∧ (¬ (x1 < 0) → (((x1 ≤ (2 : Int32)) → (M_doubt_b27 Z M J x1 s1 (0 : Int32))) ∧ (¬ (x1 ≤ (2 : Int32)) → (M_doubt_b27 Z M J x1 s1 (1 : Int32)))))
set_option maxRecDepth 10000 in
theorem wk_M_doubt_b13 {κ : Cx} {τ : xT} {Z : Int32 → xF → Prop} {M : xF} {J : (Nat → Int64)} {x1 : Int32} {s1 : Int32} (o : OKc κ (wdM τ) 4 b_M_doubt "StateExplorerModel" (some .int) (xR 1)) (h : M_doubt_b13 Z M J x1 s1) : GW κ (wdM τ) 4 (0, 0) (xMQ κ (wdM τ) (xR 1) (z1_i J Z)) (M, J) 13 [(0, .ref (τ.2.2 81)), (1, .int x1)] [.int s1, .ref (τ.2.2 81)] := by
  unfold M_doubt_b13 at h
  refine gw_iload_n (pc := 13) o d_M_doubt_13 rfl 1 rfl ?_
  refine gw_if_lt (pc := 14) (tgt := 22) o d_M_doubt_14 (by decide) (fun hc => ?_) (fun hc => ?_)
  · have h := h.1 hc
    refine gw_iconst (pc := 22) (v := (1 : Int32)) o d_M_doubt_22 (by decide) ?_
    refine gw_goto (pc := 23) (tgt := 27) o d_M_doubt_23 (by decide) ?_
    exact gw_sub (lv' := [(0, .ref (τ.2.2 81)), (1, .int x1)]) [0, 1] rfl (wk_M_doubt_b27 o h)
  · have h := h.2 hc
    refine gw_iload_n (pc := 17) o d_M_doubt_17 rfl 1 rfl ?_
    refine gw_iconst (pc := 18) (v := (2 : Int32)) o d_M_doubt_18 (by decide) ?_
    refine gw_icmp_le (pc := 19) (tgt := 26) o d_M_doubt_19 (by decide) (fun hc => ?_) (fun hc => ?_)
    · have h := h.1 hc
      refine gw_iconst (pc := 26) (v := (0 : Int32)) o d_M_doubt_26 (by decide) ?_
      exact gw_sub (lv' := [(0, .ref (τ.2.2 81)), (1, .int x1)]) [0, 1] rfl (wk_M_doubt_b27 o h)
    · have h := h.2 hc
      refine gw_iconst (pc := 22) (v := (1 : Int32)) o d_M_doubt_22 (by decide) ?_
      refine gw_goto (pc := 23) (tgt := 27) o d_M_doubt_23 (by decide) ?_
      exact gw_sub (lv' := [(0, .ref (τ.2.2 81)), (1, .int x1)]) [0, 1] rfl (wk_M_doubt_b27 o h)
def M_doubt_b0 (Z : Int32 → xF → Prop) (M : xF) (J : (Nat → Int64)) (x1 : Int32) : Prop := (((M 21 14) = 0) → (M_doubt_b13 Z M J x1 (1 : Int32))) ∧ (¬ ((M 21 14) = 0) → (M_doubt_b13 Z M J x1 (0 : Int32)))
set_option maxRecDepth 10000 in
theorem wk_M_doubt_b0 {κ : Cx} {τ : xT} {Z : Int32 → xF → Prop} {M : xF} {J : (Nat → Int64)} {x1 : Int32} (o : OKc κ (wdM τ) 4 b_M_doubt "StateExplorerModel" (some .int) (xR 1)) (h : M_doubt_b0 Z M J x1) : GW κ (wdM τ) 4 (0, 0) (xMQ κ (wdM τ) (xR 1) (z1_i J Z)) (M, J) 0 [(0, .ref (τ.2.2 81)), (1, .int x1)] [] := by
  unfold M_doubt_b0 at h
  refine gw_aload_n (pc := 0) o d_M_doubt_0 rfl 0 rfl ?_
  refine gw_aload_n (pc := 1) o d_M_doubt_1 rfl 0 rfl ?_
  refine gM_get_explored (pc := 2) o q_560 d_M_doubt_2 ?_
  refine gw_if_ne (pc := 5) (tgt := 12) o d_M_doubt_5 (by decide) (fun hc => ?_) (fun hc => ?_)
  · have h := h.2 hc
    refine gw_iconst (pc := 12) (v := (0 : Int32)) o d_M_doubt_12 (by decide) ?_
    exact gw_sub (lv' := [(0, .ref (τ.2.2 81)), (1, .int x1)]) [0, 1] rfl (wk_M_doubt_b13 o h)
  · have h := h.1 hc
    refine gw_iconst (pc := 8) (v := (1 : Int32)) o d_M_doubt_8 (by decide) ?_
    refine gw_goto (pc := 9) (tgt := 13) o d_M_doubt_9 (by decide) ?_
    exact gw_sub (lv' := [(0, .ref (τ.2.2 81)), (1, .int x1)]) [0, 1] rfl (wk_M_doubt_b13 o h)
def w_M_doubt  (M : xF) (J : (Nat → Int64)) (x1 : Int32) (Z : Int32 → xF → Prop) : Prop := M_doubt_b0  Z M J x1
theorem ct_M_doubt {l : Launch} {τ : xT} {M : xF} {J : (Nat → Int64)} {x1 : Int32} {Z : Int32 → xF → Prop} (hD : xD (wdM τ)) (h : w_M_doubt  M J x1 Z) : CT l (wdM τ) y_M_doubt (.code y_M_doubt b_M_doubt 4 (some .int)) (xR 1) [.ref (τ.2.2 81), .int x1] (M, J) (z1_i J Z) := by
  subst_vars
  exact CT.of (by decide) (Nat.le_of_ble_eq_true rfl) hD (fun κ hl ha o => gw_sub (lv' := [(0, .ref (τ.2.2 81)), (1, .int x1)]) [0, 1] rfl (wk_M_doubt_b0 o h))
