/-! walks, printed by mk.py -/
def X_alike_b64 (Z : Int32 → Prop) (k2 : Int32 → Prop) (E : xF) (N : xF) (x1 : Int32) (x2 : Int32) (x3 : Int32) : Prop := ∀ x3_64 : Int32, x3_64 = x3 + (1 : Int32) → (k2 x3_64)
set_option maxRecDepth 10000 in
theorem wk_X_alike_b64 {κ : Cx} {τ : xT} {Z : Int32 → Prop} {k2 : Int32 → Prop} {E : xF} {N : xF} {x1 : Int32} {x2 : Int32} {x3 : Int32} (o : OKc κ (wdX τ) 5 b_X_alike "StateExplorer" (some .boolean) (xR 3)) (hk2 : ∀ (x3 : Int32), k2 x3 → GW κ (wdX τ) 5 (0, 0) (xMQ κ (wdX τ) (xR 3) (zp_i (E, N) Z)) (E, N) 2 [(0, .ref (τ.2.2 30)), (1, .int x1), (2, .int x2), (3, .int x3)] []) (h : X_alike_b64 Z k2 E N x1 x2 x3) : GW κ (wdX τ) 5 (0, 0) (xMQ κ (wdX τ) (xR 3) (zp_i (E, N) Z)) (E, N) 64 [(0, .ref (τ.2.2 30)), (1, .int x1), (2, .int x2), (3, .int x3)] [] := by
  unfold X_alike_b64 at h
  refine gw_iincN (pc := 64) (c := (1 : Int32)) (lw := fun x3_64 => [(3, .int x3_64), (0, .ref (τ.2.2 30)), (1, .int x1), (2, .int x2)]) o d_X_alike_64 (by decide) 3 rfl (by decide) (fun _ => rfl) (fun x3_64 ex3_64 => ?_)
  have h := h x3_64 ex3_64
  refine gw_goto (pc := 67) (tgt := 2) o d_X_alike_67 (by decide) ?_
  exact gw_sub (lv' := [(0, .ref (τ.2.2 30)), (1, .int x1), (2, .int x2), (3, .int x3_64)]) [1, 2, 3, 0] rfl (hk2 _ h)
def X_alike_b2 (Z : Int32 → Prop) (k2 : Int32 → Prop) (E : xF) (N : xF) (x1 : Int32) (x2 : Int32) (x3 : Int32) : Prop := ((((1 : Int32) <<< ((E 30 3) &&& 31)) ≤ x3) → (Z (1 : Int32))) ∧ (¬ (((1 : Int32) <<< ((E 30 3) &&& 31)) ≤ x3) → (w_X_seen E N x1 x3 (fun r15 => w_X_seen E N x2 x3 (fun r25 => ((r15 = r25) → (((r15 = (-1 : Int32)) → (X_alike_b64 Z k2 E N x1 x2 x3)) ∧ (¬ (r15 = (-1 : Int32)) → (w_X_nextOf E N x1 x3 (fun r44 => vp_in r44 256 ∧ (w_X_nextOf E N x2 x3 (fun r55 => vp_in r55 256 ∧ ((((E 18 r44.toNatClampNeg) = (E 18 r55.toNatClampNeg)) → (X_alike_b64 Z k2 E N x1 x2 x3)) ∧ (¬ ((E 18 r44.toNatClampNeg) = (E 18 r55.toNatClampNeg)) → (Z (0 : Int32))))))))))) ∧ (¬ (r15 = r25) → (Z (0 : Int32)))))))
set_option maxRecDepth 10000 in
theorem wk_X_alike_b2 {κ : Cx} {τ : xT} {Z : Int32 → Prop} {k2 : Int32 → Prop} {E : xF} {N : xF} {x1 : Int32} {x2 : Int32} {x3 : Int32} (o : OKc κ (wdX τ) 5 b_X_alike "StateExplorer" (some .boolean) (xR 3)) (hk2 : ∀ (x3 : Int32), k2 x3 → GW κ (wdX τ) 5 (0, 0) (xMQ κ (wdX τ) (xR 3) (zp_i (E, N) Z)) (E, N) 2 [(0, .ref (τ.2.2 30)), (1, .int x1), (2, .int x2), (3, .int x3)] []) (h : X_alike_b2 Z k2 E N x1 x2 x3) : GW κ (wdX τ) 5 (0, 0) (xMQ κ (wdX τ) (xR 3) (zp_i (E, N) Z)) (E, N) 2 [(0, .ref (τ.2.2 30)), (1, .int x1), (2, .int x2), (3, .int x3)] [] := by
  unfold X_alike_b2 at h
  refine gw_iload_n (pc := 2) o d_X_alike_2 rfl 3 rfl ?_
  refine gw_iconst (pc := 3) (v := (1 : Int32)) o d_X_alike_3 (by decide) ?_
  refine gw_aload_n (pc := 4) o d_X_alike_4 rfl 0 rfl ?_
  refine gE_get_inputs (pc := 5) o q_83 d_X_alike_5 ?_
  refine gw_ishl (pc := 8) o d_X_alike_8 ?_
  refine gw_icmp_ge (pc := 9) (tgt := 70) o d_X_alike_9 (by decide) (fun hc => ?_) (fun hc => ?_)
  · have h := h.1 hc
    refine gw_iconst (pc := 70) (v := (1 : Int32)) o d_X_alike_70 (by decide) ?_
    exact gw_zret (pc := 71) o ⟨Nat.le_refl _, Nat.le_refl _⟩ (by decide) (zp_i.mk h) d_X_alike_71
  · have h := h.2 hc
    refine gw_aload_n (pc := 12) o d_X_alike_12 rfl 0 rfl ?_
    refine gw_iload_n (pc := 13) o d_X_alike_13 rfl 1 rfl ?_
    refine gw_iload_n (pc := 14) o d_X_alike_14 rfl 3 rfl ?_
    refine gw_callV (pc := 15) (b := τ.2.2 30) (As := [.int x1, .int x3]) (st := []) o (ct_X_seen o.hD h) mi_X_seen q_309 q_311 qs_18 0 rfl rfl (xRo_of (by omega) (by decide)) rfl rfl (Nat.le_of_ble_eq_true rfl) d_X_alike_15 (kk_p_i rfl (fun r15 h => ?_))
    refine gw_istore (pc := 18) (lv' := [(4, .int r15), (0, .ref (τ.2.2 30)), (1, .int x1), (2, .int x2), (3, .int x3)]) o d_X_alike_18 (by decide) rfl ?_
    refine gw_iload (pc := 20) o d_X_alike_20 0 rfl ?_
    refine gw_aload_n (pc := 22) o d_X_alike_22 rfl 1 rfl ?_
    refine gw_iload_n (pc := 23) o d_X_alike_23 rfl 3 rfl ?_
    refine gw_iload_n (pc := 24) o d_X_alike_24 rfl 4 rfl ?_
    refine gw_callV (pc := 25) (b := τ.2.2 30) (As := [.int x2, .int x3]) (st := [.int r15]) o (ct_X_seen o.hD h) mi_X_seen q_309 q_311 qs_18 0 rfl rfl (xRo_of (by omega) (by decide)) rfl rfl (Nat.le_of_ble_eq_true rfl) d_X_alike_25 (kk_p_i rfl (fun r25 h => ?_))
    refine gw_icmp_ne (pc := 28) (tgt := 62) o d_X_alike_28 (by decide) (fun hc => ?_) (fun hc => ?_)
    · have h := h.2 hc
      refine gw_iconst (pc := 62) (v := (0 : Int32)) o d_X_alike_62 (by decide) ?_
      exact gw_zret (pc := 63) o ⟨Nat.le_refl _, Nat.le_refl _⟩ (by decide) (zp_i.mk h) d_X_alike_63
    · have h := h.1 hc
      refine gw_iload (pc := 31) o d_X_alike_31 0 rfl ?_
      refine gw_iconst (pc := 33) (v := (-1 : Int32)) o d_X_alike_33 (by decide) ?_
      refine gw_icmp_eq (pc := 34) (tgt := 64) o d_X_alike_34 (by decide) (fun hc => ?_) (fun hc => ?_)
      · have h := h.1 hc
        exact gw_sub (lv' := [(0, .ref (τ.2.2 30)), (1, .int x1), (2, .int x2), (3, .int x3)]) [1, 2, 3, 4] rfl (wk_X_alike_b64 o hk2 h)
      · have h := h.2 hc
        refine gw_aload_n (pc := 37) o d_X_alike_37 rfl 1 rfl ?_
        refine gE_get_groups (pc := 38) o q_98 d_X_alike_38 ?_
        refine gw_aload_n (pc := 41) o d_X_alike_41 rfl 1 rfl ?_
        refine gw_iload_n (pc := 42) o d_X_alike_42 rfl 2 rfl ?_
        refine gw_iload_n (pc := 43) o d_X_alike_43 rfl 4 rfl ?_
        refine gw_callV (pc := 44) (b := τ.2.2 30) (As := [.int x1, .int x3]) (st := [.ref (τ.2.2 18)]) o (ct_X_nextOf o.hD h) mi_X_nextOf q_313 q_315 qs_19 0 rfl rfl (xRo_of (by omega) (by decide)) rfl rfl (Nat.le_of_ble_eq_true rfl) d_X_alike_44 (kk_p_i rfl (fun r44 h => ?_))
        have hi := h.1
        have h := h.2
        refine gE_ald_groups (pc := 47) o hi d_X_alike_47 ?_
        refine gw_aload_n (pc := 48) o d_X_alike_48 rfl 1 rfl ?_
        refine gE_get_groups (pc := 49) o q_98 d_X_alike_49 ?_
        refine gw_aload_n (pc := 52) o d_X_alike_52 rfl 1 rfl ?_
        refine gw_iload_n (pc := 53) o d_X_alike_53 rfl 3 rfl ?_
        refine gw_iload_n (pc := 54) o d_X_alike_54 rfl 4 rfl ?_
        refine gw_callV (pc := 55) (b := τ.2.2 30) (As := [.int x2, .int x3]) (st := [.ref (τ.2.2 18), .int (E 18 r44.toNatClampNeg)]) o (ct_X_nextOf o.hD h) mi_X_nextOf q_313 q_315 qs_19 0 rfl rfl (xRo_of (by omega) (by decide)) rfl rfl (Nat.le_of_ble_eq_true rfl) d_X_alike_55 (kk_p_i rfl (fun r55 h => ?_))
        have hi := h.1
        have h := h.2
        refine gE_ald_groups (pc := 58) o hi d_X_alike_58 ?_
        refine gw_icmp_eq (pc := 59) (tgt := 64) o d_X_alike_59 (by decide) (fun hc => ?_) (fun hc => ?_)
        · have h := h.1 hc
          exact gw_sub (lv' := [(0, .ref (τ.2.2 30)), (1, .int x1), (2, .int x2), (3, .int x3)]) [1, 2, 3, 4] rfl (wk_X_alike_b64 o hk2 h)
        · have h := h.2 hc
          refine gw_iconst (pc := 62) (v := (0 : Int32)) o d_X_alike_62 (by decide) ?_
          exact gw_zret (pc := 63) o ⟨Nat.le_refl _, Nat.le_refl _⟩ (by decide) (zp_i.mk h) d_X_alike_63
def X_alike_L2 (Z : Int32 → Prop) (E : xF) (N : xF) (x1 : Int32) (x2 : Int32) (x3 : Int32) : Prop := LOOP1 (fun k2 x3 => X_alike_b2 Z k2 E N x1 x2 x3) x3
theorem wk_X_alike_L2 {κ : Cx} {τ : xT} {Z : Int32 → Prop} {E : xF} {N : xF} {x1 : Int32} {x2 : Int32} {x3 : Int32} (o : OKc κ (wdX τ) 5 b_X_alike "StateExplorer" (some .boolean) (xR 3)) (h : X_alike_L2 Z E N x1 x2 x3) : GW κ (wdX τ) 5 (0, 0) (xMQ κ (wdX τ) (xR 3) (zp_i (E, N) Z)) (E, N) 2 [(0, .ref (τ.2.2 30)), (1, .int x1), (2, .int x2), (3, .int x3)] [] := by
  unfold X_alike_L2 at h
  exact LOOP1.use (G := fun x3 => GW κ (wdX τ) 5 (0, 0) (xMQ κ (wdX τ) (xR 3) (zp_i (E, N) Z)) (E, N) 2 [(0, .ref (τ.2.2 30)), (1, .int x1), (2, .int x2), (3, .int x3)] []) (fun k2 x3 hk2 h => wk_X_alike_b2 o hk2 h) h
def X_alike_b0 (Z : Int32 → Prop) (E : xF) (N : xF) (x1 : Int32) (x2 : Int32) : Prop := X_alike_L2 Z E N x1 x2 (0 : Int32)
set_option maxRecDepth 10000 in
theorem wk_X_alike_b0 {κ : Cx} {τ : xT} {Z : Int32 → Prop} {E : xF} {N : xF} {x1 : Int32} {x2 : Int32} (o : OKc κ (wdX τ) 5 b_X_alike "StateExplorer" (some .boolean) (xR 3)) (h : X_alike_b0 Z E N x1 x2) : GW κ (wdX τ) 5 (0, 0) (xMQ κ (wdX τ) (xR 3) (zp_i (E, N) Z)) (E, N) 0 [(0, .ref (τ.2.2 30)), (1, .int x1), (2, .int x2)] [] := by
  unfold X_alike_b0 at h
  refine gw_iconst (pc := 0) (v := (0 : Int32)) o d_X_alike_0 (by decide) ?_
  refine gw_istore_n (pc := 1) (lv' := [(3, .int (0 : Int32)), (0, .ref (τ.2.2 30)), (1, .int x1), (2, .int x2)]) o d_X_alike_1 rfl (by decide) rfl ?_
  exact gw_sub (lv' := [(0, .ref (τ.2.2 30)), (1, .int x1), (2, .int x2), (3, .int (0 : Int32))]) [1, 2, 3, 0] rfl (wk_X_alike_L2 o h)
def w_X_alike  (E : xF) (N : xF) (x1 : Int32) (x2 : Int32) (Z : Int32 → Prop) : Prop := X_alike_b0  Z E N x1 x2
theorem ct_X_alike {l : Launch} {τ : xT} {E : xF} {N : xF} {x1 : Int32} {x2 : Int32} {Z : Int32 → Prop} (hD : xD (wdX τ)) (h : w_X_alike  E N x1 x2 Z) : CT l (wdX τ) y_X_alike (.code y_X_alike b_X_alike 5 (some .boolean)) (xR 3) [.ref (τ.2.2 30), .int x1, .int x2] (E, N) (zp_i (E, N) Z) := by
  subst_vars
  exact CT.of (by decide) (Nat.le_of_ble_eq_true rfl) hD (fun κ hl ha o => gw_sub (lv' := [(0, .ref (τ.2.2 30)), (1, .int x1), (2, .int x2)]) [0, 1, 2] rfl (wk_X_alike_b0 o h))
def X_gather_b34 (Z : xF → Prop) (k4 : Int32 → xF → Prop) (E : xF) (N : xF) (x1 : Int32) (x2 : Int32) (s1 : Int32) (s2 : Int32) : Prop := vp_in s1 256 ∧ (∀ E_34 : xF, E_34 = xs E 18 s1.toNatClampNeg s2 → (∀ x2_35 : Int32, x2_35 = x2 + (1 : Int32) → (k4 x2_35 E_34)))
set_option maxRecDepth 10000 in
theorem wk_X_gather_b34 {κ : Cx} {τ : xT} {Z : xF → Prop} {k4 : Int32 → xF → Prop} {E : xF} {N : xF} {x1 : Int32} {x2 : Int32} {s1 : Int32} {s2 : Int32} (o : OKc κ (wdX τ) 4 b_X_gather "StateExplorer" none (xR 4)) (hk4 : ∀ (x2 : Int32) (E : xF), k4 x2 E → GW κ (wdX τ) 4 (0, 0) (xMQ κ (wdX τ) (xR 4) (z1_v N Z)) (E, N) 4 [(0, .ref (τ.2.2 30)), (1, .int x1), (2, .int x2)] []) (h : X_gather_b34 Z k4 E N x1 x2 s1 s2) : GW κ (wdX τ) 4 (0, 0) (xMQ κ (wdX τ) (xR 4) (z1_v N Z)) (E, N) 34 [(0, .ref (τ.2.2 30)), (1, .int x1), (2, .int x2)] [.int s2, .int s1, .ref (τ.2.2 18)] := by
  unfold X_gather_b34 at h
  have hi := h.1
  have h := h.2
  refine gE_ast_groups (pc := 34) o hi d_X_gather_34 (fun E_34 eE_34 => ?_)
  have h := h E_34 eE_34
  refine gw_iincN (pc := 35) (c := (1 : Int32)) (lw := fun x2_35 => [(2, .int x2_35), (0, .ref (τ.2.2 30)), (1, .int x1)]) o d_X_gather_35 (by decide) 2 rfl (by decide) (fun _ => rfl) (fun x2_35 ex2_35 => ?_)
  have h := h x2_35 ex2_35
  refine gw_goto (pc := 38) (tgt := 4) o d_X_gather_38 (by decide) ?_
  exact gw_sub (lv' := [(0, .ref (τ.2.2 30)), (1, .int x1), (2, .int x2_35)]) [1, 2, 0] rfl (hk4 _ _ h)
def X_gather_b147 (Z : xF → Prop) (k46 : Int32 → xF → Prop) (k66 : Int32 → xF → Prop) (k108 : Int32 → Prop) (E : xF) (N : xF) (x1 : Int32) (x2 : Int32) (x3 : Int32) : Prop := ∀ x3_147 : Int32, x3_147 = x3 + (1 : Int32) → (k108 x3_147)
set_option maxRecDepth 10000 in
theorem wk_X_gather_b147 {κ : Cx} {τ : xT} {Z : xF → Prop} {k46 : Int32 → xF → Prop} {k66 : Int32 → xF → Prop} {k108 : Int32 → Prop} {E : xF} {N : xF} {x1 : Int32} {x2 : Int32} {x3 : Int32} (o : OKc κ (wdX τ) 4 b_X_gather "StateExplorer" none (xR 4)) (hk46 : ∀ (x1 : Int32) (E : xF), k46 x1 E → GW κ (wdX τ) 4 (0, 0) (xMQ κ (wdX τ) (xR 4) (z1_v N Z)) (E, N) 46 [(0, .ref (τ.2.2 30)), (1, .int x1)] []) (hk66 : ∀ (x2 : Int32) (E : xF), k66 x2 E → GW κ (wdX τ) 4 (0, 0) (xMQ κ (wdX τ) (xR 4) (z1_v N Z)) (E, N) 66 [(0, .ref (τ.2.2 30)), (1, .int x1), (2, .int x2)] []) (hk108 : ∀ (x3 : Int32), k108 x3 → GW κ (wdX τ) 4 (0, 0) (xMQ κ (wdX τ) (xR 4) (z1_v N Z)) (E, N) 108 [(0, .ref (τ.2.2 30)), (1, .int x1), (2, .int x2), (3, .int x3)] []) (h : X_gather_b147 Z k46 k66 k108 E N x1 x2 x3) : GW κ (wdX τ) 4 (0, 0) (xMQ κ (wdX τ) (xR 4) (z1_v N Z)) (E, N) 147 [(0, .ref (τ.2.2 30)), (1, .int x1), (2, .int x2), (3, .int x3)] [] := by
  unfold X_gather_b147 at h
  refine gw_iincN (pc := 147) (c := (1 : Int32)) (lw := fun x3_147 => [(3, .int x3_147), (0, .ref (τ.2.2 30)), (1, .int x1), (2, .int x2)]) o d_X_gather_147 (by decide) 3 rfl (by decide) (fun _ => rfl) (fun x3_147 ex3_147 => ?_)
  have h := h x3_147 ex3_147
  refine gw_goto (pc := 150) (tgt := 108) o d_X_gather_150 (by decide) ?_
  exact gw_sub (lv' := [(0, .ref (τ.2.2 30)), (1, .int x1), (2, .int x2), (3, .int x3_147)]) [1, 2, 3, 0] rfl (hk108 _ h)
def X_gather_b179 (Z : xF → Prop) (k46 : Int32 → xF → Prop) (k66 : Int32 → xF → Prop) (E : xF) (N : xF) (x1 : Int32) (x2 : Int32) : Prop := ∀ x2_179 : Int32, x2_179 = x2 + (1 : Int32) → (k66 x2_179 E)
set_option maxRecDepth 10000 in
theorem wk_X_gather_b179 {κ : Cx} {τ : xT} {Z : xF → Prop} {k46 : Int32 → xF → Prop} {k66 : Int32 → xF → Prop} {E : xF} {N : xF} {x1 : Int32} {x2 : Int32} (o : OKc κ (wdX τ) 4 b_X_gather "StateExplorer" none (xR 4)) (hk46 : ∀ (x1 : Int32) (E : xF), k46 x1 E → GW κ (wdX τ) 4 (0, 0) (xMQ κ (wdX τ) (xR 4) (z1_v N Z)) (E, N) 46 [(0, .ref (τ.2.2 30)), (1, .int x1)] []) (hk66 : ∀ (x2 : Int32) (E : xF), k66 x2 E → GW κ (wdX τ) 4 (0, 0) (xMQ κ (wdX τ) (xR 4) (z1_v N Z)) (E, N) 66 [(0, .ref (τ.2.2 30)), (1, .int x1), (2, .int x2)] []) (h : X_gather_b179 Z k46 k66 E N x1 x2) : GW κ (wdX τ) 4 (0, 0) (xMQ κ (wdX τ) (xR 4) (z1_v N Z)) (E, N) 179 [(0, .ref (τ.2.2 30)), (1, .int x1), (2, .int x2)] [] := by
  unfold X_gather_b179 at h
  refine gw_iincN (pc := 179) (c := (1 : Int32)) (lw := fun x2_179 => [(2, .int x2_179), (0, .ref (τ.2.2 30)), (1, .int x1)]) o d_X_gather_179 (by decide) 2 rfl (by decide) (fun _ => rfl) (fun x2_179 ex2_179 => ?_)
  have h := h x2_179 ex2_179
  refine gw_goto (pc := 182) (tgt := 66) o d_X_gather_182 (by decide) ?_
  exact gw_sub (lv' := [(0, .ref (τ.2.2 30)), (1, .int x1), (2, .int x2_179)]) [1, 2, 0] rfl (hk66 _ _ h)
def X_gather_b175 (Z : xF → Prop) (k46 : Int32 → xF → Prop) (k66 : Int32 → xF → Prop) (E : xF) (N : xF) (x1 : Int32) (x2 : Int32) (s1 : Int32) (s2 : Int32) : Prop := ∀ E_176 : xF, E_176 = xs E 30 23 (s1 + s2) → (X_gather_b179 Z k46 k66 E_176 N x1 x2)
set_option maxRecDepth 10000 in
theorem wk_X_gather_b175 {κ : Cx} {τ : xT} {Z : xF → Prop} {k46 : Int32 → xF → Prop} {k66 : Int32 → xF → Prop} {E : xF} {N : xF} {x1 : Int32} {x2 : Int32} {s1 : Int32} {s2 : Int32} (o : OKc κ (wdX τ) 4 b_X_gather "StateExplorer" none (xR 4)) (hk46 : ∀ (x1 : Int32) (E : xF), k46 x1 E → GW κ (wdX τ) 4 (0, 0) (xMQ κ (wdX τ) (xR 4) (z1_v N Z)) (E, N) 46 [(0, .ref (τ.2.2 30)), (1, .int x1)] []) (hk66 : ∀ (x2 : Int32) (E : xF), k66 x2 E → GW κ (wdX τ) 4 (0, 0) (xMQ κ (wdX τ) (xR 4) (z1_v N Z)) (E, N) 66 [(0, .ref (τ.2.2 30)), (1, .int x1), (2, .int x2)] []) (h : X_gather_b175 Z k46 k66 E N x1 x2 s1 s2) : GW κ (wdX τ) 4 (0, 0) (xMQ κ (wdX τ) (xR 4) (z1_v N Z)) (E, N) 175 [(0, .ref (τ.2.2 30)), (1, .int x1), (2, .int x2)] [.int s2, .int s1, .ref (τ.2.2 30)] := by
  unfold X_gather_b175 at h
  refine gw_iadd (pc := 175) o d_X_gather_175 ?_
  refine gE_put_grouped (pc := 176) o q_103 d_X_gather_176 (fun E_176 eE_176 => ?_)
  have h := h E_176 eE_176
  exact gw_sub (lv' := [(0, .ref (τ.2.2 30)), (1, .int x1), (2, .int x2)]) [0, 1, 2] rfl (wk_X_gather_b179 o hk46 hk66 h)
def X_gather_b153 (Z : xF → Prop) (k46 : Int32 → xF → Prop) (k66 : Int32 → xF → Prop) (E : xF) (N : xF) (x1 : Int32) (x2 : Int32) (x3 : Int32) : Prop := vp_in x2 256 ∧ (∀ E_159 : xF, E_159 = xs E 19 x2.toNatClampNeg x3 → (((x3 = x2) → (X_gather_b175 Z k46 k66 E_159 N x1 x2 (E_159 30 23) (1 : Int32))) ∧ (¬ (x3 = x2) → (X_gather_b175 Z k46 k66 E_159 N x1 x2 (E_159 30 23) (0 : Int32)))))
set_option maxRecDepth 10000 in
theorem wk_X_gather_b153 {κ : Cx} {τ : xT} {Z : xF → Prop} {k46 : Int32 → xF → Prop} {k66 : Int32 → xF → Prop} {E : xF} {N : xF} {x1 : Int32} {x2 : Int32} {x3 : Int32} (o : OKc κ (wdX τ) 4 b_X_gather "StateExplorer" none (xR 4)) (hk46 : ∀ (x1 : Int32) (E : xF), k46 x1 E → GW κ (wdX τ) 4 (0, 0) (xMQ κ (wdX τ) (xR 4) (z1_v N Z)) (E, N) 46 [(0, .ref (τ.2.2 30)), (1, .int x1)] []) (hk66 : ∀ (x2 : Int32) (E : xF), k66 x2 E → GW κ (wdX τ) 4 (0, 0) (xMQ κ (wdX τ) (xR 4) (z1_v N Z)) (E, N) 66 [(0, .ref (τ.2.2 30)), (1, .int x1), (2, .int x2)] []) (h : X_gather_b153 Z k46 k66 E N x1 x2 x3) : GW κ (wdX τ) 4 (0, 0) (xMQ κ (wdX τ) (xR 4) (z1_v N Z)) (E, N) 153 [(0, .ref (τ.2.2 30)), (1, .int x1), (2, .int x2), (3, .int x3)] [] := by
  unfold X_gather_b153 at h
  refine gw_aload_n (pc := 153) o d_X_gather_153 rfl 0 rfl ?_
  refine gE_get_fresh (pc := 154) o q_99 d_X_gather_154 ?_
  refine gw_iload_n (pc := 157) o d_X_gather_157 rfl 2 rfl ?_
  refine gw_iload_n (pc := 158) o d_X_gather_158 rfl 3 rfl ?_
  have hi := h.1
  have h := h.2
  refine gE_ast_fresh (pc := 159) o hi d_X_gather_159 (fun E_159 eE_159 => ?_)
  have h := h E_159 eE_159
  refine gw_aload_n (pc := 160) o d_X_gather_160 rfl 0 rfl ?_
  refine gw_dup (pc := 161) o d_X_gather_161 rfl ?_
  refine gE_get_grouped (pc := 162) o q_103 d_X_gather_162 ?_
  refine gw_iload_n (pc := 165) o d_X_gather_165 rfl 3 rfl ?_
  refine gw_iload_n (pc := 166) o d_X_gather_166 rfl 2 rfl ?_
  refine gw_icmp_ne (pc := 167) (tgt := 174) o d_X_gather_167 (by decide) (fun hc => ?_) (fun hc => ?_)
  · have h := h.2 hc
    refine gw_iconst (pc := 174) (v := (0 : Int32)) o d_X_gather_174 (by decide) ?_
    exact gw_sub (lv' := [(0, .ref (τ.2.2 30)), (1, .int x1), (2, .int x2)]) [0, 1, 2] rfl (wk_X_gather_b175 o hk46 hk66 h)
  · have h := h.1 hc
    refine gw_iconst (pc := 170) (v := (1 : Int32)) o d_X_gather_170 (by decide) ?_
    refine gw_goto (pc := 171) (tgt := 175) o d_X_gather_171 (by decide) ?_
    exact gw_sub (lv' := [(0, .ref (τ.2.2 30)), (1, .int x1), (2, .int x2)]) [0, 1, 2] rfl (wk_X_gather_b175 o hk46 hk66 h)
def X_gather_b108 (Z : xF → Prop) (k46 : Int32 → xF → Prop) (k66 : Int32 → xF → Prop) (k108 : Int32 → Prop) (E : xF) (N : xF) (x1 : Int32) (x2 : Int32) (x3 : Int32) : Prop := ((x2 ≤ x3) → (X_gather_b153 Z k46 k66 E N x1 x2 x3)) ∧ (¬ (x2 ≤ x3) → (vp_in x3 256 ∧ (vp_in x2 256 ∧ ((((E 18 x3.toNatClampNeg) = (E 18 x2.toNatClampNeg)) → (vp_in x3 256 ∧ ((((E 19 x3.toNatClampNeg) = x3) → (w_X_alike E N x3 x2 (fun r141 => ((r141 = 0) → (X_gather_b147 Z k46 k66 k108 E N x1 x2 x3)) ∧ (¬ (r141 = 0) → (X_gather_b153 Z k46 k66 E N x1 x2 x3))))) ∧ (¬ ((E 19 x3.toNatClampNeg) = x3) → (X_gather_b147 Z k46 k66 k108 E N x1 x2 x3))))) ∧ (¬ ((E 18 x3.toNatClampNeg) = (E 18 x2.toNatClampNeg)) → (X_gather_b147 Z k46 k66 k108 E N x1 x2 x3))))))
set_option maxRecDepth 10000 in
theorem wk_X_gather_b108 {κ : Cx} {τ : xT} {Z : xF → Prop} {k46 : Int32 → xF → Prop} {k66 : Int32 → xF → Prop} {k108 : Int32 → Prop} {E : xF} {N : xF} {x1 : Int32} {x2 : Int32} {x3 : Int32} (o : OKc κ (wdX τ) 4 b_X_gather "StateExplorer" none (xR 4)) (hk46 : ∀ (x1 : Int32) (E : xF), k46 x1 E → GW κ (wdX τ) 4 (0, 0) (xMQ κ (wdX τ) (xR 4) (z1_v N Z)) (E, N) 46 [(0, .ref (τ.2.2 30)), (1, .int x1)] []) (hk66 : ∀ (x2 : Int32) (E : xF), k66 x2 E → GW κ (wdX τ) 4 (0, 0) (xMQ κ (wdX τ) (xR 4) (z1_v N Z)) (E, N) 66 [(0, .ref (τ.2.2 30)), (1, .int x1), (2, .int x2)] []) (hk108 : ∀ (x3 : Int32), k108 x3 → GW κ (wdX τ) 4 (0, 0) (xMQ κ (wdX τ) (xR 4) (z1_v N Z)) (E, N) 108 [(0, .ref (τ.2.2 30)), (1, .int x1), (2, .int x2), (3, .int x3)] []) (h : X_gather_b108 Z k46 k66 k108 E N x1 x2 x3) : GW κ (wdX τ) 4 (0, 0) (xMQ κ (wdX τ) (xR 4) (z1_v N Z)) (E, N) 108 [(0, .ref (τ.2.2 30)), (1, .int x1), (2, .int x2), (3, .int x3)] [] := by
  unfold X_gather_b108 at h
  refine gw_iload_n (pc := 108) o d_X_gather_108 rfl 3 rfl ?_
  refine gw_iload_n (pc := 109) o d_X_gather_109 rfl 2 rfl ?_
  refine gw_icmp_ge (pc := 110) (tgt := 153) o d_X_gather_110 (by decide) (fun hc => ?_) (fun hc => ?_)
  · have h := h.1 hc
    exact gw_sub (lv' := [(0, .ref (τ.2.2 30)), (1, .int x1), (2, .int x2), (3, .int x3)]) [0, 1, 2, 3] rfl (wk_X_gather_b153 o hk46 hk66 h)
  · have h := h.2 hc
    refine gw_aload_n (pc := 113) o d_X_gather_113 rfl 0 rfl ?_
    refine gE_get_groups (pc := 114) o q_98 d_X_gather_114 ?_
    refine gw_iload_n (pc := 117) o d_X_gather_117 rfl 3 rfl ?_
    have hi := h.1
    have h := h.2
    refine gE_ald_groups (pc := 118) o hi d_X_gather_118 ?_
    refine gw_aload_n (pc := 119) o d_X_gather_119 rfl 0 rfl ?_
    refine gE_get_groups (pc := 120) o q_98 d_X_gather_120 ?_
    refine gw_iload_n (pc := 123) o d_X_gather_123 rfl 2 rfl ?_
    have hi := h.1
    have h := h.2
    refine gE_ald_groups (pc := 124) o hi d_X_gather_124 ?_
    refine gw_icmp_ne (pc := 125) (tgt := 147) o d_X_gather_125 (by decide) (fun hc => ?_) (fun hc => ?_)
    · have h := h.2 hc
      exact gw_sub (lv' := [(0, .ref (τ.2.2 30)), (1, .int x1), (2, .int x2), (3, .int x3)]) [0, 1, 2, 3] rfl (wk_X_gather_b147 o hk46 hk66 hk108 h)
    · have h := h.1 hc
      refine gw_aload_n (pc := 128) o d_X_gather_128 rfl 0 rfl ?_
      refine gE_get_fresh (pc := 129) o q_99 d_X_gather_129 ?_
      refine gw_iload_n (pc := 132) o d_X_gather_132 rfl 3 rfl ?_
      have hi := h.1
      have h := h.2
      refine gE_ald_fresh (pc := 133) o hi d_X_gather_133 ?_
      refine gw_iload_n (pc := 134) o d_X_gather_134 rfl 3 rfl ?_
      refine gw_icmp_ne (pc := 135) (tgt := 147) o d_X_gather_135 (by decide) (fun hc => ?_) (fun hc => ?_)
      · have h := h.2 hc
        exact gw_sub (lv' := [(0, .ref (τ.2.2 30)), (1, .int x1), (2, .int x2), (3, .int x3)]) [0, 1, 2, 3] rfl (wk_X_gather_b147 o hk46 hk66 hk108 h)
      · have h := h.1 hc
        refine gw_aload_n (pc := 138) o d_X_gather_138 rfl 0 rfl ?_
        refine gw_iload_n (pc := 139) o d_X_gather_139 rfl 3 rfl ?_
        refine gw_iload_n (pc := 140) o d_X_gather_140 rfl 2 rfl ?_
        refine gw_callV (pc := 141) (b := τ.2.2 30) (As := [.int x3, .int x2]) (st := []) o (ct_X_alike o.hD h) mi_X_alike q_305 q_307 qs_17 0 rfl rfl (xRo_of (by omega) (by decide)) rfl rfl (Nat.le_of_ble_eq_true rfl) d_X_gather_141 (kk_p_i rfl (fun r141 h => ?_))
        refine gw_if_ne (pc := 144) (tgt := 153) o d_X_gather_144 (by decide) (fun hc => ?_) (fun hc => ?_)
        · have h := h.2 hc
          exact gw_sub (lv' := [(0, .ref (τ.2.2 30)), (1, .int x1), (2, .int x2), (3, .int x3)]) [0, 1, 2, 3] rfl (wk_X_gather_b153 o hk46 hk66 h)
        · have h := h.1 hc
          exact gw_sub (lv' := [(0, .ref (τ.2.2 30)), (1, .int x1), (2, .int x2), (3, .int x3)]) [0, 1, 2, 3] rfl (wk_X_gather_b147 o hk46 hk66 hk108 h)
def X_gather_L108 (Z : xF → Prop) (k46 : Int32 → xF → Prop) (k66 : Int32 → xF → Prop) (E : xF) (N : xF) (x1 : Int32) (x2 : Int32) (x3 : Int32) : Prop := LOOP1 (fun k108 x3 => X_gather_b108 Z k46 k66 k108 E N x1 x2 x3) x3
theorem wk_X_gather_L108 {κ : Cx} {τ : xT} {Z : xF → Prop} {k46 : Int32 → xF → Prop} {k66 : Int32 → xF → Prop} {E : xF} {N : xF} {x1 : Int32} {x2 : Int32} {x3 : Int32} (o : OKc κ (wdX τ) 4 b_X_gather "StateExplorer" none (xR 4)) (hk46 : ∀ (x1 : Int32) (E : xF), k46 x1 E → GW κ (wdX τ) 4 (0, 0) (xMQ κ (wdX τ) (xR 4) (z1_v N Z)) (E, N) 46 [(0, .ref (τ.2.2 30)), (1, .int x1)] []) (hk66 : ∀ (x2 : Int32) (E : xF), k66 x2 E → GW κ (wdX τ) 4 (0, 0) (xMQ κ (wdX τ) (xR 4) (z1_v N Z)) (E, N) 66 [(0, .ref (τ.2.2 30)), (1, .int x1), (2, .int x2)] []) (h : X_gather_L108 Z k46 k66 E N x1 x2 x3) : GW κ (wdX τ) 4 (0, 0) (xMQ κ (wdX τ) (xR 4) (z1_v N Z)) (E, N) 108 [(0, .ref (τ.2.2 30)), (1, .int x1), (2, .int x2), (3, .int x3)] [] := by
  unfold X_gather_L108 at h
  exact LOOP1.use (G := fun x3 => GW κ (wdX τ) 4 (0, 0) (xMQ κ (wdX τ) (xR 4) (z1_v N Z)) (E, N) 108 [(0, .ref (τ.2.2 30)), (1, .int x1), (2, .int x2), (3, .int x3)] []) (fun k108 x3 hk108 h => wk_X_gather_b108 o hk46 hk66 hk108 h) h
def X_gather_b187 (Z : xF → Prop) (k46 : Int32 → xF → Prop) (k187 : Int32 → xF → Prop) (E : xF) (N : xF) (x1 : Int32) (x2 : Int32) : Prop := ((((1 : Int32) <<< ((E 30 4) &&& 31)) ≤ x2) → (k46 x1 E)) ∧ (¬ (((1 : Int32) <<< ((E 30 4) &&& 31)) ≤ x2) → (vp_in x2 256 ∧ (vp_in x2 256 ∧ (∀ E_208 : xF, E_208 = xs E 18 x2.toNatClampNeg (E 19 x2.toNatClampNeg) → (∀ x2_209 : Int32, x2_209 = x2 + (1 : Int32) → (k187 x2_209 E_208))))))
set_option maxRecDepth 10000 in
theorem wk_X_gather_b187 {κ : Cx} {τ : xT} {Z : xF → Prop} {k46 : Int32 → xF → Prop} {k187 : Int32 → xF → Prop} {E : xF} {N : xF} {x1 : Int32} {x2 : Int32} (o : OKc κ (wdX τ) 4 b_X_gather "StateExplorer" none (xR 4)) (hk46 : ∀ (x1 : Int32) (E : xF), k46 x1 E → GW κ (wdX τ) 4 (0, 0) (xMQ κ (wdX τ) (xR 4) (z1_v N Z)) (E, N) 46 [(0, .ref (τ.2.2 30)), (1, .int x1)] []) (hk187 : ∀ (x2 : Int32) (E : xF), k187 x2 E → GW κ (wdX τ) 4 (0, 0) (xMQ κ (wdX τ) (xR 4) (z1_v N Z)) (E, N) 187 [(0, .ref (τ.2.2 30)), (1, .int x1), (2, .int x2)] []) (h : X_gather_b187 Z k46 k187 E N x1 x2) : GW κ (wdX τ) 4 (0, 0) (xMQ κ (wdX τ) (xR 4) (z1_v N Z)) (E, N) 187 [(0, .ref (τ.2.2 30)), (1, .int x1), (2, .int x2)] [] := by
  unfold X_gather_b187 at h
  refine gw_iload_n (pc := 187) o d_X_gather_187 rfl 2 rfl ?_
  refine gw_iconst (pc := 188) (v := (1 : Int32)) o d_X_gather_188 (by decide) ?_
  refine gw_aload_n (pc := 189) o d_X_gather_189 rfl 0 rfl ?_
  refine gE_get_latches (pc := 190) o q_84 d_X_gather_190 ?_
  refine gw_ishl (pc := 193) o d_X_gather_193 ?_
  refine gw_icmp_ge (pc := 194) (tgt := 215) o d_X_gather_194 (by decide) (fun hc => ?_) (fun hc => ?_)
  · have h := h.1 hc
    refine gw_goto (pc := 215) (tgt := 46) o d_X_gather_215 (by decide) ?_
    exact gw_sub (lv' := [(0, .ref (τ.2.2 30)), (1, .int x1)]) [0, 1] rfl (hk46 _ _ h)
  · have h := h.2 hc
    refine gw_aload_n (pc := 197) o d_X_gather_197 rfl 0 rfl ?_
    refine gE_get_groups (pc := 198) o q_98 d_X_gather_198 ?_
    refine gw_iload_n (pc := 201) o d_X_gather_201 rfl 2 rfl ?_
    refine gw_aload_n (pc := 202) o d_X_gather_202 rfl 0 rfl ?_
    refine gE_get_fresh (pc := 203) o q_99 d_X_gather_203 ?_
    refine gw_iload_n (pc := 206) o d_X_gather_206 rfl 2 rfl ?_
    have hi := h.1
    have h := h.2
    refine gE_ald_fresh (pc := 207) o hi d_X_gather_207 ?_
    have hi := h.1
    have h := h.2
    refine gE_ast_groups (pc := 208) o hi d_X_gather_208 (fun E_208 eE_208 => ?_)
    have h := h E_208 eE_208
    refine gw_iincN (pc := 209) (c := (1 : Int32)) (lw := fun x2_209 => [(2, .int x2_209), (0, .ref (τ.2.2 30)), (1, .int x1)]) o d_X_gather_209 (by decide) 2 rfl (by decide) (fun _ => rfl) (fun x2_209 ex2_209 => ?_)
    have h := h x2_209 ex2_209
    refine gw_goto (pc := 212) (tgt := 187) o d_X_gather_212 (by decide) ?_
    exact gw_sub (lv' := [(0, .ref (τ.2.2 30)), (1, .int x1), (2, .int x2_209)]) [1, 2, 0] rfl (hk187 _ _ h)
def X_gather_L187 (Z : xF → Prop) (k46 : Int32 → xF → Prop) (E : xF) (N : xF) (x1 : Int32) (x2 : Int32) : Prop := LOOP2 (fun k187 x2 E => X_gather_b187 Z k46 k187 E N x1 x2) x2 E
theorem wk_X_gather_L187 {κ : Cx} {τ : xT} {Z : xF → Prop} {k46 : Int32 → xF → Prop} {E : xF} {N : xF} {x1 : Int32} {x2 : Int32} (o : OKc κ (wdX τ) 4 b_X_gather "StateExplorer" none (xR 4)) (hk46 : ∀ (x1 : Int32) (E : xF), k46 x1 E → GW κ (wdX τ) 4 (0, 0) (xMQ κ (wdX τ) (xR 4) (z1_v N Z)) (E, N) 46 [(0, .ref (τ.2.2 30)), (1, .int x1)] []) (h : X_gather_L187 Z k46 E N x1 x2) : GW κ (wdX τ) 4 (0, 0) (xMQ κ (wdX τ) (xR 4) (z1_v N Z)) (E, N) 187 [(0, .ref (τ.2.2 30)), (1, .int x1), (2, .int x2)] [] := by
  unfold X_gather_L187 at h
  exact LOOP2.use (G := fun x2 E => GW κ (wdX τ) 4 (0, 0) (xMQ κ (wdX τ) (xR 4) (z1_v N Z)) (E, N) 187 [(0, .ref (τ.2.2 30)), (1, .int x1), (2, .int x2)] []) (fun k187 x2 E hk187 h => wk_X_gather_b187 o hk46 hk187 h) h
def X_gather_b66 (Z : xF → Prop) (k46 : Int32 → xF → Prop) (k66 : Int32 → xF → Prop) (E : xF) (N : xF) (x1 : Int32) (x2 : Int32) : Prop := ((((1 : Int32) <<< ((E 30 4) &&& 31)) ≤ x2) → (X_gather_L187 Z k46 E N x1 (0 : Int32))) ∧ (¬ (((1 : Int32) <<< ((E 30 4) &&& 31)) ≤ x2) → (vp_in x2 256 ∧ (vp_in x2 256 ∧ (∀ E_87 : xF, E_87 = xs E 19 x2.toNatClampNeg (E 18 x2.toNatClampNeg) → (vp_in x2 256 ∧ ((((E_87 18 x2.toNatClampNeg) = (-1 : Int32)) → (X_gather_b179 Z k46 k66 E_87 N x1 x2)) ∧ (¬ ((E_87 18 x2.toNatClampNeg) = (-1 : Int32)) → (vp_in x2 256 ∧ (∀ x3_107 : Int32, x3_107 = E_87 18 x2.toNatClampNeg → (X_gather_L108 Z k46 k66 E_87 N x1 x2 x3_107))))))))))
set_option maxRecDepth 10000 in
theorem wk_X_gather_b66 {κ : Cx} {τ : xT} {Z : xF → Prop} {k46 : Int32 → xF → Prop} {k66 : Int32 → xF → Prop} {E : xF} {N : xF} {x1 : Int32} {x2 : Int32} (o : OKc κ (wdX τ) 4 b_X_gather "StateExplorer" none (xR 4)) (hk46 : ∀ (x1 : Int32) (E : xF), k46 x1 E → GW κ (wdX τ) 4 (0, 0) (xMQ κ (wdX τ) (xR 4) (z1_v N Z)) (E, N) 46 [(0, .ref (τ.2.2 30)), (1, .int x1)] []) (hk66 : ∀ (x2 : Int32) (E : xF), k66 x2 E → GW κ (wdX τ) 4 (0, 0) (xMQ κ (wdX τ) (xR 4) (z1_v N Z)) (E, N) 66 [(0, .ref (τ.2.2 30)), (1, .int x1), (2, .int x2)] []) (h : X_gather_b66 Z k46 k66 E N x1 x2) : GW κ (wdX τ) 4 (0, 0) (xMQ κ (wdX τ) (xR 4) (z1_v N Z)) (E, N) 66 [(0, .ref (τ.2.2 30)), (1, .int x1), (2, .int x2)] [] := by
  unfold X_gather_b66 at h
  refine gw_iload_n (pc := 66) o d_X_gather_66 rfl 2 rfl ?_
  refine gw_iconst (pc := 67) (v := (1 : Int32)) o d_X_gather_67 (by decide) ?_
  refine gw_aload_n (pc := 68) o d_X_gather_68 rfl 0 rfl ?_
  refine gE_get_latches (pc := 69) o q_84 d_X_gather_69 ?_
  refine gw_ishl (pc := 72) o d_X_gather_72 ?_
  refine gw_icmp_ge (pc := 73) (tgt := 185) o d_X_gather_73 (by decide) (fun hc => ?_) (fun hc => ?_)
  · have h := h.1 hc
    refine gw_iconst (pc := 185) (v := (0 : Int32)) o d_X_gather_185 (by decide) ?_
    refine gw_istore_n (pc := 186) (lv' := [(2, .int (0 : Int32)), (0, .ref (τ.2.2 30)), (1, .int x1)]) o d_X_gather_186 rfl (by decide) rfl ?_
    exact gw_sub (lv' := [(0, .ref (τ.2.2 30)), (1, .int x1), (2, .int (0 : Int32))]) [1, 2, 0] rfl (wk_X_gather_L187 o hk46 h)
  · have h := h.2 hc
    refine gw_aload_n (pc := 76) o d_X_gather_76 rfl 0 rfl ?_
    refine gE_get_fresh (pc := 77) o q_99 d_X_gather_77 ?_
    refine gw_iload_n (pc := 80) o d_X_gather_80 rfl 2 rfl ?_
    refine gw_aload_n (pc := 81) o d_X_gather_81 rfl 0 rfl ?_
    refine gE_get_groups (pc := 82) o q_98 d_X_gather_82 ?_
    refine gw_iload_n (pc := 85) o d_X_gather_85 rfl 2 rfl ?_
    have hi := h.1
    have h := h.2
    refine gE_ald_groups (pc := 86) o hi d_X_gather_86 ?_
    have hi := h.1
    have h := h.2
    refine gE_ast_fresh (pc := 87) o hi d_X_gather_87 (fun E_87 eE_87 => ?_)
    have h := h E_87 eE_87
    refine gw_aload_n (pc := 88) o d_X_gather_88 rfl 0 rfl ?_
    refine gE_get_groups (pc := 89) o q_98 d_X_gather_89 ?_
    refine gw_iload_n (pc := 92) o d_X_gather_92 rfl 2 rfl ?_
    have hi := h.1
    have h := h.2
    refine gE_ald_groups (pc := 93) o hi d_X_gather_93 ?_
    refine gw_iconst (pc := 94) (v := (-1 : Int32)) o d_X_gather_94 (by decide) ?_
    refine gw_icmp_ne (pc := 95) (tgt := 101) o d_X_gather_95 (by decide) (fun hc => ?_) (fun hc => ?_)
    · have h := h.2 hc
      refine gw_aload_n (pc := 101) o d_X_gather_101 rfl 0 rfl ?_
      refine gE_get_groups (pc := 102) o q_98 d_X_gather_102 ?_
      refine gw_iload_n (pc := 105) o d_X_gather_105 rfl 2 rfl ?_
      have hi := h.1
      have h := h.2
      refine gE_ald_groups (pc := 106) o hi d_X_gather_106 ?_
      refine gw_topi (fun x3_107 ex3_107 => ?_)
      have h := h x3_107 ex3_107
      refine gw_istore_n (pc := 107) (lv' := [(3, .int x3_107), (0, .ref (τ.2.2 30)), (1, .int x1), (2, .int x2)]) o d_X_gather_107 rfl (by decide) rfl ?_
      exact gw_sub (lv' := [(0, .ref (τ.2.2 30)), (1, .int x1), (2, .int x2), (3, .int x3_107)]) [1, 2, 3, 0] rfl (wk_X_gather_L108 o hk46 hk66 h)
    · have h := h.1 hc
      refine gw_goto (pc := 98) (tgt := 179) o d_X_gather_98 (by decide) ?_
      exact gw_sub (lv' := [(0, .ref (τ.2.2 30)), (1, .int x1), (2, .int x2)]) [0, 1, 2] rfl (wk_X_gather_b179 o hk46 hk66 h)
def X_gather_L66 (Z : xF → Prop) (k46 : Int32 → xF → Prop) (E : xF) (N : xF) (x1 : Int32) (x2 : Int32) : Prop := LOOP2 (fun k66 x2 E => X_gather_b66 Z k46 k66 E N x1 x2) x2 E
theorem wk_X_gather_L66 {κ : Cx} {τ : xT} {Z : xF → Prop} {k46 : Int32 → xF → Prop} {E : xF} {N : xF} {x1 : Int32} {x2 : Int32} (o : OKc κ (wdX τ) 4 b_X_gather "StateExplorer" none (xR 4)) (hk46 : ∀ (x1 : Int32) (E : xF), k46 x1 E → GW κ (wdX τ) 4 (0, 0) (xMQ κ (wdX τ) (xR 4) (z1_v N Z)) (E, N) 46 [(0, .ref (τ.2.2 30)), (1, .int x1)] []) (h : X_gather_L66 Z k46 E N x1 x2) : GW κ (wdX τ) 4 (0, 0) (xMQ κ (wdX τ) (xR 4) (z1_v N Z)) (E, N) 66 [(0, .ref (τ.2.2 30)), (1, .int x1), (2, .int x2)] [] := by
  unfold X_gather_L66 at h
  exact LOOP2.use (G := fun x2 E => GW κ (wdX τ) 4 (0, 0) (xMQ κ (wdX τ) (xR 4) (z1_v N Z)) (E, N) 66 [(0, .ref (τ.2.2 30)), (1, .int x1), (2, .int x2)] []) (fun k66 x2 E hk66 h => wk_X_gather_b66 o hk46 hk66 h) h
def X_gather_b46 (Z : xF → Prop) (k46 : Int32 → xF → Prop) (E : xF) (N : xF) (x1 : Int32) : Prop := (((E 30 23) ≤ x1) → (Z E)) ∧ (¬ ((E 30 23) ≤ x1) → (∀ x1_58 : Int32, x1_58 = E 30 23 → (∀ E_61 : xF, E_61 = xs E 30 23 (0 : Int32) → (X_gather_L66 Z k46 E_61 N x1_58 (0 : Int32)))))
set_option maxRecDepth 10000 in
theorem wk_X_gather_b46 {κ : Cx} {τ : xT} {Z : xF → Prop} {k46 : Int32 → xF → Prop} {E : xF} {N : xF} {x1 : Int32} (o : OKc κ (wdX τ) 4 b_X_gather "StateExplorer" none (xR 4)) (hk46 : ∀ (x1 : Int32) (E : xF), k46 x1 E → GW κ (wdX τ) 4 (0, 0) (xMQ κ (wdX τ) (xR 4) (z1_v N Z)) (E, N) 46 [(0, .ref (τ.2.2 30)), (1, .int x1)] []) (h : X_gather_b46 Z k46 E N x1) : GW κ (wdX τ) 4 (0, 0) (xMQ κ (wdX τ) (xR 4) (z1_v N Z)) (E, N) 46 [(0, .ref (τ.2.2 30)), (1, .int x1)] [] := by
  unfold X_gather_b46 at h
  refine gw_aload_n (pc := 46) o d_X_gather_46 rfl 0 rfl ?_
  refine gE_get_grouped (pc := 47) o q_103 d_X_gather_47 ?_
  refine gw_iload_n (pc := 50) o d_X_gather_50 rfl 1 rfl ?_
  refine gw_icmp_le (pc := 51) (tgt := 218) o d_X_gather_51 (by decide) (fun hc => ?_) (fun hc => ?_)
  · have h := h.1 hc
    exact gw_vret (pc := 218) o ⟨Nat.le_refl _, Nat.le_refl _⟩ (z1_v.mk h) d_X_gather_218
  · have h := h.2 hc
    refine gw_aload_n (pc := 54) o d_X_gather_54 rfl 0 rfl ?_
    refine gE_get_grouped (pc := 55) o q_103 d_X_gather_55 ?_
    refine gw_topi (fun x1_58 ex1_58 => ?_)
    have h := h x1_58 ex1_58
    refine gw_istore_n (pc := 58) (lv' := [(1, .int x1_58), (0, .ref (τ.2.2 30))]) o d_X_gather_58 rfl (by decide) rfl ?_
    refine gw_aload_n (pc := 59) o d_X_gather_59 rfl 1 rfl ?_
    refine gw_iconst (pc := 60) (v := (0 : Int32)) o d_X_gather_60 (by decide) ?_
    refine gE_put_grouped (pc := 61) o q_103 d_X_gather_61 (fun E_61 eE_61 => ?_)
    have h := h E_61 eE_61
    refine gw_iconst (pc := 64) (v := (0 : Int32)) o d_X_gather_64 (by decide) ?_
    refine gw_istore_n (pc := 65) (lv' := [(2, .int (0 : Int32)), (1, .int x1_58), (0, .ref (τ.2.2 30))]) o d_X_gather_65 rfl (by decide) rfl ?_
    exact gw_sub (lv' := [(0, .ref (τ.2.2 30)), (1, .int x1_58), (2, .int (0 : Int32))]) [2, 1, 0] rfl (wk_X_gather_L66 o hk46 h)
def X_gather_L46 (Z : xF → Prop) (E : xF) (N : xF) (x1 : Int32) : Prop := LOOP2 (fun k46 x1 E => X_gather_b46 Z k46 E N x1) x1 E
theorem wk_X_gather_L46 {κ : Cx} {τ : xT} {Z : xF → Prop} {E : xF} {N : xF} {x1 : Int32} (o : OKc κ (wdX τ) 4 b_X_gather "StateExplorer" none (xR 4)) (h : X_gather_L46 Z E N x1) : GW κ (wdX τ) 4 (0, 0) (xMQ κ (wdX τ) (xR 4) (z1_v N Z)) (E, N) 46 [(0, .ref (τ.2.2 30)), (1, .int x1)] [] := by
  unfold X_gather_L46 at h
  exact LOOP2.use (G := fun x1 E => GW κ (wdX τ) 4 (0, 0) (xMQ κ (wdX τ) (xR 4) (z1_v N Z)) (E, N) 46 [(0, .ref (τ.2.2 30)), (1, .int x1)] []) (fun k46 x1 E hk46 h => wk_X_gather_b46 o hk46 h) h
def X_gather_b4 (Z : xF → Prop) (k4 : Int32 → xF → Prop) (E : xF) (N : xF) (x1 : Int32) (x2 : Int32) : Prop := (((256 : Int32) ≤ x2) → (∀ E_43 : xF, E_43 = xs E 30 23 (1 : Int32) → (X_gather_L46 Z E_43 N x1))) ∧ (¬ ((256 : Int32) ≤ x2) → (w_X_at E N (E 30 21) x2 (0 : Int32) (fun r23 => ((r23 = 0) → (X_gather_b34 Z k4 E N x1 x2 x2 (-1 : Int32))) ∧ (¬ (r23 = 0) → (X_gather_b34 Z k4 E N x1 x2 x2 (0 : Int32))))))
set_option maxRecDepth 10000 in
theorem wk_X_gather_b4 {κ : Cx} {τ : xT} {Z : xF → Prop} {k4 : Int32 → xF → Prop} {E : xF} {N : xF} {x1 : Int32} {x2 : Int32} (o : OKc κ (wdX τ) 4 b_X_gather "StateExplorer" none (xR 4)) (hk4 : ∀ (x2 : Int32) (E : xF), k4 x2 E → GW κ (wdX τ) 4 (0, 0) (xMQ κ (wdX τ) (xR 4) (z1_v N Z)) (E, N) 4 [(0, .ref (τ.2.2 30)), (1, .int x1), (2, .int x2)] []) (h : X_gather_b4 Z k4 E N x1 x2) : GW κ (wdX τ) 4 (0, 0) (xMQ κ (wdX τ) (xR 4) (z1_v N Z)) (E, N) 4 [(0, .ref (τ.2.2 30)), (1, .int x1), (2, .int x2)] [] := by
  unfold X_gather_b4 at h
  refine gw_iload_n (pc := 4) o d_X_gather_4 rfl 2 rfl ?_
  refine gw_sipush (pc := 5) (v := (256 : Int32)) o d_X_gather_5 (by decide) ?_
  refine gw_icmp_ge (pc := 8) (tgt := 41) o d_X_gather_8 (by decide) (fun hc => ?_) (fun hc => ?_)
  · have h := h.1 hc
    refine gw_aload_n (pc := 41) o d_X_gather_41 rfl 0 rfl ?_
    refine gw_iconst (pc := 42) (v := (1 : Int32)) o d_X_gather_42 (by decide) ?_
    refine gE_put_grouped (pc := 43) o q_103 d_X_gather_43 (fun E_43 eE_43 => ?_)
    have h := h E_43 eE_43
    exact gw_sub (lv' := [(0, .ref (τ.2.2 30)), (1, .int x1)]) [0, 1] rfl (wk_X_gather_L46 o h)
  · have h := h.2 hc
    refine gw_aload_n (pc := 11) o d_X_gather_11 rfl 0 rfl ?_
    refine gE_get_groups (pc := 12) o q_98 d_X_gather_12 ?_
    refine gw_iload_n (pc := 15) o d_X_gather_15 rfl 2 rfl ?_
    refine gw_aload_n (pc := 16) o d_X_gather_16 rfl 0 rfl ?_
    refine gw_aload_n (pc := 17) o d_X_gather_17 rfl 0 rfl ?_
    refine gE_get_reached (pc := 18) o q_101 d_X_gather_18 ?_
    refine gw_iload_n (pc := 21) o d_X_gather_21 rfl 2 rfl ?_
    refine gw_iconst (pc := 22) (v := (0 : Int32)) o d_X_gather_22 (by decide) ?_
    refine gw_callV (pc := 23) (b := τ.2.2 30) (As := [.int (E 30 21), .int x2, .int (0 : Int32)]) (st := [.int x2, .ref (τ.2.2 18)]) o (ct_X_at o.hD h) mi_X_at q_301 q_303 qs_16 0 rfl rfl (xRo_of (by omega) (by decide)) rfl rfl (Nat.le_of_ble_eq_true rfl) d_X_gather_23 (kk_p_i rfl (fun r23 h => ?_))
    refine gw_if_eq (pc := 26) (tgt := 33) o d_X_gather_26 (by decide) (fun hc => ?_) (fun hc => ?_)
    · have h := h.1 hc
      refine gw_iconst (pc := 33) (v := (-1 : Int32)) o d_X_gather_33 (by decide) ?_
      exact gw_sub (lv' := [(0, .ref (τ.2.2 30)), (1, .int x1), (2, .int x2)]) [0, 1, 2] rfl (wk_X_gather_b34 o hk4 h)
    · have h := h.2 hc
      refine gw_iconst (pc := 29) (v := (0 : Int32)) o d_X_gather_29 (by decide) ?_
      refine gw_goto (pc := 30) (tgt := 34) o d_X_gather_30 (by decide) ?_
      exact gw_sub (lv' := [(0, .ref (τ.2.2 30)), (1, .int x1), (2, .int x2)]) [0, 1, 2] rfl (wk_X_gather_b34 o hk4 h)
def X_gather_L4 (Z : xF → Prop) (E : xF) (N : xF) (x1 : Int32) (x2 : Int32) : Prop := LOOP2 (fun k4 x2 E => X_gather_b4 Z k4 E N x1 x2) x2 E
theorem wk_X_gather_L4 {κ : Cx} {τ : xT} {Z : xF → Prop} {E : xF} {N : xF} {x1 : Int32} {x2 : Int32} (o : OKc κ (wdX τ) 4 b_X_gather "StateExplorer" none (xR 4)) (h : X_gather_L4 Z E N x1 x2) : GW κ (wdX τ) 4 (0, 0) (xMQ κ (wdX τ) (xR 4) (z1_v N Z)) (E, N) 4 [(0, .ref (τ.2.2 30)), (1, .int x1), (2, .int x2)] [] := by
  unfold X_gather_L4 at h
  exact LOOP2.use (G := fun x2 E => GW κ (wdX τ) 4 (0, 0) (xMQ κ (wdX τ) (xR 4) (z1_v N Z)) (E, N) 4 [(0, .ref (τ.2.2 30)), (1, .int x1), (2, .int x2)] []) (fun k4 x2 E hk4 h => wk_X_gather_b4 o hk4 h) h
def X_gather_b0 (Z : xF → Prop) (E : xF) (N : xF) : Prop := X_gather_L4 Z E N (0 : Int32) (0 : Int32)
set_option maxRecDepth 10000 in
theorem wk_X_gather_b0 {κ : Cx} {τ : xT} {Z : xF → Prop} {E : xF} {N : xF} (o : OKc κ (wdX τ) 4 b_X_gather "StateExplorer" none (xR 4)) (h : X_gather_b0 Z E N) : GW κ (wdX τ) 4 (0, 0) (xMQ κ (wdX τ) (xR 4) (z1_v N Z)) (E, N) 0 [(0, .ref (τ.2.2 30))] [] := by
  unfold X_gather_b0 at h
  refine gw_iconst (pc := 0) (v := (0 : Int32)) o d_X_gather_0 (by decide) ?_
  refine gw_istore_n (pc := 1) (lv' := [(1, .int (0 : Int32)), (0, .ref (τ.2.2 30))]) o d_X_gather_1 rfl (by decide) rfl ?_
  refine gw_iconst (pc := 2) (v := (0 : Int32)) o d_X_gather_2 (by decide) ?_
  refine gw_istore_n (pc := 3) (lv' := [(2, .int (0 : Int32)), (1, .int (0 : Int32)), (0, .ref (τ.2.2 30))]) o d_X_gather_3 rfl (by decide) rfl ?_
  exact gw_sub (lv' := [(0, .ref (τ.2.2 30)), (1, .int (0 : Int32)), (2, .int (0 : Int32))]) [2, 1, 0] rfl (wk_X_gather_L4 o h)
def w_X_gather  (E : xF) (N : xF)  (Z : xF → Prop) : Prop := X_gather_b0  Z E N
theorem ct_X_gather {l : Launch} {τ : xT} {E : xF} {N : xF}  {Z : xF → Prop} (hD : xD (wdX τ)) (h : w_X_gather  E N Z) : CT l (wdX τ) y_X_gather (.code y_X_gather b_X_gather 4 none) (xR 4) [.ref (τ.2.2 30)] (E, N) (z1_v N Z) := by
  subst_vars
  exact CT.of (by decide) (Nat.le_of_ble_eq_true rfl) hD (fun κ hl ha o => gw_sub (lv' := [(0, .ref (τ.2.2 30))]) [0] rfl (wk_X_gather_b0 o h))
def X_explore_b186 (Z : Int32 → xF → xF → Prop) (k87 : Int32 → xF → xF → Prop) (E : xF) (N : xF) (s0 : Int32) : Prop := ((s0 = 0) → (k87 s0 E N)) ∧ (¬ (s0 = 0) → (∀ E_198 : xF, E_198 = xs E 30 22 ((E 30 22) + (1 : Int32)) → (vp_in (E_198 30 22) 256 ∧ (∀ E_215 : xF, E_215 = xs E_198 17 (E_198 30 22).toNatClampNeg (E_198 24 (0 : Int32).toNatClampNeg) → (w_X_or E_215 N (E_215 30 21) (E_215 24 (0 : Int32).toNatClampNeg) (fun r228 E_228 N_228 => ∀ E_231 : xF, E_231 = xs E_228 30 21 r228 → (k87 s0 E_231 N_228)))))))
set_option maxRecDepth 10000 in
theorem wk_X_explore_b186 {κ : Cx} {τ : xT} {Z : Int32 → xF → xF → Prop} {k87 : Int32 → xF → xF → Prop} {E : xF} {N : xF} {s0 : Int32} (o : OKc κ (wdX τ) 2 b_X_explore "StateExplorer" (some .int) (xR 37)) (hk87 : ∀ (x1 : Int32) (E : xF) (N : xF), k87 x1 E N → GW κ (wdX τ) 2 (0, 0) (xMQ κ (wdX τ) (xR 37) (z12_i Z)) (E, N) 87 [(0, .ref (τ.2.2 30)), (1, .int x1)] []) (h : X_explore_b186 Z k87 E N s0) : GW κ (wdX τ) 2 (0, 0) (xMQ κ (wdX τ) (xR 37) (z12_i Z)) (E, N) 186 [(0, .ref (τ.2.2 30))] [.int s0] := by
  unfold X_explore_b186 at h
  refine gw_istore_n (pc := 186) (lv' := [(1, .int s0), (0, .ref (τ.2.2 30))]) o d_X_explore_186 rfl (by decide) rfl ?_
  refine gw_iload_n (pc := 187) o d_X_explore_187 rfl 0 rfl ?_
  refine gw_if_eq (pc := 188) (tgt := 87) o d_X_explore_188 (by decide) (fun hc => ?_) (fun hc => ?_)
  · have h := h.1 hc
    exact gw_sub (lv' := [(0, .ref (τ.2.2 30)), (1, .int s0)]) [1, 0] rfl (hk87 _ _ _ h)
  · have h := h.2 hc
    refine gw_aload_n (pc := 191) o d_X_explore_191 rfl 1 rfl ?_
    refine gw_dup (pc := 192) o d_X_explore_192 rfl ?_
    refine gE_get_farthest (pc := 193) o q_102 d_X_explore_193 ?_
    refine gw_iconst (pc := 196) (v := (1 : Int32)) o d_X_explore_196 (by decide) ?_
    refine gw_iadd (pc := 197) o d_X_explore_197 ?_
    refine gE_put_farthest (pc := 198) o q_102 d_X_explore_198 (fun E_198 eE_198 => ?_)
    have h := h E_198 eE_198
    refine gw_aload_n (pc := 201) o d_X_explore_201 rfl 1 rfl ?_
    refine gE_get_layers (pc := 202) o q_97 d_X_explore_202 ?_
    refine gw_aload_n (pc := 205) o d_X_explore_205 rfl 1 rfl ?_
    refine gE_get_farthest (pc := 206) o q_102 d_X_explore_206 ?_
    refine gw_aload_n (pc := 209) o d_X_explore_209 rfl 1 rfl ?_
    refine gE_get_spare (pc := 210) o q_104 d_X_explore_210 ?_
    refine gw_iconst (pc := 213) (v := (0 : Int32)) o d_X_explore_213 (by decide) ?_
    refine gE_ald_spare (pc := 214) o (by unfold vp_in; decide) d_X_explore_214 ?_
    have hi := h.1
    have h := h.2
    refine gE_ast_layers (pc := 215) o hi d_X_explore_215 (fun E_215 eE_215 => ?_)
    have h := h E_215 eE_215
    refine gw_aload_n (pc := 216) o d_X_explore_216 rfl 1 rfl ?_
    refine gw_aload_n (pc := 217) o d_X_explore_217 rfl 1 rfl ?_
    refine gw_aload_n (pc := 218) o d_X_explore_218 rfl 1 rfl ?_
    refine gE_get_reached (pc := 219) o q_101 d_X_explore_219 ?_
    refine gw_aload_n (pc := 222) o d_X_explore_222 rfl 1 rfl ?_
    refine gE_get_spare (pc := 223) o q_104 d_X_explore_223 ?_
    refine gw_iconst (pc := 226) (v := (0 : Int32)) o d_X_explore_226 (by decide) ?_
    refine gE_ald_spare (pc := 227) o (by unfold vp_in; decide) d_X_explore_227 ?_
    refine gw_callV (pc := 228) (b := τ.2.2 30) (As := [.int (E_215 30 21), .int (E_215 24 (0 : Int32).toNatClampNeg)]) (st := [.ref (τ.2.2 30)]) o (ct_X_or o.hD h) mi_X_or q_277 q_279 qs_11 0 rfl rfl (xRo_of (by omega) (by decide)) rfl rfl (Nat.le_of_ble_eq_true rfl) d_X_explore_228 (kk_12_i rfl (fun r228 E_228 N_228 h => ?_))
    refine gE_put_reached (pc := 231) o q_101 d_X_explore_231 (fun E_231 eE_231 => ?_)
    have h := h E_231 eE_231
    refine gw_goto (pc := 234) (tgt := 87) o d_X_explore_234 (by decide) ?_
    exact gw_sub (lv' := [(0, .ref (τ.2.2 30)), (1, .int s0)]) [1, 0] rfl (hk87 _ _ _ h)
def X_explore_b87 (Z : Int32 → xF → xF → Prop) (k87 : Int32 → xF → xF → Prop) (E : xF) (N : xF) (x1 : Int32) : Prop := ((x1 = 0) → (∀ E_239 : xF, E_239 = xs E 30 13 (1 : Int32) → (w_X_gather E_239 N (fun E_243 => w_X_states E_243 N (E_243 30 21) (fun r251 => Z r251 E_243 N))))) ∧ (¬ (x1 = 0) → (vp_in (E 30 22) 256 ∧ (w_X_and E N (E 17 (E 30 22).toNatClampNeg) (E 30 20) (fun r110 E_110 N_110 => ∀ E_113 : xF, E_113 = xs E_110 24 (0 : Int32).toNatClampNeg r110 → (w_X_begin E_113 N_110 (fun N_115 => w_X_after 16 E_113 N_115 (E_113 24 (0 : Int32).toNatClampNeg) (7 : Int32) (fun r132 E_132 N_132 => ∀ E_135 : xF, E_135 = xs E_132 24 (0 : Int32).toNatClampNeg r132 → (w_X_not E_135 N_132 (E_135 30 21) (fun r146 E_146 N_146 => ∀ E_149 : xF, E_149 = xs E_146 24 (1 : Int32).toNatClampNeg r146 → (w_X_and E_149 N_146 (E_149 24 (0 : Int32).toNatClampNeg) (E_149 24 (1 : Int32).toNatClampNeg) (fun r168 E_168 N_168 => ∀ E_171 : xF, E_171 = xs E_168 24 (0 : Int32).toNatClampNeg r168 → ((((E_171 24 (0 : Int32).toNatClampNeg) = 0) → (X_explore_b186 Z k87 E_171 N_168 (0 : Int32))) ∧ (¬ ((E_171 24 (0 : Int32).toNatClampNeg) = 0) → (X_explore_b186 Z k87 E_171 N_168 (1 : Int32)))))))))))))))
set_option maxRecDepth 10000 in
theorem wk_X_explore_b87 {κ : Cx} {τ : xT} {Z : Int32 → xF → xF → Prop} {k87 : Int32 → xF → xF → Prop} {E : xF} {N : xF} {x1 : Int32} (o : OKc κ (wdX τ) 2 b_X_explore "StateExplorer" (some .int) (xR 37)) (hk87 : ∀ (x1 : Int32) (E : xF) (N : xF), k87 x1 E N → GW κ (wdX τ) 2 (0, 0) (xMQ κ (wdX τ) (xR 37) (z12_i Z)) (E, N) 87 [(0, .ref (τ.2.2 30)), (1, .int x1)] []) (h : X_explore_b87 Z k87 E N x1) : GW κ (wdX τ) 2 (0, 0) (xMQ κ (wdX τ) (xR 37) (z12_i Z)) (E, N) 87 [(0, .ref (τ.2.2 30)), (1, .int x1)] [] := by
  unfold X_explore_b87 at h
  refine gw_iload_n (pc := 87) o d_X_explore_87 rfl 1 rfl ?_
  refine gw_if_eq (pc := 88) (tgt := 237) o d_X_explore_88 (by decide) (fun hc => ?_) (fun hc => ?_)
  · have h := h.1 hc
    refine gw_aload_n (pc := 237) o d_X_explore_237 rfl 0 rfl ?_
    refine gw_iconst (pc := 238) (v := (1 : Int32)) o d_X_explore_238 (by decide) ?_
    refine gE_put_explored (pc := 239) o q_93 (by decide) d_X_explore_239 (fun E_239 eE_239 => ?_)
    have h := h E_239 eE_239
    refine gw_aload_n (pc := 242) o d_X_explore_242 rfl 0 rfl ?_
    refine gw_callV (pc := 243) (b := τ.2.2 30) (As := []) (st := []) o (ct_X_gather o.hD h) mi_X_gather q_297 q_299 qs_15 0 rfl rfl (xRo_of (by omega) (by decide)) rfl rfl (Nat.le_of_ble_eq_true rfl) d_X_explore_243 (kk_1_v rfl (fun E_243 h => ?_))
    refine gw_aload_n (pc := 246) o d_X_explore_246 rfl 0 rfl ?_
    refine gw_aload_n (pc := 247) o d_X_explore_247 rfl 0 rfl ?_
    refine gE_get_reached (pc := 248) o q_101 d_X_explore_248 ?_
    refine gw_callV (pc := 251) (b := τ.2.2 30) (As := [.int (E_243 30 21)]) (st := []) o (ct_X_states o.hD h) mi_X_states q_317 q_319 qs_20 0 rfl rfl (xRo_of (by omega) (by decide)) rfl rfl (Nat.le_of_ble_eq_true rfl) d_X_explore_251 (kk_p_i rfl (fun r251 h => ?_))
    exact gw_iret (pc := 254) o ⟨Nat.le_refl _, Nat.le_refl _⟩ (z12_i.mk h) d_X_explore_254
  · have h := h.2 hc
    refine gw_aload_n (pc := 91) o d_X_explore_91 rfl 0 rfl ?_
    refine gE_get_spare (pc := 92) o q_104 d_X_explore_92 ?_
    refine gw_iconst (pc := 95) (v := (0 : Int32)) o d_X_explore_95 (by decide) ?_
    refine gw_aload_n (pc := 96) o d_X_explore_96 rfl 0 rfl ?_
    refine gw_aload_n (pc := 97) o d_X_explore_97 rfl 0 rfl ?_
    refine gE_get_layers (pc := 98) o q_97 d_X_explore_98 ?_
    refine gw_aload_n (pc := 101) o d_X_explore_101 rfl 0 rfl ?_
    refine gE_get_farthest (pc := 102) o q_102 d_X_explore_102 ?_
    have hi := h.1
    have h := h.2
    refine gE_ald_layers (pc := 105) o hi d_X_explore_105 ?_
    refine gw_aload_n (pc := 106) o d_X_explore_106 rfl 0 rfl ?_
    refine gE_get_settles (pc := 107) o q_100 d_X_explore_107 ?_
    refine gw_callV (pc := 110) (b := τ.2.2 30) (As := [.int (E 17 (E 30 22).toNatClampNeg), .int (E 30 20)]) (st := [.int (0 : Int32), .ref (τ.2.2 24)]) o (ct_X_and o.hD h) mi_X_and q_273 q_275 qs_10 0 rfl rfl (xRo_of (by omega) (by decide)) rfl rfl (Nat.le_of_ble_eq_true rfl) d_X_explore_110 (kk_12_i rfl (fun r110 E_110 N_110 h => ?_))
    refine gE_ast_spare (pc := 113) o (by unfold vp_in; decide) d_X_explore_113 (fun E_113 eE_113 => ?_)
    have h := h E_113 eE_113
    refine gw_aload_n (pc := 114) o d_X_explore_114 rfl 0 rfl ?_
    refine gw_callV (pc := 115) (b := τ.2.2 30) (As := []) (st := []) o (ct_X_begin o.hD h) mi_X_begin q_193 q_195 qs_3 0 rfl rfl (xRo_of (by omega) (by decide)) rfl rfl (Nat.le_of_ble_eq_true rfl) d_X_explore_115 (kk_2_v rfl (fun N_115 h => ?_))
    refine gw_aload_n (pc := 118) o d_X_explore_118 rfl 0 rfl ?_
    refine gE_get_spare (pc := 119) o q_104 d_X_explore_119 ?_
    refine gw_iconst (pc := 122) (v := (0 : Int32)) o d_X_explore_122 (by decide) ?_
    refine gw_aload_n (pc := 123) o d_X_explore_123 rfl 0 rfl ?_
    refine gw_aload_n (pc := 124) o d_X_explore_124 rfl 0 rfl ?_
    refine gE_get_spare (pc := 125) o q_104 d_X_explore_125 ?_
    refine gw_iconst (pc := 128) (v := (0 : Int32)) o d_X_explore_128 (by decide) ?_
    refine gE_ald_spare (pc := 129) o (by unfold vp_in; decide) d_X_explore_129 ?_
    refine gw_bipush (pc := 130) (v := (7 : Int32)) o d_X_explore_130 (by decide) ?_
    refine gw_callV (pc := 132) (b := τ.2.2 30) (As := [.int (E_113 24 (0 : Int32).toNatClampNeg), .int (7 : Int32)]) (st := [.int (0 : Int32), .ref (τ.2.2 24)]) o (ct_X_after o.hD h) mi_X_after q_293 q_295 qs_14 0 rfl rfl (xRo_of (by omega) (by decide)) rfl rfl (Nat.le_of_ble_eq_true rfl) d_X_explore_132 (kk_12_i rfl (fun r132 E_132 N_132 h => ?_))
    refine gE_ast_spare (pc := 135) o (by unfold vp_in; decide) d_X_explore_135 (fun E_135 eE_135 => ?_)
    have h := h E_135 eE_135
    refine gw_aload_n (pc := 136) o d_X_explore_136 rfl 0 rfl ?_
    refine gE_get_spare (pc := 137) o q_104 d_X_explore_137 ?_
    refine gw_iconst (pc := 140) (v := (1 : Int32)) o d_X_explore_140 (by decide) ?_
    refine gw_aload_n (pc := 141) o d_X_explore_141 rfl 0 rfl ?_
    refine gw_aload_n (pc := 142) o d_X_explore_142 rfl 0 rfl ?_
    refine gE_get_reached (pc := 143) o q_101 d_X_explore_143 ?_
    refine gw_callV (pc := 146) (b := τ.2.2 30) (As := [.int (E_135 30 21)]) (st := [.int (1 : Int32), .ref (τ.2.2 24)]) o (ct_X_not o.hD h) mi_X_not q_236 q_238 qs_7 0 rfl rfl (xRo_of (by omega) (by decide)) rfl rfl (Nat.le_of_ble_eq_true rfl) d_X_explore_146 (kk_12_i rfl (fun r146 E_146 N_146 h => ?_))
    refine gE_ast_spare (pc := 149) o (by unfold vp_in; decide) d_X_explore_149 (fun E_149 eE_149 => ?_)
    have h := h E_149 eE_149
    refine gw_aload_n (pc := 150) o d_X_explore_150 rfl 0 rfl ?_
    refine gE_get_spare (pc := 151) o q_104 d_X_explore_151 ?_
    refine gw_iconst (pc := 154) (v := (0 : Int32)) o d_X_explore_154 (by decide) ?_
    refine gw_aload_n (pc := 155) o d_X_explore_155 rfl 0 rfl ?_
    refine gw_aload_n (pc := 156) o d_X_explore_156 rfl 0 rfl ?_
    refine gE_get_spare (pc := 157) o q_104 d_X_explore_157 ?_
    refine gw_iconst (pc := 160) (v := (0 : Int32)) o d_X_explore_160 (by decide) ?_
    refine gE_ald_spare (pc := 161) o (by unfold vp_in; decide) d_X_explore_161 ?_
    refine gw_aload_n (pc := 162) o d_X_explore_162 rfl 0 rfl ?_
    refine gE_get_spare (pc := 163) o q_104 d_X_explore_163 ?_
    refine gw_iconst (pc := 166) (v := (1 : Int32)) o d_X_explore_166 (by decide) ?_
    refine gE_ald_spare (pc := 167) o (by unfold vp_in; decide) d_X_explore_167 ?_
    refine gw_callV (pc := 168) (b := τ.2.2 30) (As := [.int (E_149 24 (0 : Int32).toNatClampNeg), .int (E_149 24 (1 : Int32).toNatClampNeg)]) (st := [.int (0 : Int32), .ref (τ.2.2 24)]) o (ct_X_and o.hD h) mi_X_and q_273 q_275 qs_10 0 rfl rfl (xRo_of (by omega) (by decide)) rfl rfl (Nat.le_of_ble_eq_true rfl) d_X_explore_168 (kk_12_i rfl (fun r168 E_168 N_168 h => ?_))
    refine gE_ast_spare (pc := 171) o (by unfold vp_in; decide) d_X_explore_171 (fun E_171 eE_171 => ?_)
    have h := h E_171 eE_171
    refine gw_aload_n (pc := 172) o d_X_explore_172 rfl 0 rfl ?_
    refine gE_get_spare (pc := 173) o q_104 d_X_explore_173 ?_
    refine gw_iconst (pc := 176) (v := (0 : Int32)) o d_X_explore_176 (by decide) ?_
    refine gE_ald_spare (pc := 177) o (by unfold vp_in; decide) d_X_explore_177 ?_
    refine gw_if_eq (pc := 178) (tgt := 185) o d_X_explore_178 (by decide) (fun hc => ?_) (fun hc => ?_)
    · have h := h.1 hc
      refine gw_iconst (pc := 185) (v := (0 : Int32)) o d_X_explore_185 (by decide) ?_
      exact gw_sub (lv' := [(0, .ref (τ.2.2 30))]) [0] rfl (wk_X_explore_b186 o hk87 h)
    · have h := h.2 hc
      refine gw_iconst (pc := 181) (v := (1 : Int32)) o d_X_explore_181 (by decide) ?_
      refine gw_goto (pc := 182) (tgt := 186) o d_X_explore_182 (by decide) ?_
      exact gw_sub (lv' := [(0, .ref (τ.2.2 30))]) [0] rfl (wk_X_explore_b186 o hk87 h)
def X_explore_L87 (Z : Int32 → xF → xF → Prop) (E : xF) (N : xF) (x1 : Int32) : Prop := LOOP3 (fun k87 x1 E N => X_explore_b87 Z k87 E N x1) x1 E N
theorem wk_X_explore_L87 {κ : Cx} {τ : xT} {Z : Int32 → xF → xF → Prop} {E : xF} {N : xF} {x1 : Int32} (o : OKc κ (wdX τ) 2 b_X_explore "StateExplorer" (some .int) (xR 37)) (h : X_explore_L87 Z E N x1) : GW κ (wdX τ) 2 (0, 0) (xMQ κ (wdX τ) (xR 37) (z12_i Z)) (E, N) 87 [(0, .ref (τ.2.2 30)), (1, .int x1)] [] := by
  unfold X_explore_L87 at h
  exact LOOP3.use (G := fun x1 E N => GW κ (wdX τ) 2 (0, 0) (xMQ κ (wdX τ) (xR 37) (z12_i Z)) (E, N) 87 [(0, .ref (τ.2.2 30)), (1, .int x1)] []) (fun k87 x1 E N hk87 h => wk_X_explore_b87 o hk87 h) h
def X_explore_b2 (Z : Int32 → xF → xF → Prop) (k2 : Int32 → xF → Prop) (E : xF) (N : xF) (x1 : Int32) : Prop := (((256 : Int32) ≤ x1) → (∀ E_31 : xF, E_31 = xs E 30 21 (0 : Int32) → (∀ E_36 : xF, E_36 = xs E_31 30 20 (0 : Int32) → (∀ E_41 : xF, E_41 = xs E_36 30 27 (-1 : Int32) → (w_X_spread0 E_41 N (fun E_45 N_45 => w_X_latch E_45 N_45 (fun E_49 => w_N_forget N_45 (fun N_56 => ∀ E_61 : xF, E_61 = xs E_49 30 22 (0 : Int32) → (w_X_only E_61 N_56 (0 : Int32) (fun r71 E_71 N_71 => ∀ E_74 : xF, E_74 = xs E_71 17 (0 : Int32).toNatClampNeg r71 → (∀ E_82 : xF, E_82 = xs E_74 30 21 (E_74 17 (0 : Int32).toNatClampNeg) → (X_explore_L87 Z E_82 N_71 (1 : Int32))))))))))))) ∧ (¬ ((256 : Int32) ≤ x1) → (vp_in x1 256 ∧ (∀ E_15 : xF, E_15 = xs E 17 x1.toNatClampNeg (0 : Int32) → (vp_in x1 256 ∧ (∀ E_22 : xF, E_22 = xs E_15 29 x1.toNatClampNeg (0 : Int32) → (∀ x1_23 : Int32, x1_23 = x1 + (1 : Int32) → (k2 x1_23 E_22)))))))
set_option maxRecDepth 10000 in
theorem wk_X_explore_b2 {κ : Cx} {τ : xT} {Z : Int32 → xF → xF → Prop} {k2 : Int32 → xF → Prop} {E : xF} {N : xF} {x1 : Int32} (o : OKc κ (wdX τ) 2 b_X_explore "StateExplorer" (some .int) (xR 37)) (hk2 : ∀ (x1 : Int32) (E : xF), k2 x1 E → GW κ (wdX τ) 2 (0, 0) (xMQ κ (wdX τ) (xR 37) (z12_i Z)) (E, N) 2 [(0, .ref (τ.2.2 30)), (1, .int x1)] []) (h : X_explore_b2 Z k2 E N x1) : GW κ (wdX τ) 2 (0, 0) (xMQ κ (wdX τ) (xR 37) (z12_i Z)) (E, N) 2 [(0, .ref (τ.2.2 30)), (1, .int x1)] [] := by
  unfold X_explore_b2 at h
  refine gw_iload_n (pc := 2) o d_X_explore_2 rfl 1 rfl ?_
  refine gw_sipush (pc := 3) (v := (256 : Int32)) o d_X_explore_3 (by decide) ?_
  refine gw_icmp_ge (pc := 6) (tgt := 29) o d_X_explore_6 (by decide) (fun hc => ?_) (fun hc => ?_)
  · have h := h.1 hc
    refine gw_aload_n (pc := 29) o d_X_explore_29 rfl 0 rfl ?_
    refine gw_iconst (pc := 30) (v := (0 : Int32)) o d_X_explore_30 (by decide) ?_
    refine gE_put_reached (pc := 31) o q_101 d_X_explore_31 (fun E_31 eE_31 => ?_)
    have h := h E_31 eE_31
    refine gw_aload_n (pc := 34) o d_X_explore_34 rfl 0 rfl ?_
    refine gw_iconst (pc := 35) (v := (0 : Int32)) o d_X_explore_35 (by decide) ?_
    refine gE_put_settles (pc := 36) o q_100 d_X_explore_36 (fun E_36 eE_36 => ?_)
    have h := h E_36 eE_36
    refine gw_aload_n (pc := 39) o d_X_explore_39 rfl 0 rfl ?_
    refine gw_iconst (pc := 40) (v := (-1 : Int32)) o d_X_explore_40 (by decide) ?_
    refine gE_put_wayTo (pc := 41) o q_107 d_X_explore_41 (fun E_41 eE_41 => ?_)
    have h := h E_41 eE_41
    refine gw_aload_n (pc := 44) o d_X_explore_44 rfl 0 rfl ?_
    refine gw_callV (pc := 45) (b := τ.2.2 30) (As := []) (st := []) o (ct_X_spread0 o.hD h) mi_X_spread0 q_179 q_181 qs_1 0 rfl rfl (xRo_of (by omega) (by decide)) rfl rfl (Nat.le_of_ble_eq_true rfl) d_X_explore_45 (kk_12_v rfl (fun E_45 N_45 h => ?_))
    refine gw_aload_n (pc := 48) o d_X_explore_48 rfl 0 rfl ?_
    refine gw_callV (pc := 49) (b := τ.2.2 30) (As := []) (st := []) o (ct_X_latch o.hD h) mi_X_latch q_281 q_283 qs_12 0 rfl rfl (xRo_of (by omega) (by decide)) rfl rfl (Nat.le_of_ble_eq_true rfl) d_X_explore_49 (kk_1_v rfl (fun E_49 h => ?_))
    refine gw_aload_n (pc := 52) o d_X_explore_52 rfl 0 rfl ?_
    refine gE_get_nodes (pc := 53) o q_80 d_X_explore_53 ?_
    refine gw_callVN (pc := 56) (b := τ.2.2 54) (As := []) (st := []) o (CT.lfN_v (ct_N_forget o.hD.N h) o.hD) mi_N_forget o.hK.2.2.2 q_30 qs_0 19 rfl rfl (xRo_of (by omega) (by decide)) rfl rfl (Nat.le_of_ble_eq_true rfl) d_X_explore_56 (kk_2_v rfl (fun N_56 h => ?_))
    refine gw_aload_n (pc := 59) o d_X_explore_59 rfl 0 rfl ?_
    refine gw_iconst (pc := 60) (v := (0 : Int32)) o d_X_explore_60 (by decide) ?_
    refine gE_put_farthest (pc := 61) o q_102 d_X_explore_61 (fun E_61 eE_61 => ?_)
    have h := h E_61 eE_61
    refine gw_aload_n (pc := 64) o d_X_explore_64 rfl 0 rfl ?_
    refine gE_get_layers (pc := 65) o q_97 d_X_explore_65 ?_
    refine gw_iconst (pc := 68) (v := (0 : Int32)) o d_X_explore_68 (by decide) ?_
    refine gw_aload_n (pc := 69) o d_X_explore_69 rfl 0 rfl ?_
    refine gw_iconst (pc := 70) (v := (0 : Int32)) o d_X_explore_70 (by decide) ?_
    refine gw_callV (pc := 71) (b := τ.2.2 30) (As := [.int (0 : Int32)]) (st := [.int (0 : Int32), .ref (τ.2.2 17)]) o (ct_X_only o.hD h) mi_X_only q_286 q_288 qs_13 0 rfl rfl (xRo_of (by omega) (by decide)) rfl rfl (Nat.le_of_ble_eq_true rfl) d_X_explore_71 (kk_12_i rfl (fun r71 E_71 N_71 h => ?_))
    refine gE_ast_layers (pc := 74) o (by unfold vp_in; decide) d_X_explore_74 (fun E_74 eE_74 => ?_)
    have h := h E_74 eE_74
    refine gw_aload_n (pc := 75) o d_X_explore_75 rfl 0 rfl ?_
    refine gw_aload_n (pc := 76) o d_X_explore_76 rfl 0 rfl ?_
    refine gE_get_layers (pc := 77) o q_97 d_X_explore_77 ?_
    refine gw_iconst (pc := 80) (v := (0 : Int32)) o d_X_explore_80 (by decide) ?_
    refine gE_ald_layers (pc := 81) o (by unfold vp_in; decide) d_X_explore_81 ?_
    refine gE_put_reached (pc := 82) o q_101 d_X_explore_82 (fun E_82 eE_82 => ?_)
    have h := h E_82 eE_82
    refine gw_iconst (pc := 85) (v := (1 : Int32)) o d_X_explore_85 (by decide) ?_
    refine gw_istore_n (pc := 86) (lv' := [(1, .int (1 : Int32)), (0, .ref (τ.2.2 30))]) o d_X_explore_86 rfl (by decide) rfl ?_
    exact gw_sub (lv' := [(0, .ref (τ.2.2 30)), (1, .int (1 : Int32))]) [1, 0] rfl (wk_X_explore_L87 o h)
  · have h := h.2 hc
    refine gw_aload_n (pc := 9) o d_X_explore_9 rfl 0 rfl ?_
    refine gE_get_layers (pc := 10) o q_97 d_X_explore_10 ?_
    refine gw_iload_n (pc := 13) o d_X_explore_13 rfl 1 rfl ?_
    refine gw_iconst (pc := 14) (v := (0 : Int32)) o d_X_explore_14 (by decide) ?_
    have hi := h.1
    have h := h.2
    refine gE_ast_layers (pc := 15) o hi d_X_explore_15 (fun E_15 eE_15 => ?_)
    have h := h E_15 eE_15
    refine gw_aload_n (pc := 16) o d_X_explore_16 rfl 0 rfl ?_
    refine gE_get_through (pc := 17) o q_109 d_X_explore_17 ?_
    refine gw_iload_n (pc := 20) o d_X_explore_20 rfl 1 rfl ?_
    refine gw_iconst (pc := 21) (v := (0 : Int32)) o d_X_explore_21 (by decide) ?_
    have hi := h.1
    have h := h.2
    refine gE_ast_through (pc := 22) o hi d_X_explore_22 (fun E_22 eE_22 => ?_)
    have h := h E_22 eE_22
    refine gw_iincN (pc := 23) (c := (1 : Int32)) (lw := fun x1_23 => [(1, .int x1_23), (0, .ref (τ.2.2 30))]) o d_X_explore_23 (by decide) 1 rfl (by decide) (fun _ => rfl) (fun x1_23 ex1_23 => ?_)
    have h := h x1_23 ex1_23
    refine gw_goto (pc := 26) (tgt := 2) o d_X_explore_26 (by decide) ?_
    exact gw_sub (lv' := [(0, .ref (τ.2.2 30)), (1, .int x1_23)]) [1, 0] rfl (hk2 _ _ h)
def X_explore_L2 (Z : Int32 → xF → xF → Prop) (E : xF) (N : xF) (x1 : Int32) : Prop := LOOP2 (fun k2 x1 E => X_explore_b2 Z k2 E N x1) x1 E
theorem wk_X_explore_L2 {κ : Cx} {τ : xT} {Z : Int32 → xF → xF → Prop} {E : xF} {N : xF} {x1 : Int32} (o : OKc κ (wdX τ) 2 b_X_explore "StateExplorer" (some .int) (xR 37)) (h : X_explore_L2 Z E N x1) : GW κ (wdX τ) 2 (0, 0) (xMQ κ (wdX τ) (xR 37) (z12_i Z)) (E, N) 2 [(0, .ref (τ.2.2 30)), (1, .int x1)] [] := by
  unfold X_explore_L2 at h
  exact LOOP2.use (G := fun x1 E => GW κ (wdX τ) 2 (0, 0) (xMQ κ (wdX τ) (xR 37) (z12_i Z)) (E, N) 2 [(0, .ref (τ.2.2 30)), (1, .int x1)] []) (fun k2 x1 E hk2 h => wk_X_explore_b2 o hk2 h) h
def X_explore_b0 (Z : Int32 → xF → xF → Prop) (E : xF) (N : xF) : Prop := X_explore_L2 Z E N (0 : Int32)
set_option maxRecDepth 10000 in
theorem wk_X_explore_b0 {κ : Cx} {τ : xT} {Z : Int32 → xF → xF → Prop} {E : xF} {N : xF} (o : OKc κ (wdX τ) 2 b_X_explore "StateExplorer" (some .int) (xR 37)) (h : X_explore_b0 Z E N) : GW κ (wdX τ) 2 (0, 0) (xMQ κ (wdX τ) (xR 37) (z12_i Z)) (E, N) 0 [(0, .ref (τ.2.2 30))] [] := by
  unfold X_explore_b0 at h
  refine gw_iconst (pc := 0) (v := (0 : Int32)) o d_X_explore_0 (by decide) ?_
  refine gw_istore_n (pc := 1) (lv' := [(1, .int (0 : Int32)), (0, .ref (τ.2.2 30))]) o d_X_explore_1 rfl (by decide) rfl ?_
  exact gw_sub (lv' := [(0, .ref (τ.2.2 30)), (1, .int (0 : Int32))]) [1, 0] rfl (wk_X_explore_L2 o h)
def w_X_explore  (E : xF) (N : xF)  (Z : Int32 → xF → xF → Prop) : Prop := X_explore_b0  Z E N
theorem ct_X_explore {l : Launch} {τ : xT} {E : xF} {N : xF}  {Z : Int32 → xF → xF → Prop} (hD : xD (wdX τ)) (h : w_X_explore  E N Z) : CT l (wdX τ) y_X_explore (.code y_X_explore b_X_explore 2 (some .int)) (xR 37) [.ref (τ.2.2 30)] (E, N) (z12_i Z) := by
  subst_vars
  exact CT.of (by decide) (Nat.le_of_ble_eq_true rfl) hD (fun κ hl ha o => gw_sub (lv' := [(0, .ref (τ.2.2 30))]) [0] rfl (wk_X_explore_b0 o h))
