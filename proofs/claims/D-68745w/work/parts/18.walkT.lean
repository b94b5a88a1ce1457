/-! the throwing side, printed by gent.py -/
def xRt (n : Nat) : Room := { frames := n + 8, cells := 1, slots := 6, locals := 40 * n + 200 }
theorem xRo_t1 {n m maxL : Nat} (h : m + 1 ≤ n) (h2 : maxL ≤ 21) : xRo (xRt n) (0, 0) (xR m) maxL := ⟨by show m + 1 ≤ n + 8; omega, by show 8 + (maxL + 11) + 40 * m ≤ 40 * n + 200; omega, by show 0 + 0 ≤ 1; decide, by show 0 + 0 ≤ 6; decide⟩
theorem xRo_t2 {n m maxL : Nat} (h : m + 1 ≤ n) (h2 : maxL ≤ 21) : xRo (xRt n) (0, 0) (xRt m) maxL := ⟨by show m + 8 + 1 ≤ n + 8; omega, by show 8 + (maxL + 11) + (40 * m + 200) ≤ 40 * n + 200; omega, Nat.le_refl _, Nat.le_refl _⟩
theorem xSa_X (τ : xT) : xSa (wdX τ) := fun _ _ => rfl
theorem xta {L : List Cond} (h : ∀ w ∈ L, (w ∈ lw_tbl ∧ goodWord w = true) ∨ w ∈ th_ws) : ∀ w ∈ L, w ∈ xw_ok ∨ w ∈ th_ws := fun w hw => (h w hw).imp (fun h => xw_mem h.1 h.2) id
theorem ta_0_85 : ∀ w ∈ Bundle.ownAtoms0 "StateExplorer" 85 (eN 0) xnames, w ∈ xw_ok ∨ w ∈ th_ws := xta (by decide +kernel)
theorem ta_1_74 : ∀ w ∈ Bundle.ownAtoms0 "StateExplorer" 74 (eN 1) xnames, w ∈ xw_ok ∨ w ∈ th_ws := xta (by decide +kernel)
theorem ta_2_108 : ∀ w ∈ Bundle.ownAtoms0 "StateExplorer" 108 (eN 2) xnames, w ∈ xw_ok ∨ w ∈ th_ws := xta (by decide +kernel)
def t_X_need (E N : xF) (x0 : Int32) (T : Nat → Prop) : Prop := ((x0 = 0) → (T 1)) ∧ (¬ (x0 = 0) → (False))
theorem tk_X_need {κ : Cx} {τ : xT} {T : Nat → Prop} {E N : xF} {x0 : Int32} (o : OKc κ (wdX τ) 1 b_X_need "StateExplorer" none (xRt 0)) (t : OKt κ (wdX τ) (E, N)) (hnh : (kC κ).exceptionTable.isEmpty = true) (htr : ∀ e : Env, (kL κ).admits e → e.platform.stackTraces = false) (h : t_X_need E N x0 T) : GW κ (wdX τ) 1 (0, 0) (xMT κ (wdX τ) (xRt 0) (E, N) T) (E, N) 0 [(0, .int x0)] [] := by
  unfold t_X_need at h
  refine gw_iload_n (pc := 0) o d_X_need_0 rfl 0 rfl ?_
  refine gw_if_ne (pc := 1) (tgt := 12) o d_X_need_1 (by decide) (fun hc => ?_) (fun hc => ?_)
  · have h := h.2 hc
    exact h.elim
  · have h := h.1 hc
    exact gw_throw (pc := 4) (kd := 1) (i2 := 74) o t hnh (by decide) h (by decide) q_419 q_420 q_8 ta_1_74 d_X_need_4 d_X_need_7 d_X_need_8 d_X_need_11 ⟨by decide, by decide, by decide, by decide⟩ (Nat.le_of_ble_eq_true rfl)
theorem tt_X_need {l : Launch} {τ : xT} {E N : xF} {x0 : Int32} {T : Nat → Prop} (hD : xD (wdX τ)) (htr : ∀ e : Env, l.admits e → e.platform.stackTraces = false) (h : t_X_need E N x0 T) : CTT l (wdX τ) y_X_need (.code y_X_need b_X_need 1 none) (xRt 0) [.int x0] (E, N) T := CTT.of (by decide) (Nat.le_of_ble_eq_true rfl) hD (xSa_X τ) htr (fun κ hl ha o t hnh => tk_X_need o t hnh (hl ▸ htr) h)
def t_X_there (E N : xF) (x1 : Int32) (T : Nat → Prop) : Prop := ((x1 < 0) → (t_X_need E N (0 : Int32) T)) ∧ (¬ (x1 < 0) → ((((E 30 1) ≤ x1) → (t_X_need E N (0 : Int32) T)) ∧ (¬ ((E 30 1) ≤ x1) → (t_X_need E N (1 : Int32) T))))
theorem tk_X_there {κ : Cx} {τ : xT} {T : Nat → Prop} {E N : xF} {x1 : Int32} (o : OKc κ (wdX τ) 2 b_X_there "StateExplorer" (some .int) (xRt 1)) (t : OKt κ (wdX τ) (E, N)) (hnh : (kC κ).exceptionTable.isEmpty = true) (htr : ∀ e : Env, (kL κ).admits e → e.platform.stackTraces = false) (h : t_X_there E N x1 T) : GW κ (wdX τ) 2 (0, 0) (xMT κ (wdX τ) (xRt 1) (E, N) T) (E, N) 0 [(0, .ref (τ.2.2 30)), (1, .int x1)] [] := by
  unfold t_X_there at h
  refine gw_iload_n (pc := 0) o d_X_there_0 rfl 1 rfl ?_
  refine gw_if_lt (pc := 1) (tgt := 16) o d_X_there_1 (by decide) (fun hc => ?_) (fun hc => ?_)
  · have h := h.1 hc
    refine gw_iconst (pc := 16) (v := (0 : Int32)) o d_X_there_16 (by decide) ?_
    exact gw_callTS (pc := 17) (As := [.int (0 : Int32)]) (st := []) o t hnh (tt_X_need o.hD htr h) mi_X_need q_416 q_417 (xRo_t2 (by decide) (by decide)) rfl rfl (Nat.le_of_ble_eq_true rfl) d_X_there_17
  · have h := h.2 hc
    refine gw_iload_n (pc := 4) o d_X_there_4 rfl 1 rfl ?_
    refine gw_aload_n (pc := 5) o d_X_there_5 rfl 0 rfl ?_
    refine gE_get_gates (pc := 6) o q_81 d_X_there_6 ?_
    refine gw_icmp_ge (pc := 9) (tgt := 16) o d_X_there_9 (by decide) (fun hc => ?_) (fun hc => ?_)
    · have h := h.1 hc
      refine gw_iconst (pc := 16) (v := (0 : Int32)) o d_X_there_16 (by decide) ?_
      exact gw_callTS (pc := 17) (As := [.int (0 : Int32)]) (st := []) o t hnh (tt_X_need o.hD htr h) mi_X_need q_416 q_417 (xRo_t2 (by decide) (by decide)) rfl rfl (Nat.le_of_ble_eq_true rfl) d_X_there_17
    · have h := h.2 hc
      refine gw_iconst (pc := 12) (v := (1 : Int32)) o d_X_there_12 (by decide) ?_
      refine gw_goto (pc := 13) (tgt := 17) o d_X_there_13 (by decide) ?_
      exact gw_callTS (pc := 17) (As := [.int (1 : Int32)]) (st := []) o t hnh (tt_X_need o.hD htr h) mi_X_need q_416 q_417 (xRo_t2 (by decide) (by decide)) rfl rfl (Nat.le_of_ble_eq_true rfl) d_X_there_17
theorem tt_X_there {l : Launch} {τ : xT} {E N : xF} {x1 : Int32} {T : Nat → Prop} (hD : xD (wdX τ)) (htr : ∀ e : Env, l.admits e → e.platform.stackTraces = false) (h : t_X_there E N x1 T) : CTT l (wdX τ) y_X_there (.code y_X_there b_X_there 2 (some .int)) (xRt 1) [.ref (τ.2.2 30), .int x1] (E, N) T := CTT.of (by decide) (Nat.le_of_ble_eq_true rfl) hD (xSa_X τ) htr (fun κ hl ha o t hnh => tk_X_there o t hnh (hl ▸ htr) h)
def t_X_gate (E N : xF) (x1 : Int32) (T : Nat → Prop) : Prop := ((x1 < 0) → (T 0)) ∧ (¬ (x1 < 0) → (((x1 ≤ (3 : Int32)) → (False)) ∧ (¬ (x1 ≤ (3 : Int32)) → (T 0))))
theorem tk_X_gate {κ : Cx} {τ : xT} {T : Nat → Prop} {E N : xF} {x1 : Int32} (o : OKc κ (wdX τ) 2 b_X_gate "StateExplorer" (some .int) (xRt 0)) (t : OKt κ (wdX τ) (E, N)) (hnh : (kC κ).exceptionTable.isEmpty = true) (htr : ∀ e : Env, (kL κ).admits e → e.platform.stackTraces = false) (h : t_X_gate E N x1 T) : GW κ (wdX τ) 2 (0, 0) (xMT κ (wdX τ) (xRt 0) (E, N) T) (E, N) 0 [(0, .ref (τ.2.2 30)), (1, .int x1)] [] := by
  unfold t_X_gate at h
  refine gw_iload_n (pc := 0) o d_X_gate_0 rfl 1 rfl ?_
  refine gw_if_lt (pc := 1) (tgt := 9) o d_X_gate_1 (by decide) (fun hc => ?_) (fun hc => ?_)
  · have h := h.1 hc
    exact gw_throw (pc := 9) (kd := 0) (i2 := 85) o t hnh (by decide) h (by decide) q_340 q_341 q_7 ta_0_85 d_X_gate_9 d_X_gate_12 d_X_gate_13 d_X_gate_16 ⟨by decide, by decide, by decide, by decide⟩ (Nat.le_of_ble_eq_true rfl)
  · have h := h.2 hc
    refine gw_iload_n (pc := 4) o d_X_gate_4 rfl 1 rfl ?_
    refine gw_iconst (pc := 5) (v := (3 : Int32)) o d_X_gate_5 (by decide) ?_
    refine gw_icmp_le (pc := 6) (tgt := 17) o d_X_gate_6 (by decide) (fun hc => ?_) (fun hc => ?_)
    · have h := h.1 hc
      exact h.elim
    · have h := h.2 hc
      exact gw_throw (pc := 9) (kd := 0) (i2 := 85) o t hnh (by decide) h (by decide) q_340 q_341 q_7 ta_0_85 d_X_gate_9 d_X_gate_12 d_X_gate_13 d_X_gate_16 ⟨by decide, by decide, by decide, by decide⟩ (Nat.le_of_ble_eq_true rfl)
theorem tt_X_gate {l : Launch} {τ : xT} {E N : xF} {x1 : Int32} {T : Nat → Prop} (hD : xD (wdX τ)) (htr : ∀ e : Env, l.admits e → e.platform.stackTraces = false) (h : t_X_gate E N x1 T) : CTT l (wdX τ) y_X_gate (.code y_X_gate b_X_gate 2 (some .int)) (xRt 0) [.ref (τ.2.2 30), .int x1] (E, N) T := CTT.of (by decide) (Nat.le_of_ble_eq_true rfl) hD (xSa_X τ) htr (fun κ hl ha o t hnh => tk_X_gate o t hnh (hl ▸ htr) h)
def t_X_feed (E N : xF) (x1 : Int32) (x2 : Int32) (x3 : Int32) (T : Nat → Prop) : Prop := (w_X_there E N x1 (fun r2 => (w_X_there E N x2 (fun r8 => vp_in x1 60 ∧ ((((E 6 x1.toNatClampNeg) = 0) → (T 2)) ∧ (¬ ((E 6 x1.toNatClampNeg) = 0) → (vp_in x1 60 ∧ ((((E 6 x1.toNatClampNeg) = (1 : Int32)) → (w_X_feedsOf E N x1 (fun r33 => ((r33 ≤ 0) → (False)) ∧ (¬ (r33 ≤ 0) → (T 2))))) ∧ (¬ ((E 6 x1.toNatClampNeg) = (1 : Int32)) → (False)))))))) ∨ (t_X_there E N x2 T))) ∨ (t_X_there E N x1 T)
theorem tk_X_feed {κ : Cx} {τ : xT} {T : Nat → Prop} {E N : xF} {x1 : Int32} {x2 : Int32} {x3 : Int32} (o : OKc κ (wdX τ) 4 b_X_feed "StateExplorer" (some .int) (xRt 2)) (t : OKt κ (wdX τ) (E, N)) (hnh : (kC κ).exceptionTable.isEmpty = true) (htr : ∀ e : Env, (kL κ).admits e → e.platform.stackTraces = false) (h : t_X_feed E N x1 x2 x3 T) : GW κ (wdX τ) 4 (0, 0) (xMT κ (wdX τ) (xRt 2) (E, N) T) (E, N) 0 [(0, .ref (τ.2.2 30)), (1, .int x1), (2, .int x2), (3, .int x3)] [] := by
  unfold t_X_feed at h
  refine gw_aload_n (pc := 0) o d_X_feed_0 rfl 0 rfl ?_
  refine gw_iload_n (pc := 1) o d_X_feed_1 rfl 1 rfl ?_
  rcases h with h | h
  · refine gw_callV (pc := 2) (b := τ.2.2 30) (As := [.int x1]) (st := []) o (ct_X_there o.hD h) mi_X_there q_412 q_414 qs_23 0 rfl rfl (xRo_t1 (by decide) (by decide)) rfl rfl (Nat.le_of_ble_eq_true rfl) d_X_feed_2 (kk_p_i rfl (fun r2 h => ?_))
    refine gw_pop (pc := 5) o d_X_feed_5 rfl ?_
    refine gw_aload_n (pc := 6) o d_X_feed_6 rfl 0 rfl ?_
    refine gw_iload_n (pc := 7) o d_X_feed_7 rfl 2 rfl ?_
    rcases h with h | h
    · refine gw_callV (pc := 8) (b := τ.2.2 30) (As := [.int x2]) (st := []) o (ct_X_there o.hD h) mi_X_there q_412 q_414 qs_23 0 rfl rfl (xRo_t1 (by decide) (by decide)) rfl rfl (Nat.le_of_ble_eq_true rfl) d_X_feed_8 (kk_p_i rfl (fun r8 h => ?_))
      refine gw_pop (pc := 11) o d_X_feed_11 rfl ?_
      refine gw_aload_n (pc := 12) o d_X_feed_12 rfl 0 rfl ?_
      refine gE_get_sorts (pc := 13) o q_86 d_X_feed_13 ?_
      refine gw_iload_n (pc := 16) o d_X_feed_16 rfl 1 rfl ?_
      have hi := h.1
      have h := h.2
      refine gE_ald_sorts (pc := 17) o hi d_X_feed_17 ?_
      refine gw_if_eq (pc := 18) (tgt := 39) o d_X_feed_18 (by decide) (fun hc => ?_) (fun hc => ?_)
      · have h := h.1 hc
        exact gw_throw (pc := 39) (kd := 2) (i2 := 108) o t hnh (by decide) h (by decide) q_438 q_439 q_9 ta_2_108 d_X_feed_39 d_X_feed_42 d_X_feed_43 d_X_feed_46 ⟨by decide, by decide, by decide, by decide⟩ (Nat.le_of_ble_eq_true rfl)
      · have h := h.2 hc
        refine gw_aload_n (pc := 21) o d_X_feed_21 rfl 0 rfl ?_
        refine gE_get_sorts (pc := 22) o q_86 d_X_feed_22 ?_
        refine gw_iload_n (pc := 25) o d_X_feed_25 rfl 1 rfl ?_
        have hi := h.1
        have h := h.2
        refine gE_ald_sorts (pc := 26) o hi d_X_feed_26 ?_
        refine gw_iconst (pc := 27) (v := (1 : Int32)) o d_X_feed_27 (by decide) ?_
        refine gw_icmp_ne (pc := 28) (tgt := 47) o d_X_feed_28 (by decide) (fun hc => ?_) (fun hc => ?_)
        · have h := h.2 hc
          exact h.elim
        · have h := h.1 hc
          refine gw_aload_n (pc := 31) o d_X_feed_31 rfl 0 rfl ?_
          refine gw_iload_n (pc := 32) o d_X_feed_32 rfl 1 rfl ?_
          refine gw_callV (pc := 33) (b := τ.2.2 30) (As := [.int x1]) (st := []) o (ct_X_feedsOf o.hD h) mi_X_feedsOf q_434 q_436 qs_24 0 rfl rfl (xRo_t1 (by decide) (by decide)) rfl rfl (Nat.le_of_ble_eq_true rfl) d_X_feed_33 (kk_p_i rfl (fun r33 h => ?_))
          refine gw_if_le (pc := 36) (tgt := 47) o d_X_feed_36 (by decide) (fun hc => ?_) (fun hc => ?_)
          · have h := h.1 hc
            exact h.elim
          · have h := h.2 hc
            exact gw_throw (pc := 39) (kd := 2) (i2 := 108) o t hnh (by decide) h (by decide) q_438 q_439 q_9 ta_2_108 d_X_feed_39 d_X_feed_42 d_X_feed_43 d_X_feed_46 ⟨by decide, by decide, by decide, by decide⟩ (Nat.le_of_ble_eq_true rfl)
    · exact gw_callTV (pc := 8) (b := τ.2.2 30) (As := [.int x2]) (st := []) o t hnh (tt_X_there o.hD htr h) mi_X_there q_412 q_414 qs_23 0 rfl rfl (xRo_t2 (by decide) (by decide)) rfl rfl (Nat.le_of_ble_eq_true rfl) d_X_feed_8
  · exact gw_callTV (pc := 2) (b := τ.2.2 30) (As := [.int x1]) (st := []) o t hnh (tt_X_there o.hD htr h) mi_X_there q_412 q_414 qs_23 0 rfl rfl (xRo_t2 (by decide) (by decide)) rfl rfl (Nat.le_of_ble_eq_true rfl) d_X_feed_2
theorem tt_X_feed {l : Launch} {τ : xT} {E N : xF} {x1 : Int32} {x2 : Int32} {x3 : Int32} {T : Nat → Prop} (hD : xD (wdX τ)) (htr : ∀ e : Env, l.admits e → e.platform.stackTraces = false) (h : t_X_feed E N x1 x2 x3 T) : CTT l (wdX τ) y_X_feed (.code y_X_feed b_X_feed 4 (some .int)) (xRt 2) [.ref (τ.2.2 30), .int x1, .int x2, .int x3] (E, N) T := CTT.of (by decide) (Nat.le_of_ble_eq_true rfl) hD (xSa_X τ) htr (fun κ hl ha o t hnh => tk_X_feed o t hnh (hl ▸ htr) h)
def t_X_output (E N : xF) (x1 : Int32) (T : Nat → Prop) : Prop := t_X_there E N x1 T
theorem tk_X_output {κ : Cx} {τ : xT} {T : Nat → Prop} {E N : xF} {x1 : Int32} (o : OKc κ (wdX τ) 2 b_X_output "StateExplorer" (some .int) (xRt 2)) (t : OKt κ (wdX τ) (E, N)) (hnh : (kC κ).exceptionTable.isEmpty = true) (htr : ∀ e : Env, (kL κ).admits e → e.platform.stackTraces = false) (h : t_X_output E N x1 T) : GW κ (wdX τ) 2 (0, 0) (xMT κ (wdX τ) (xRt 2) (E, N) T) (E, N) 0 [(0, .ref (τ.2.2 30)), (1, .int x1)] [] := by
  unfold t_X_output at h
  refine gw_aload_n (pc := 0) o d_X_output_0 rfl 0 rfl ?_
  refine gw_iload_n (pc := 1) o d_X_output_1 rfl 1 rfl ?_
  exact gw_callTV (pc := 2) (b := τ.2.2 30) (As := [.int x1]) (st := []) o t hnh (tt_X_there o.hD htr h) mi_X_there q_412 q_414 qs_23 0 rfl rfl (xRo_t2 (by decide) (by decide)) rfl rfl (Nat.le_of_ble_eq_true rfl) d_X_output_2
theorem tt_X_output {l : Launch} {τ : xT} {E N : xF} {x1 : Int32} {T : Nat → Prop} (hD : xD (wdX τ)) (htr : ∀ e : Env, l.admits e → e.platform.stackTraces = false) (h : t_X_output E N x1 T) : CTT l (wdX τ) y_X_output (.code y_X_output b_X_output 2 (some .int)) (xRt 2) [.ref (τ.2.2 30), .int x1] (E, N) T := CTT.of (by decide) (Nat.le_of_ble_eq_true rfl) hD (xSa_X τ) htr (fun κ hl ha o t hnh => tk_X_output o t hnh (hl ▸ htr) h)
def t_X_needsExplored (E N : xF)  (T : Nat → Prop) : Prop := (((E 30 13) = 0) → (T 2)) ∧ (¬ ((E 30 13) = 0) → (False))
theorem tk_X_needsExplored {κ : Cx} {τ : xT} {T : Nat → Prop} {E N : xF}  (o : OKc κ (wdX τ) 1 b_X_needsExplored "StateExplorer" none (xRt 0)) (t : OKt κ (wdX τ) (E, N)) (hnh : (kC κ).exceptionTable.isEmpty = true) (htr : ∀ e : Env, (kL κ).admits e → e.platform.stackTraces = false) (h : t_X_needsExplored E N  T) : GW κ (wdX τ) 1 (0, 0) (xMT κ (wdX τ) (xRt 0) (E, N) T) (E, N) 0 [(0, .ref (τ.2.2 30))] [] := by
  unfold t_X_needsExplored at h
  refine gw_aload_n (pc := 0) o d_X_needsExplored_0 rfl 0 rfl ?_
  refine gE_get_explored (pc := 1) o q_93 d_X_needsExplored_1 ?_
  refine gw_if_ne (pc := 4) (tgt := 15) o d_X_needsExplored_4 (by decide) (fun hc => ?_) (fun hc => ?_)
  · have h := h.2 hc
    exact h.elim
  · have h := h.1 hc
    exact gw_throw (pc := 7) (kd := 2) (i2 := 108) o t hnh (by decide) h (by decide) q_438 q_439 q_9 ta_2_108 d_X_needsExplored_7 d_X_needsExplored_10 d_X_needsExplored_11 d_X_needsExplored_14 ⟨by decide, by decide, by decide, by decide⟩ (Nat.le_of_ble_eq_true rfl)
theorem tt_X_needsExplored {l : Launch} {τ : xT} {E N : xF}  {T : Nat → Prop} (hD : xD (wdX τ)) (htr : ∀ e : Env, l.admits e → e.platform.stackTraces = false) (h : t_X_needsExplored E N  T) : CTT l (wdX τ) y_X_needsExplored (.code y_X_needsExplored b_X_needsExplored 1 none) (xRt 0) [.ref (τ.2.2 30)] (E, N) T := CTT.of (by decide) (Nat.le_of_ble_eq_true rfl) hD (xSa_X τ) htr (fun κ hl ha o t hnh => tk_X_needsExplored o t hnh (hl ▸ htr) h)
def t_X_needsState (E N : xF) (x1 : Int32) (T : Nat → Prop) : Prop := (w_X_needsExplored E N (((x1 < 0) → (t_X_need E N (0 : Int32) T)) ∧ (¬ (x1 < 0) → (((((1 : Int32) <<< ((E 30 4) &&& 31)) ≤ x1) → (t_X_need E N (0 : Int32) T)) ∧ (¬ (((1 : Int32) <<< ((E 30 4) &&& 31)) ≤ x1) → (t_X_need E N (1 : Int32) T)))))) ∨ (t_X_needsExplored E N T)
theorem tk_X_needsState {κ : Cx} {τ : xT} {T : Nat → Prop} {E N : xF} {x1 : Int32} (o : OKc κ (wdX τ) 2 b_X_needsState "StateExplorer" none (xRt 1)) (t : OKt κ (wdX τ) (E, N)) (hnh : (kC κ).exceptionTable.isEmpty = true) (htr : ∀ e : Env, (kL κ).admits e → e.platform.stackTraces = false) (h : t_X_needsState E N x1 T) : GW κ (wdX τ) 2 (0, 0) (xMT κ (wdX τ) (xRt 1) (E, N) T) (E, N) 0 [(0, .ref (τ.2.2 30)), (1, .int x1)] [] := by
  unfold t_X_needsState at h
  refine gw_aload_n (pc := 0) o d_X_needsState_0 rfl 0 rfl ?_
  rcases h with h | h
  · refine gw_callV (pc := 1) (b := τ.2.2 30) (As := []) (st := []) o (ct_X_needsExplored o.hD h) mi_X_needsExplored q_471 q_473 qs_26 0 rfl rfl (xRo_t1 (by decide) (by decide)) rfl rfl (Nat.le_of_ble_eq_true rfl) d_X_needsState_1 (kk_p_v rfl (fun h => ?_))
    refine gw_iload_n (pc := 4) o d_X_needsState_4 rfl 1 rfl ?_
    refine gw_if_lt (pc := 5) (tgt := 22) o d_X_needsState_5 (by decide) (fun hc => ?_) (fun hc => ?_)
    · have h := h.1 hc
      refine gw_iconst (pc := 22) (v := (0 : Int32)) o d_X_needsState_22 (by decide) ?_
      exact gw_callTS (pc := 23) (As := [.int (0 : Int32)]) (st := []) o t hnh (tt_X_need o.hD htr h) mi_X_need q_416 q_417 (xRo_t2 (by decide) (by decide)) rfl rfl (Nat.le_of_ble_eq_true rfl) d_X_needsState_23
    · have h := h.2 hc
      refine gw_iload_n (pc := 8) o d_X_needsState_8 rfl 1 rfl ?_
      refine gw_iconst (pc := 9) (v := (1 : Int32)) o d_X_needsState_9 (by decide) ?_
      refine gw_aload_n (pc := 10) o d_X_needsState_10 rfl 0 rfl ?_
      refine gE_get_latches (pc := 11) o q_84 d_X_needsState_11 ?_
      refine gw_ishl (pc := 14) o d_X_needsState_14 ?_
      refine gw_icmp_ge (pc := 15) (tgt := 22) o d_X_needsState_15 (by decide) (fun hc => ?_) (fun hc => ?_)
      · have h := h.1 hc
        refine gw_iconst (pc := 22) (v := (0 : Int32)) o d_X_needsState_22 (by decide) ?_
        exact gw_callTS (pc := 23) (As := [.int (0 : Int32)]) (st := []) o t hnh (tt_X_need o.hD htr h) mi_X_need q_416 q_417 (xRo_t2 (by decide) (by decide)) rfl rfl (Nat.le_of_ble_eq_true rfl) d_X_needsState_23
      · have h := h.2 hc
        refine gw_iconst (pc := 18) (v := (1 : Int32)) o d_X_needsState_18 (by decide) ?_
        refine gw_goto (pc := 19) (tgt := 23) o d_X_needsState_19 (by decide) ?_
        exact gw_callTS (pc := 23) (As := [.int (1 : Int32)]) (st := []) o t hnh (tt_X_need o.hD htr h) mi_X_need q_416 q_417 (xRo_t2 (by decide) (by decide)) rfl rfl (Nat.le_of_ble_eq_true rfl) d_X_needsState_23
  · exact gw_callTV (pc := 1) (b := τ.2.2 30) (As := []) (st := []) o t hnh (tt_X_needsExplored o.hD htr h) mi_X_needsExplored q_471 q_473 qs_26 0 rfl rfl (xRo_t2 (by decide) (by decide)) rfl rfl (Nat.le_of_ble_eq_true rfl) d_X_needsState_1
theorem tt_X_needsState {l : Launch} {τ : xT} {E N : xF} {x1 : Int32} {T : Nat → Prop} (hD : xD (wdX τ)) (htr : ∀ e : Env, l.admits e → e.platform.stackTraces = false) (h : t_X_needsState E N x1 T) : CTT l (wdX τ) y_X_needsState (.code y_X_needsState b_X_needsState 2 none) (xRt 1) [.ref (τ.2.2 30), .int x1] (E, N) T := CTT.of (by decide) (Nat.le_of_ble_eq_true rfl) hD (xSa_X τ) htr (fun κ hl ha o t hnh => tk_X_needsState o t hnh (hl ▸ htr) h)
def t_X_distance (E N : xF) (x1 : Int32) (T : Nat → Prop) : Prop := t_X_needsState E N x1 T
theorem tk_X_distance {κ : Cx} {τ : xT} {T : Nat → Prop} {E N : xF} {x1 : Int32} (o : OKc κ (wdX τ) 3 b_X_distance "StateExplorer" (some .int) (xRt 2)) (t : OKt κ (wdX τ) (E, N)) (hnh : (kC κ).exceptionTable.isEmpty = true) (htr : ∀ e : Env, (kL κ).admits e → e.platform.stackTraces = false) (h : t_X_distance E N x1 T) : GW κ (wdX τ) 3 (0, 0) (xMT κ (wdX τ) (xRt 2) (E, N) T) (E, N) 0 [(0, .ref (τ.2.2 30)), (1, .int x1)] [] := by
  unfold t_X_distance at h
  refine gw_aload_n (pc := 0) o d_X_distance_0 rfl 0 rfl ?_
  refine gw_iload_n (pc := 1) o d_X_distance_1 rfl 1 rfl ?_
  exact gw_callTV (pc := 2) (b := τ.2.2 30) (As := [.int x1]) (st := []) o t hnh (tt_X_needsState o.hD htr h) mi_X_needsState q_467 q_469 qs_25 0 rfl rfl (xRo_t2 (by decide) (by decide)) rfl rfl (Nat.le_of_ble_eq_true rfl) d_X_distance_2
theorem tt_X_distance {l : Launch} {τ : xT} {E N : xF} {x1 : Int32} {T : Nat → Prop} (hD : xD (wdX τ)) (htr : ∀ e : Env, l.admits e → e.platform.stackTraces = false) (h : t_X_distance E N x1 T) : CTT l (wdX τ) y_X_distance (.code y_X_distance b_X_distance 3 (some .int)) (xRt 2) [.ref (τ.2.2 30), .int x1] (E, N) T := CTT.of (by decide) (Nat.le_of_ble_eq_true rfl) hD (xSa_X τ) htr (fun κ hl ha o t hnh => tk_X_distance o t hnh (hl ▸ htr) h)
def t_X_way (E N : xF) (x1 : Int32) (x2 : Int32) (T : Nat → Prop) : Prop := t_X_distance E N x1 T
theorem tk_X_way {κ : Cx} {τ : xT} {T : Nat → Prop} {E N : xF} {x1 : Int32} {x2 : Int32} (o : OKc κ (wdX τ) 4 b_X_way "StateExplorer" (some .int) (xRt 38)) (t : OKt κ (wdX τ) (E, N)) (hnh : (kC κ).exceptionTable.isEmpty = true) (htr : ∀ e : Env, (kL κ).admits e → e.platform.stackTraces = false) (h : t_X_way E N x1 x2 T) : GW κ (wdX τ) 4 (0, 0) (xMT κ (wdX τ) (xRt 38) (E, N) T) (E, N) 0 [(0, .ref (τ.2.2 30)), (1, .int x1), (2, .int x2)] [] := by
  unfold t_X_way at h
  refine gw_aload_n (pc := 0) o d_X_way_0 rfl 0 rfl ?_
  refine gw_iload_n (pc := 1) o d_X_way_1 rfl 1 rfl ?_
  exact gw_callTV (pc := 2) (b := τ.2.2 30) (As := [.int x1]) (st := []) o t hnh (tt_X_distance o.hD htr h) mi_X_distance q_482 q_464 q_465 0 rfl rfl (xRo_t2 (by decide) (by decide)) rfl rfl (Nat.le_of_ble_eq_true rfl) d_X_way_2
theorem tt_X_way {l : Launch} {τ : xT} {E N : xF} {x1 : Int32} {x2 : Int32} {T : Nat → Prop} (hD : xD (wdX τ)) (htr : ∀ e : Env, l.admits e → e.platform.stackTraces = false) (h : t_X_way E N x1 x2 T) : CTT l (wdX τ) y_X_way (.code y_X_way b_X_way 4 (some .int)) (xRt 38) [.ref (τ.2.2 30), .int x1, .int x2] (E, N) T := CTT.of (by decide) (Nat.le_of_ble_eq_true rfl) hD (xSa_X τ) htr (fun κ hl ha o t hnh => tk_X_way o t hnh (hl ▸ htr) h)
def t_X_many (E N : xF) (x1 : Int32) (T : Nat → Prop) : Prop := t_X_needsExplored E N T
theorem tk_X_many {κ : Cx} {τ : xT} {T : Nat → Prop} {E N : xF} {x1 : Int32} (o : OKc κ (wdX τ) 2 b_X_many "StateExplorer" (some .int) (xRt 19)) (t : OKt κ (wdX τ) (E, N)) (hnh : (kC κ).exceptionTable.isEmpty = true) (htr : ∀ e : Env, (kL κ).admits e → e.platform.stackTraces = false) (h : t_X_many E N x1 T) : GW κ (wdX τ) 2 (0, 0) (xMT κ (wdX τ) (xRt 19) (E, N) T) (E, N) 0 [(0, .ref (τ.2.2 30)), (1, .int x1)] [] := by
  unfold t_X_many at h
  refine gw_aload_n (pc := 0) o d_X_many_0 rfl 0 rfl ?_
  exact gw_callTV (pc := 1) (b := τ.2.2 30) (As := []) (st := []) o t hnh (tt_X_needsExplored o.hD htr h) mi_X_needsExplored q_471 q_473 qs_26 0 rfl rfl (xRo_t2 (by decide) (by decide)) rfl rfl (Nat.le_of_ble_eq_true rfl) d_X_many_1
theorem tt_X_many {l : Launch} {τ : xT} {E N : xF} {x1 : Int32} {T : Nat → Prop} (hD : xD (wdX τ)) (htr : ∀ e : Env, l.admits e → e.platform.stackTraces = false) (h : t_X_many E N x1 T) : CTT l (wdX τ) y_X_many (.code y_X_many b_X_many 2 (some .int)) (xRt 19) [.ref (τ.2.2 30), .int x1] (E, N) T := CTT.of (by decide) (Nat.le_of_ble_eq_true rfl) hD (xSa_X τ) htr (fun κ hl ha o t hnh => tk_X_many o t hnh (hl ▸ htr) h)
def t_X_next (E N : xF) (x1 : Int32) (x2 : Int32) (T : Nat → Prop) : Prop := (w_X_needsState E N x1 (((x2 < 0) → (t_X_need E N (0 : Int32) T)) ∧ (¬ (x2 < 0) → ((((16 : Int32) ≤ x2) → (t_X_need E N (0 : Int32) T)) ∧ (¬ ((16 : Int32) ≤ x2) → (t_X_need E N (1 : Int32) T)))))) ∨ (t_X_needsState E N x1 T)
theorem tk_X_next {κ : Cx} {τ : xT} {T : Nat → Prop} {E N : xF} {x1 : Int32} {x2 : Int32} (o : OKc κ (wdX τ) 3 b_X_next "StateExplorer" (some .int) (xRt 3)) (t : OKt κ (wdX τ) (E, N)) (hnh : (kC κ).exceptionTable.isEmpty = true) (htr : ∀ e : Env, (kL κ).admits e → e.platform.stackTraces = false) (h : t_X_next E N x1 x2 T) : GW κ (wdX τ) 3 (0, 0) (xMT κ (wdX τ) (xRt 3) (E, N) T) (E, N) 0 [(0, .ref (τ.2.2 30)), (1, .int x1), (2, .int x2)] [] := by
  unfold t_X_next at h
  refine gw_aload_n (pc := 0) o d_X_next_0 rfl 0 rfl ?_
  refine gw_iload_n (pc := 1) o d_X_next_1 rfl 1 rfl ?_
  rcases h with h | h
  · refine gw_callV (pc := 2) (b := τ.2.2 30) (As := [.int x1]) (st := []) o (ct_X_needsState o.hD h) mi_X_needsState q_467 q_469 qs_25 0 rfl rfl (xRo_t1 (by decide) (by decide)) rfl rfl (Nat.le_of_ble_eq_true rfl) d_X_next_2 (kk_p_v rfl (fun h => ?_))
    refine gw_iload_n (pc := 5) o d_X_next_5 rfl 2 rfl ?_
    refine gw_if_lt (pc := 6) (tgt := 19) o d_X_next_6 (by decide) (fun hc => ?_) (fun hc => ?_)
    · have h := h.1 hc
      refine gw_iconst (pc := 19) (v := (0 : Int32)) o d_X_next_19 (by decide) ?_
      exact gw_callTS (pc := 20) (As := [.int (0 : Int32)]) (st := []) o t hnh (tt_X_need o.hD htr h) mi_X_need q_416 q_417 (xRo_t2 (by decide) (by decide)) rfl rfl (Nat.le_of_ble_eq_true rfl) d_X_next_20
    · have h := h.2 hc
      refine gw_iload_n (pc := 9) o d_X_next_9 rfl 2 rfl ?_
      refine gw_bipush (pc := 10) (v := (16 : Int32)) o d_X_next_10 (by decide) ?_
      refine gw_icmp_ge (pc := 12) (tgt := 19) o d_X_next_12 (by decide) (fun hc => ?_) (fun hc => ?_)
      · have h := h.1 hc
        refine gw_iconst (pc := 19) (v := (0 : Int32)) o d_X_next_19 (by decide) ?_
        exact gw_callTS (pc := 20) (As := [.int (0 : Int32)]) (st := []) o t hnh (tt_X_need o.hD htr h) mi_X_need q_416 q_417 (xRo_t2 (by decide) (by decide)) rfl rfl (Nat.le_of_ble_eq_true rfl) d_X_next_20
      · have h := h.2 hc
        refine gw_iconst (pc := 15) (v := (1 : Int32)) o d_X_next_15 (by decide) ?_
        refine gw_goto (pc := 16) (tgt := 20) o d_X_next_16 (by decide) ?_
        exact gw_callTS (pc := 20) (As := [.int (1 : Int32)]) (st := []) o t hnh (tt_X_need o.hD htr h) mi_X_need q_416 q_417 (xRo_t2 (by decide) (by decide)) rfl rfl (Nat.le_of_ble_eq_true rfl) d_X_next_20
  · exact gw_callTV (pc := 2) (b := τ.2.2 30) (As := [.int x1]) (st := []) o t hnh (tt_X_needsState o.hD htr h) mi_X_needsState q_467 q_469 qs_25 0 rfl rfl (xRo_t2 (by decide) (by decide)) rfl rfl (Nat.le_of_ble_eq_true rfl) d_X_next_2
theorem tt_X_next {l : Launch} {τ : xT} {E N : xF} {x1 : Int32} {x2 : Int32} {T : Nat → Prop} (hD : xD (wdX τ)) (htr : ∀ e : Env, l.admits e → e.platform.stackTraces = false) (h : t_X_next E N x1 x2 T) : CTT l (wdX τ) y_X_next (.code y_X_next b_X_next 3 (some .int)) (xRt 3) [.ref (τ.2.2 30), .int x1, .int x2] (E, N) T := CTT.of (by decide) (Nat.le_of_ble_eq_true rfl) hD (xSa_X τ) htr (fun κ hl ha o t hnh => tk_X_next o t hnh (hl ▸ htr) h)
def t_X_doubt (E N : xF) (x1 : Int32) (T : Nat → Prop) : Prop := (w_X_needsExplored E N (((x1 < 0) → (t_X_need E N (0 : Int32) T)) ∧ (¬ (x1 < 0) → ((((2 : Int32) < x1) → (t_X_need E N (0 : Int32) T)) ∧ (¬ ((2 : Int32) < x1) → (t_X_need E N (1 : Int32) T)))))) ∨ (t_X_needsExplored E N T)
theorem tk_X_doubt {κ : Cx} {τ : xT} {T : Nat → Prop} {E N : xF} {x1 : Int32} (o : OKc κ (wdX τ) 4 b_X_doubt "StateExplorer" (some .int) (xRt 21)) (t : OKt κ (wdX τ) (E, N)) (hnh : (kC κ).exceptionTable.isEmpty = true) (htr : ∀ e : Env, (kL κ).admits e → e.platform.stackTraces = false) (h : t_X_doubt E N x1 T) : GW κ (wdX τ) 4 (0, 0) (xMT κ (wdX τ) (xRt 21) (E, N) T) (E, N) 0 [(0, .ref (τ.2.2 30)), (1, .int x1)] [] := by
  unfold t_X_doubt at h
  refine gw_aload_n (pc := 0) o d_X_doubt_0 rfl 0 rfl ?_
  rcases h with h | h
  · refine gw_callV (pc := 1) (b := τ.2.2 30) (As := []) (st := []) o (ct_X_needsExplored o.hD h) mi_X_needsExplored q_471 q_473 qs_26 0 rfl rfl (xRo_t1 (by decide) (by decide)) rfl rfl (Nat.le_of_ble_eq_true rfl) d_X_doubt_1 (kk_p_v rfl (fun h => ?_))
    refine gw_iload_n (pc := 4) o d_X_doubt_4 rfl 1 rfl ?_
    refine gw_if_lt (pc := 5) (tgt := 17) o d_X_doubt_5 (by decide) (fun hc => ?_) (fun hc => ?_)
    · have h := h.1 hc
      refine gw_iconst (pc := 17) (v := (0 : Int32)) o d_X_doubt_17 (by decide) ?_
      exact gw_callTS (pc := 18) (As := [.int (0 : Int32)]) (st := []) o t hnh (tt_X_need o.hD htr h) mi_X_need q_416 q_417 (xRo_t2 (by decide) (by decide)) rfl rfl (Nat.le_of_ble_eq_true rfl) d_X_doubt_18
    · have h := h.2 hc
      refine gw_iload_n (pc := 8) o d_X_doubt_8 rfl 1 rfl ?_
      refine gw_iconst (pc := 9) (v := (2 : Int32)) o d_X_doubt_9 (by decide) ?_
      refine gw_icmp_gt (pc := 10) (tgt := 17) o d_X_doubt_10 (by decide) (fun hc => ?_) (fun hc => ?_)
      · have h := h.1 hc
        refine gw_iconst (pc := 17) (v := (0 : Int32)) o d_X_doubt_17 (by decide) ?_
        exact gw_callTS (pc := 18) (As := [.int (0 : Int32)]) (st := []) o t hnh (tt_X_need o.hD htr h) mi_X_need q_416 q_417 (xRo_t2 (by decide) (by decide)) rfl rfl (Nat.le_of_ble_eq_true rfl) d_X_doubt_18
      · have h := h.2 hc
        refine gw_iconst (pc := 13) (v := (1 : Int32)) o d_X_doubt_13 (by decide) ?_
        refine gw_goto (pc := 14) (tgt := 18) o d_X_doubt_14 (by decide) ?_
        exact gw_callTS (pc := 18) (As := [.int (1 : Int32)]) (st := []) o t hnh (tt_X_need o.hD htr h) mi_X_need q_416 q_417 (xRo_t2 (by decide) (by decide)) rfl rfl (Nat.le_of_ble_eq_true rfl) d_X_doubt_18
  · exact gw_callTV (pc := 1) (b := τ.2.2 30) (As := []) (st := []) o t hnh (tt_X_needsExplored o.hD htr h) mi_X_needsExplored q_471 q_473 qs_26 0 rfl rfl (xRo_t2 (by decide) (by decide)) rfl rfl (Nat.le_of_ble_eq_true rfl) d_X_doubt_1
theorem tt_X_doubt {l : Launch} {τ : xT} {E N : xF} {x1 : Int32} {T : Nat → Prop} (hD : xD (wdX τ)) (htr : ∀ e : Env, l.admits e → e.platform.stackTraces = false) (h : t_X_doubt E N x1 T) : CTT l (wdX τ) y_X_doubt (.code y_X_doubt b_X_doubt 4 (some .int)) (xRt 21) [.ref (τ.2.2 30), .int x1] (E, N) T := CTT.of (by decide) (Nat.le_of_ble_eq_true rfl) hD (xSa_X τ) htr (fun κ hl ha o t hnh => tk_X_doubt o t hnh (hl ▸ htr) h)
def t_X_always (E N : xF) (x1 : Int32) (T : Nat → Prop) : Prop := (w_X_needsExplored E N (t_X_there E N x1 T)) ∨ (t_X_needsExplored E N T)
theorem tk_X_always {κ : Cx} {τ : xT} {T : Nat → Prop} {E N : xF} {x1 : Int32} (o : OKc κ (wdX τ) 2 b_X_always "StateExplorer" (some .int) (xRt 22)) (t : OKt κ (wdX τ) (E, N)) (hnh : (kC κ).exceptionTable.isEmpty = true) (htr : ∀ e : Env, (kL κ).admits e → e.platform.stackTraces = false) (h : t_X_always E N x1 T) : GW κ (wdX τ) 2 (0, 0) (xMT κ (wdX τ) (xRt 22) (E, N) T) (E, N) 0 [(0, .ref (τ.2.2 30)), (1, .int x1)] [] := by
  unfold t_X_always at h
  refine gw_aload_n (pc := 0) o d_X_always_0 rfl 0 rfl ?_
  rcases h with h | h
  · refine gw_callV (pc := 1) (b := τ.2.2 30) (As := []) (st := []) o (ct_X_needsExplored o.hD h) mi_X_needsExplored q_471 q_473 qs_26 0 rfl rfl (xRo_t1 (by decide) (by decide)) rfl rfl (Nat.le_of_ble_eq_true rfl) d_X_always_1 (kk_p_v rfl (fun h => ?_))
    refine gw_aload_n (pc := 4) o d_X_always_4 rfl 0 rfl ?_
    refine gw_iload_n (pc := 5) o d_X_always_5 rfl 1 rfl ?_
    exact gw_callTV (pc := 6) (b := τ.2.2 30) (As := [.int x1]) (st := []) o t hnh (tt_X_there o.hD htr h) mi_X_there q_412 q_414 qs_23 0 rfl rfl (xRo_t2 (by decide) (by decide)) rfl rfl (Nat.le_of_ble_eq_true rfl) d_X_always_6
  · exact gw_callTV (pc := 1) (b := τ.2.2 30) (As := []) (st := []) o t hnh (tt_X_needsExplored o.hD htr h) mi_X_needsExplored q_471 q_473 qs_26 0 rfl rfl (xRo_t2 (by decide) (by decide)) rfl rfl (Nat.le_of_ble_eq_true rfl) d_X_always_1
theorem tt_X_always {l : Launch} {τ : xT} {E N : xF} {x1 : Int32} {T : Nat → Prop} (hD : xD (wdX τ)) (htr : ∀ e : Env, l.admits e → e.platform.stackTraces = false) (h : t_X_always E N x1 T) : CTT l (wdX τ) y_X_always (.code y_X_always b_X_always 2 (some .int)) (xRt 22) [.ref (τ.2.2 30), .int x1] (E, N) T := CTT.of (by decide) (Nat.le_of_ble_eq_true rfl) hD (xSa_X τ) htr (fun κ hl ha o t hnh => tk_X_always o t hnh (hl ▸ htr) h)
def t_X_isSame (E N : xF) (x1 : Int32) (x2 : Int32) (T : Nat → Prop) : Prop := (w_X_needsExplored E N ((w_X_there E N x1 (fun r6 => t_X_there E N x2 T)) ∨ (t_X_there E N x1 T))) ∨ (t_X_needsExplored E N T)
theorem tk_X_isSame {κ : Cx} {τ : xT} {T : Nat → Prop} {E N : xF} {x1 : Int32} {x2 : Int32} (o : OKc κ (wdX τ) 3 b_X_isSame "StateExplorer" (some .boolean) (xRt 22)) (t : OKt κ (wdX τ) (E, N)) (hnh : (kC κ).exceptionTable.isEmpty = true) (htr : ∀ e : Env, (kL κ).admits e → e.platform.stackTraces = false) (h : t_X_isSame E N x1 x2 T) : GW κ (wdX τ) 3 (0, 0) (xMT κ (wdX τ) (xRt 22) (E, N) T) (E, N) 0 [(0, .ref (τ.2.2 30)), (1, .int x1), (2, .int x2)] [] := by
  unfold t_X_isSame at h
  refine gw_aload_n (pc := 0) o d_X_isSame_0 rfl 0 rfl ?_
  rcases h with h | h
  · refine gw_callV (pc := 1) (b := τ.2.2 30) (As := []) (st := []) o (ct_X_needsExplored o.hD h) mi_X_needsExplored q_471 q_473 qs_26 0 rfl rfl (xRo_t1 (by decide) (by decide)) rfl rfl (Nat.le_of_ble_eq_true rfl) d_X_isSame_1 (kk_p_v rfl (fun h => ?_))
    refine gw_aload_n (pc := 4) o d_X_isSame_4 rfl 0 rfl ?_
    refine gw_iload_n (pc := 5) o d_X_isSame_5 rfl 1 rfl ?_
    rcases h with h | h
    · refine gw_callV (pc := 6) (b := τ.2.2 30) (As := [.int x1]) (st := []) o (ct_X_there o.hD h) mi_X_there q_412 q_414 qs_23 0 rfl rfl (xRo_t1 (by decide) (by decide)) rfl rfl (Nat.le_of_ble_eq_true rfl) d_X_isSame_6 (kk_p_i rfl (fun r6 h => ?_))
      refine gw_pop (pc := 9) o d_X_isSame_9 rfl ?_
      refine gw_aload_n (pc := 10) o d_X_isSame_10 rfl 0 rfl ?_
      refine gw_iload_n (pc := 11) o d_X_isSame_11 rfl 2 rfl ?_
      exact gw_callTV (pc := 12) (b := τ.2.2 30) (As := [.int x2]) (st := []) o t hnh (tt_X_there o.hD htr h) mi_X_there q_412 q_414 qs_23 0 rfl rfl (xRo_t2 (by decide) (by decide)) rfl rfl (Nat.le_of_ble_eq_true rfl) d_X_isSame_12
    · exact gw_callTV (pc := 6) (b := τ.2.2 30) (As := [.int x1]) (st := []) o t hnh (tt_X_there o.hD htr h) mi_X_there q_412 q_414 qs_23 0 rfl rfl (xRo_t2 (by decide) (by decide)) rfl rfl (Nat.le_of_ble_eq_true rfl) d_X_isSame_6
  · exact gw_callTV (pc := 1) (b := τ.2.2 30) (As := []) (st := []) o t hnh (tt_X_needsExplored o.hD htr h) mi_X_needsExplored q_471 q_473 qs_26 0 rfl rfl (xRo_t2 (by decide) (by decide)) rfl rfl (Nat.le_of_ble_eq_true rfl) d_X_isSame_1
theorem tt_X_isSame {l : Launch} {τ : xT} {E N : xF} {x1 : Int32} {x2 : Int32} {T : Nat → Prop} (hD : xD (wdX τ)) (htr : ∀ e : Env, l.admits e → e.platform.stackTraces = false) (h : t_X_isSame E N x1 x2 T) : CTT l (wdX τ) y_X_isSame (.code y_X_isSame b_X_isSame 3 (some .boolean)) (xRt 22) [.ref (τ.2.2 30), .int x1, .int x2] (E, N) T := CTT.of (by decide) (Nat.le_of_ble_eq_true rfl) hD (xSa_X τ) htr (fun κ hl ha o t hnh => tk_X_isSame o t hnh (hl ▸ htr) h)
def t_X_group (E N : xF) (x1 : Int32) (T : Nat → Prop) : Prop := t_X_needsState E N x1 T
theorem tk_X_group {κ : Cx} {τ : xT} {T : Nat → Prop} {E N : xF} {x1 : Int32} (o : OKc κ (wdX τ) 2 b_X_group "StateExplorer" (some .int) (xRt 2)) (t : OKt κ (wdX τ) (E, N)) (hnh : (kC κ).exceptionTable.isEmpty = true) (htr : ∀ e : Env, (kL κ).admits e → e.platform.stackTraces = false) (h : t_X_group E N x1 T) : GW κ (wdX τ) 2 (0, 0) (xMT κ (wdX τ) (xRt 2) (E, N) T) (E, N) 0 [(0, .ref (τ.2.2 30)), (1, .int x1)] [] := by
  unfold t_X_group at h
  refine gw_aload_n (pc := 0) o d_X_group_0 rfl 0 rfl ?_
  refine gw_iload_n (pc := 1) o d_X_group_1 rfl 1 rfl ?_
  exact gw_callTV (pc := 2) (b := τ.2.2 30) (As := [.int x1]) (st := []) o t hnh (tt_X_needsState o.hD htr h) mi_X_needsState q_467 q_469 qs_25 0 rfl rfl (xRo_t2 (by decide) (by decide)) rfl rfl (Nat.le_of_ble_eq_true rfl) d_X_group_2
theorem tt_X_group {l : Launch} {τ : xT} {E N : xF} {x1 : Int32} {T : Nat → Prop} (hD : xD (wdX τ)) (htr : ∀ e : Env, l.admits e → e.platform.stackTraces = false) (h : t_X_group E N x1 T) : CTT l (wdX τ) y_X_group (.code y_X_group b_X_group 2 (some .int)) (xRt 2) [.ref (τ.2.2 30), .int x1] (E, N) T := CTT.of (by decide) (Nat.le_of_ble_eq_true rfl) hD (xSa_X τ) htr (fun κ hl ha o t hnh => tk_X_group o t hnh (hl ▸ htr) h)
