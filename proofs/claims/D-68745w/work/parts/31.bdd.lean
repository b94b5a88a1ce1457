/-! plain law, part 2: the node table as decision diagrams -/
def ilv (N : xF) (f : Nat) : Nat := (N 0 f).toNatClampNeg
def ilo (N : xF) (f : Nat) : Nat := (N 1 f).toNatClampNeg
def ihi (N : xF) (f : Nat) : Nat := (N 2 f).toNatClampNeg
def isN (VL : List Nat) (f : Nat) : Prop := f < 2 ∨ f ∈ VL
def dn (N : xF) : Nat → Nat → Fn
  | 0, f => fun _ => decide (f = 1)
  | n + 1, f => fun α => if f < 2 then decide (f = 1) else if α (ilv N f) then dn N n (ihi N f) α else dn N n (ilo N f) α
def den (N : xF) (f : Nat) : Fn := dn N 13 f
def nok (N : xF) (VL : List Nat) (f : Nat) : Prop :=
  N 0 f = nI (ilv N f) ∧ N 1 f = nI (ilo N f) ∧ N 2 f = nI (ihi N f) ∧ ilv N f < 12 ∧ isN VL (ilo N f) ∧ isN VL (ihi N f) ∧ ilv N f < ilv N (ilo N f) ∧ ilv N f < ilv N (ihi N f) ∧ ilo N f ≠ ihi N f
def TB (N : xF) (VL : List Nat) : Prop :=
  N 0 0 = 12 ∧ N 0 1 = 12 ∧ VL.Nodup ∧ (∀ f ∈ VL, 2 ≤ f ∧ f < 262144) ∧ (∀ f ∈ VL, nok N VL f) ∧
  (∀ f ∈ VL, ∀ g ∈ VL, ilv N f = ilv N g → ilo N f = ilo N g → ihi N f = ihi N g → f = g)
theorem isN_lt {N : xF} {VL : List Nat} (T : TB N VL) {f : Nat} (h : isN VL f) : f < 262144 := by
  rcases h with h | h
  · omega
  · exact (T.2.2.2.1 f h).2
theorem ilv_t {N : xF} {VL : List Nat} (T : TB N VL) {f : Nat} (h : f < 2) : ilv N f = 12 := by
  rcases (show f = 0 ∨ f = 1 by omega) with rfl | rfl
  · unfold ilv; rw [T.1]; rfl
  · unfold ilv; rw [T.2.1]; rfl
theorem ilv_le {N : xF} {VL : List Nat} (T : TB N VL) {f : Nat} (h : isN VL f) : ilv N f ≤ 12 := by
  rcases h with h | h
  · rw [ilv_t T h]; exact Nat.le_refl _
  · have := (T.2.2.2.2.1 f h).2.2.2.1; omega
theorem ilv_12 {N : xF} {VL : List Nat} (T : TB N VL) {f : Nat} (h : isN VL f) (h2 : ilv N f = 12) : f < 2 := by
  rcases h with h | h
  · exact h
  · have := (T.2.2.2.2.1 f h).2.2.2.1; omega
theorem isN_ge {N : xF} {VL : List Nat} (T : TB N VL) {f : Nat} (h : isN VL f) (h2 : ¬ f < 2) : f ∈ VL := h.resolve_left h2
theorem lv_val {N : xF} {VL : List Nat} (T : TB N VL) {f : Nat} (h : isN VL f) : N 0 f = nI (ilv N f) := by
  rcases h with h | h
  · rw [ilv_t T h]
    rcases (show f = 0 ∨ f = 1 by omega) with rfl | rfl
    · exact T.1
    · exact T.2.1
  · exact (T.2.2.2.2.1 f h).1
theorem dn_t (N : xF) : ∀ (n f : Nat), f < 2 → dn N n f = fun _ => decide (f = 1) := by
  intro n f h
  cases n with
  | zero => rfl
  | succ n => funext α; simp [dn, h]
theorem den_0 (N : xF) : den N 0 = fun _ => false := by unfold den; rw [dn_t N 13 0 (by omega)]; rfl
theorem den_1 (N : xF) : den N 1 = fun _ => true := by unfold den; rw [dn_t N 13 1 (by omega)]; rfl
theorem dn_fuel {N : xF} {VL : List Nat} (T : TB N VL) : ∀ (n m f : Nat), isN VL f → 13 ≤ n + ilv N f → 13 ≤ m + ilv N f → dn N n f = dn N m f := by
  intro n
  induction n with
  | zero =>
    intro m f hf h1 _
    have := ilv_le T hf
    omega
  | succ n ih =>
    intro m f hf h1 h2
    by_cases ht : f < 2
    · rw [dn_t N _ f ht, dn_t N _ f ht]
    · have hv := isN_ge T hf ht
      obtain ⟨-, -, -, k4, k5, k6, k7, k8, -⟩ := T.2.2.2.2.1 f hv
      cases m with
      | zero => omega
      | succ m =>
        funext α
        simp only [dn, ht, if_false]
        rw [ih m (ihi N f) k6 (by omega) (by omega), ih m (ilo N f) k5 (by omega) (by omega)]
theorem den_node {N : xF} {VL : List Nat} (T : TB N VL) {f : Nat} (h : f ∈ VL) : den N f = fun α => if α (ilv N f) then den N (ihi N f) α else den N (ilo N f) α := by
  have ht := (T.2.2.2.1 f h).1
  obtain ⟨-, -, -, k4, k5, k6, k7, k8, -⟩ := T.2.2.2.2.1 f h
  funext α
  have e0 : dn N 13 f α = if f < 2 then decide (f = 1) else if α (ilv N f) then dn N 12 (ihi N f) α else dn N 12 (ilo N f) α := rfl
  show dn N 13 f α = _
  rw [e0, if_neg (by omega)]
  unfold den
  rw [dn_fuel T 12 13 (ihi N f) k6 (by omega) (by omega), dn_fuel T 12 13 (ilo N f) k5 (by omega) (by omega)]
/-- by the levels -/
theorem bdd_ind {N : xF} {VL : List Nat} (T : TB N VL) {P : Nat → Prop} (h0 : P 0) (h1 : P 1) (hs : ∀ f ∈ VL, P (ilo N f) → P (ihi N f) → P f) : ∀ f, isN VL f → P f := by
  have key : ∀ n f, isN VL f → 12 ≤ n + ilv N f → P f := by
    intro n
    induction n with
    | zero =>
      intro f hf h
      have h2 := ilv_12 T hf (by have := ilv_le T hf; omega)
      rcases (show f = 0 ∨ f = 1 by omega) with rfl | rfl
      · exact h0
      · exact h1
    | succ n ih =>
      intro f hf h
      by_cases ht : f < 2
      · rcases (show f = 0 ∨ f = 1 by omega) with rfl | rfl
        · exact h0
        · exact h1
      · have hv := isN_ge T hf ht
        obtain ⟨-, -, -, k4, k5, k6, k7, k8, -⟩ := T.2.2.2.2.1 f hv
        exact hs f hv (ih _ k5 (by omega)) (ih _ k6 (by omega))
  exact fun f hf => key 12 f hf (by omega)
theorem den_fin {N : xF} {VL : List Nat} (T : TB N VL) : ∀ f, isN VL f → fin12 (den N f) := by
  refine bdd_ind T (P := fun f => fin12 (den N f)) ?_ ?_ ?_
  · rw [den_0]; exact fun _ _ _ => rfl
  · rw [den_1]; exact fun _ _ _ => rfl
  · intro f hf h1 h2 α β hab
    rw [den_node T hf]
    dsimp only
    rw [hab _ (T.2.2.2.2.1 f hf).2.2.2.1, h1 α β hab, h2 α β hab]
theorem den_ind {N : xF} {VL : List Nat} (T : TB N VL) : ∀ f, isN VL f → ∀ w, w < ilv N f → ind (den N f) w := by
  apply bdd_ind T (P := fun f => ∀ w, w < ilv N f → ind (den N f) w)
  · intro w _; rw [den_0]; exact fun _ _ => rfl
  · intro w _; rw [den_1]; exact fun _ _ => rfl
  · intro f hf h1 h2 w hw α b
    obtain ⟨-, -, -, k4, k5, k6, k7, k8, -⟩ := T.2.2.2.2.1 f hf
    rw [den_node T hf]
    dsimp only
    rw [h1 w (by omega) α b, h2 w (by omega) α b]
    simp [al1, show ilv N f ≠ w by omega]
theorem den_fixv {N : xF} {VL : List Nat} (T : TB N VL) {f : Nat} (h : f ∈ VL) (b : Bool) : fix (ilv N f) b (den N f) = den N (if b then ihi N f else ilo N f) := by
  obtain ⟨-, -, -, k4, k5, k6, k7, k8, -⟩ := T.2.2.2.2.1 f h
  funext α
  unfold fix
  rw [den_node T h]
  dsimp only
  cases b
  · simp [al1]; exact den_ind T _ k5 _ k7 α false
  · simp [al1]; exact den_ind T _ k6 _ k8 α true
theorem den_canon {N : xF} {VL : List Nat} (T : TB N VL) : ∀ f, isN VL f → ∀ g, isN VL g → den N f = den N g → f = g := by
  have key : ∀ n f g, isN VL f → isN VL g → 12 ≤ n + ilv N f → 12 ≤ n + ilv N g → den N f = den N g → f = g := by
    intro n
    induction n with
    | zero =>
      intro f g hf hg h h' e
      have h1 := ilv_12 T hf (by have := ilv_le T hf; have := ilv_le T hg; omega)
      have h2 := ilv_12 T hg (by have := ilv_le T hf; have := ilv_le T hg; omega)
      unfold den at e
      rw [dn_t N _ f h1, dn_t N _ g h2] at e
      have e2 := congrFun e (fun _ => false)
      simp at e2
      omega
    | succ n ih =>
      intro f g hf hg h h' e
      have low : ∀ f g, isN VL f → isN VL g → den N f = den N g → ilv N f < ilv N g → 12 ≤ n + 1 + ilv N f → False := by
        intro f g hf hg e hlt hn
        have hv : f ∈ VL := isN_ge T hf (fun h => by have := ilv_t T h; have := ilv_le T hg; omega)
        obtain ⟨-, -, -, k4, k5, k6, k7, k8, k9⟩ := T.2.2.2.2.1 f hv
        have e1 := den_fixv T hv false
        have e2 := den_fixv T hv true
        rw [e, fix_of_ind (den_ind T g hg _ hlt)] at e1 e2
        simp only [if_true, Bool.false_eq_true, if_false] at e1 e2
        exact k9 (ih _ _ k5 k6 (by omega) (by omega) (e1.symm.trans e2))
      rcases Nat.lt_trichotomy (ilv N f) (ilv N g) with hlt | heq | hgt
      · exact (low f g hf hg e hlt (by omega)).elim
      · by_cases ht : f < 2
        · have h2 := ilv_12 T hg (by rw [← heq]; exact ilv_t T ht)
          unfold den at e
          rw [dn_t N _ f ht, dn_t N _ g h2] at e
          have e2 := congrFun e (fun _ => false)
          simp at e2
          omega
        · have hv := isN_ge T hf ht
          obtain ⟨-, -, -, k4, k5, k6, k7, k8, k9⟩ := T.2.2.2.2.1 f hv
          have hw : g ∈ VL := isN_ge T hg (fun h => by have := ilv_t T h; omega)
          obtain ⟨-, -, -, j4, j5, j6, j7, j8, j9⟩ := T.2.2.2.2.1 g hw
          have e1 := den_fixv T hv false
          have e2 := den_fixv T hv true
          rw [e, heq, den_fixv T hw] at e1 e2
          simp only [if_true, Bool.false_eq_true, if_false] at e1 e2
          exact T.2.2.2.2.2 f hv g hw heq (ih _ _ k5 j5 (by omega) (by omega) e1.symm) (ih _ _ k6 j6 (by omega) (by omega) e2.symm)
      · exact (low g f hg hf e.symm hgt (by omega)).elim
  exact fun f hf g hg e => key 12 f g hf hg (by omega) (by omega) e
theorem den_eq_0 {N : xF} {VL : List Nat} (T : TB N VL) {f : Nat} (hf : isN VL f) : f = 0 ↔ den N f = fun _ => false :=
  ⟨fun h => by rw [h, den_0], fun h => den_canon T f hf 0 (Or.inl (by omega)) (by rw [h, den_0])⟩
theorem den_eq_1 {N : xF} {VL : List Nat} (T : TB N VL) {f : Nat} (hf : isN VL f) : f = 1 ↔ den N f = fun _ => true :=
  ⟨fun h => by rw [h, den_1], fun h => den_canon T f hf 1 (Or.inl (by omega)) (by rw [h, den_1])⟩
/-- the cofactor at a level that isn't below the node's own -/
def cof (N : xF) (f v : Nat) (b : Bool) : Nat := if ilv N f = v then (if b then ihi N f else ilo N f) else f
theorem cof_ok {N : xF} {VL : List Nat} (T : TB N VL) {f v : Nat} (hf : isN VL f) (hv : v ≤ ilv N f) (h12 : v < 12) (b : Bool) : isN VL (cof N f v b) ∧ v < ilv N (cof N f v b) ∧ den N (cof N f v b) = fix v b (den N f) := by
  unfold cof
  by_cases e : ilv N f = v
  · subst e
    have hm : f ∈ VL := isN_ge T hf (fun h => by have := ilv_t T h; omega)
    obtain ⟨-, -, -, k4, k5, k6, k7, k8, k9⟩ := T.2.2.2.2.1 f hm
    simp only [if_true]
    refine ⟨?_, ?_, (den_fixv T hm b).symm⟩
    · cases b
      · exact k5
      · exact k6
    · cases b
      · exact k7
      · exact k8
  · simp only [e, if_false]
    refine ⟨hf, by omega, (fix_of_ind (den_ind T f hf v (by omega))).symm⟩
/-- what is there stays -/
def GR (N : xF) (VL : List Nat) (N' : xF) (VL' : List Nat) : Prop := (∃ A, VL' = A ++ VL) ∧ ∀ f, isN VL f → N' 0 f = N 0 f ∧ N' 1 f = N 1 f ∧ N' 2 f = N 2 f
theorem GR.rf (N : xF) (VL : List Nat) : GR N VL N VL := ⟨⟨[], rfl⟩, fun _ _ => ⟨rfl, rfl, rfl⟩⟩
theorem GR.is_N {N N' : xF} {VL VL' : List Nat} (h : GR N VL N' VL') {f : Nat} (hf : isN VL f) : isN VL' f := by
  obtain ⟨⟨A, rfl⟩, -⟩ := h
  exact hf.imp id (fun h => List.mem_append_right _ h)
theorem GR.tr {N N' N'' : xF} {VL VL' VL'' : List Nat} (h : GR N VL N' VL') (h' : GR N' VL' N'' VL'') : GR N VL N'' VL'' := by
  refine ⟨?_, fun f hf => ?_⟩
  · obtain ⟨A, rfl⟩ := h.1
    obtain ⟨B, rfl⟩ := h'.1
    exact ⟨B ++ A, by rw [List.append_assoc]⟩
  · have h1 := h.2 f hf
    have h2 := h'.2 f (h.is_N hf)
    exact ⟨h2.1.trans h1.1, h2.2.1.trans h1.2.1, h2.2.2.trans h1.2.2⟩
theorem GR.lv {N N' : xF} {VL VL' : List Nat} (h : GR N VL N' VL') {f : Nat} (hf : isN VL f) : ilv N' f = ilv N f ∧ ilo N' f = ilo N f ∧ ihi N' f = ihi N f := by
  have h1 := h.2 f hf
  unfold ilv ilo ihi
  rw [h1.1, h1.2.1, h1.2.2]
  exact ⟨rfl, rfl, rfl⟩
theorem GR.de {N N' : xF} {VL VL' : List Nat} (h : GR N VL N' VL') (T : TB N VL) (T' : TB N' VL') : ∀ f, isN VL f → den N' f = den N f := by
  refine bdd_ind T (P := fun f => den N' f = den N f) ?_ ?_ ?_
  · rw [den_0, den_0]
  · rw [den_1, den_1]
  · intro f hf h1 h2
    have hv : isN VL' f := h.is_N (Or.inr hf)
    have ht := (T.2.2.2.1 f hf).1
    rw [den_node T hf, den_node T' (isN_ge T' hv (by omega))]
    obtain ⟨e1, e2, e3⟩ := h.lv (Or.inr hf)
    rw [e1, e2, e3, h1, h2]
