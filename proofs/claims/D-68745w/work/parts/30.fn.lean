/-! plain law, part 1: boolean functions of twelve variables, cofactors, counting -/
abbrev Fn : Type := (Nat → Bool) → Bool
def al1 (α : Nat → Bool) (v : Nat) (b : Bool) : Nat → Bool := fun w => if w = v then b else α w
def fix (v : Nat) (b : Bool) (F : Fn) : Fn := fun α => F (al1 α v b)
/-- F doesn't look at v -/
def ind (F : Fn) (v : Nat) : Prop := ∀ α b, F (al1 α v b) = F α
theorem al1_same (α : Nat → Bool) (v : Nat) (b c : Bool) : al1 (al1 α v b) v c = al1 α v c := by
  funext w; unfold al1; split <;> simp_all
theorem al1_self (α : Nat → Bool) (v : Nat) : al1 α v (α v) = α := by
  funext w; unfold al1; split
  · next h => rw [h]
  · rfl
theorem al1_comm (α : Nat → Bool) {v w : Nat} (h : v ≠ w) (b c : Bool) : al1 (al1 α v b) w c = al1 (al1 α w c) v b := by
  funext z; unfold al1
  by_cases h1 : z = w <;> by_cases h2 : z = v <;> simp_all
theorem fix_ind (v : Nat) (b : Bool) (F : Fn) : ind (fix v b F) v := by
  intro α c; unfold fix; rw [al1_same]
theorem fix_ind' {v w : Nat} (b : Bool) {F : Fn} (h : ind F w) : ind (fix v b F) w := by
  by_cases e : v = w
  · subst e; exact fix_ind v b F
  · intro α c; unfold fix; rw [al1_comm α (Ne.symm e) c b]; exact h _ c
theorem fix_of_ind {v : Nat} {b : Bool} {F : Fn} (h : ind F v) : fix v b F = F := by
  funext α; exact h α b
theorem ind_split {F : Fn} {v : Nat} (α : Nat → Bool) : F α = if α v then fix v true F α else fix v false F α := by
  cases h : α v
  · simp only [Bool.false_eq_true, if_false]; unfold fix; rw [← h, al1_self]
  · simp only [if_true]; unfold fix; rw [← h, al1_self]
/-- agreeing where F looks -/
theorem ind_agree {F : Fn} {n : Nat} (P : Nat → Prop) (hP : ∀ w, P w → ind F w) (hn : ∀ w, n ≤ w → ind F w) (hfin : ∀ α β : Nat → Bool, (∀ w, w < n → α w = β w) → F α = F β) (α β : Nat → Bool) (h : ∀ w, w < n → ¬ P w → α w = β w) : F α = F β := by
  -- change the places below n one by one
  have key : ∀ k, k ≤ n → ∀ γ : Nat → Bool, (∀ w, γ w = if w < k then β w else α w) → F γ = F α := by
    intro k
    induction k with
    | zero =>
      intro _ γ hγ
      congr 1; funext w; rw [hγ w]; simp
    | succ k ih =>
      intro hk γ hγ
      have h1 := ih (by omega) (fun w => if w < k then β w else α w) (fun w => rfl)
      rw [← h1]
      by_cases hp : P k
      · have h2 := hP k hp (fun w => if w < k then β w else α w) (β k)
        rw [← h2]
        congr 1; funext w; rw [hγ w]; unfold al1
        by_cases e : w = k
        · subst e; simp
        · by_cases e2 : w < k
          · simp [e, e2, show w < k + 1 by omega]
          · simp [e, e2, show ¬ w < k + 1 by omega]
      · congr 1; funext w; rw [hγ w]
        by_cases e : w = k
        · subst e; simp [h w (by omega) hp]
        · by_cases e2 : w < k
          · simp [e2, show w < k + 1 by omega]
          · simp [e2, show ¬ w < k + 1 by omega]
  have h1 := key n (Nat.le_refl n) (fun w => if w < n then β w else α w) (fun w => rfl)
  rw [← h1]
  exact hfin _ _ (fun w hw => by simp [hw])
/-- F looks at the first twelve variables alone -/
def fin12 (F : Fn) : Prop := ∀ α β : Nat → Bool, (∀ w, w < 12 → α w = β w) → F α = F β
theorem f12_ind {F : Fn} (h : fin12 F) {w : Nat} (hw : 12 ≤ w) : ind F w := fun α b => h _ _ (fun z hz => by unfold al1; simp [show z ≠ w by omega])
theorem f12_fix {F : Fn} (h : fin12 F) (v : Nat) (b : Bool) : fin12 (fix v b F) := fun α β hab => h _ _ (fun w hw => by unfold al1; split; rfl; exact hab w hw)
theorem f12_agree {F : Fn} (h : fin12 F) (P : Nat → Prop) (hP : ∀ w, P w → ind F w) (α β : Nat → Bool) (hab : ∀ w, w < 12 → ¬ P w → α w = β w) : F α = F β :=
  ind_agree P hP (fun w hw => f12_ind h hw) h α β hab
/-! lists without repetition -/
theorem nodup_le {α : Type} [DecidableEq α] : ∀ (l m : List α), l.Nodup → (∀ x ∈ l, x ∈ m) → l.length ≤ m.length := by
  intro l
  induction l with
  | nil => intro m _ _; exact Nat.zero_le _
  | cons a t ih =>
    intro m hn hs
    have h1 := ih (m.erase a) (List.nodup_cons.mp hn).2 (fun x hx => (List.mem_erase_of_ne (fun e : x = a => (List.nodup_cons.mp hn).1 (e ▸ hx))).mpr (hs x (List.mem_cons_of_mem _ hx)))
    have h2 := List.length_erase_of_mem (hs a List.mem_cons_self)
    have h3 : 0 < m.length := List.length_pos_of_mem (hs a List.mem_cons_self)
    rw [List.length_cons]; omega
/-- a class of functions with at most n members -/
def card (C : Fn → Prop) (n : Nat) : Prop := ∀ L : List Fn, L.Nodup → (∀ F ∈ L, C F) → L.length ≤ n
theorem card_of (C : Fn → Prop) (B : List Fn) (h : ∀ F, C F → F ∈ B) : card C B.length := by
  classical
  intro L hn hC
  exact nodup_le L B hn (fun F hF => h F (hC F hF))
/-- closed under the cofactors that a walk down takes -/
def Cl (C : Fn → Prop) : Prop := ∀ (F : Fn) (v : Nat) (b : Bool), C F → v < 12 → (∀ w, w < v → ind F w) → C (fix v b F)
/-- the first n variables from i on are set, in all ways -/
def en : Nat → Nat → Fn → List Fn
  | 0, _, G => [G]
  | n + 1, i, G => en n (i + 1) (fix i false G) ++ en n (i + 1) (fix i true G)
theorem en_length : ∀ (n i : Nat) (G : Fn), (en n i G).length = 2 ^ n := by
  intro n
  induction n with
  | zero => intro i G; rfl
  | succ n ih => intro i G; simp only [en, List.length_append, ih]; omega
def fixp : Nat → Nat → (Nat → Bool) → Fn → Fn
  | 0, _, _, G => G
  | n + 1, i, p, G => fixp n (i + 1) p (fix i (p i) G)
theorem fixp_en : ∀ (n i : Nat) (p : Nat → Bool) (G : Fn), fixp n i p G ∈ en n i G := by
  intro n
  induction n with
  | zero => intro i p G; exact List.mem_singleton.mpr rfl
  | succ n ih =>
    intro i p G
    simp only [en, fixp]
    cases h : p i
    · exact List.mem_append_left _ (ih (i + 1) p _)
    · exact List.mem_append_right _ (ih (i + 1) p _)
theorem fixp_at : ∀ (n i : Nat) (p : Nat → Bool) (G : Fn) (α : Nat → Bool), fixp n i p G α = G (fun w => if i ≤ w ∧ w < i + n then p w else α w) := by
  intro n
  induction n with
  | zero => intro i p G α; simp only [fixp]; congr 1; funext w; rw [if_neg (by omega)]
  | succ n ih =>
    intro i p G α
    simp only [fixp, ih]
    unfold fix al1
    congr 1; funext w
    by_cases e : w = i
    · subst e; simp
    · by_cases e2 : i + 1 ≤ w ∧ w < i + 1 + n
      · simp [e, e2, show i ≤ w ∧ w < i + (n + 1) by omega]
      · simp [e, e2, show ¬ (i ≤ w ∧ w < i + (n + 1)) by omega]
/-- cofactors of G by the first variables -/
def Sub (G : Fn) (F : Fn) : Prop := ∃ (k : Nat) (p : Nat → Bool), k ≤ 12 ∧ F = fixp k 0 p G
theorem sub_self (G : Fn) : Sub G G := ⟨0, fun _ => false, by omega, rfl⟩
theorem sub_cl {G : Fn} (hG : fin12 G) : Cl (Sub G) := by
  rintro F v b ⟨k, p, hk, rfl⟩ hv hi
  by_cases h : v < k
  · refine ⟨k, p, hk, ?_⟩
    apply fix_of_ind
    intro α c
    rw [fixp_at, fixp_at]
    congr 1; funext w; unfold al1
    by_cases e : w = v
    · subst e; simp [h]
    · simp [e]
  · refine ⟨v + 1, fun w => if w = v then b else p w, by omega, ?_⟩
    funext α
    rw [fixp_at]
    have h1 : fix v b (fixp k 0 p G) α = fixp k 0 p G (fun w => if w < v then p w else if w = v then b else α w) := by
      unfold fix
      have hF : fin12 (fixp k 0 p G) := by
        intro α β hab
        rw [fixp_at, fixp_at]
        exact hG _ _ (fun w hw => by split; rfl; exact hab w hw)
      apply f12_agree hF (fun w => w < v) hi
      intro w hw hnv
      unfold al1
      simp [hnv]
    rw [h1, fixp_at]
    congr 1; funext w
    by_cases e : w < k
    · simp [e, show w < v + 1 by omega, show w ≠ v by omega]
    · by_cases e2 : w < v
      · simp [e, e2, show w < v + 1 by omega, show w ≠ v by omega]
      · by_cases e3 : w = v
        · subst e3; simp [e]
        · simp [e, e2, e3, show ¬ w < v + 1 by omega]
/-- all functions of the variables i .. i+n-1 -/
def allv : Nat → Nat → List Fn
  | 0, _ => [fun _ => false, fun _ => true]
  | n + 1, i => (allv n (i + 1)).flatMap (fun F => (allv n (i + 1)).map (fun G => fun α => if α i then G α else F α))
theorem allv_length2 : (allv 2 6).length = 16 := by decide
theorem allv_length3 : (allv 3 9).length = 256 := by decide +kernel
theorem allv_mem : ∀ (n i : Nat) (F : Fn), (∀ α β : Nat → Bool, (∀ w, i ≤ w → w < i + n → α w = β w) → F α = F β) → F ∈ allv n i := by
  intro n
  induction n with
  | zero =>
    intro i F h
    simp only [allv, List.mem_cons, List.not_mem_nil, or_false]
    cases e : F (fun _ => false)
    · exact Or.inl (funext fun α => by rw [h α (fun _ => false) (fun w h1 h2 => by omega)]; exact e)
    · exact Or.inr (funext fun α => by rw [h α (fun _ => false) (fun w h1 h2 => by omega)]; exact e)
  | succ n ih =>
    intro i F h
    have hf : ∀ b, fix i b F ∈ allv n (i + 1) := fun b => ih (i + 1) _ (fun α β hab => h _ _ (fun w h1 h2 => by
      unfold al1
      by_cases e : w = i
      · simp [e]
      · simp [e]; exact hab w (by omega) (by omega)))
    simp only [allv, List.mem_flatMap, List.mem_map]
    exact ⟨fix i false F, hf false, fix i true F, hf true, funext fun α => (ind_split α).symm⟩
/-- a cofactor of G is one of 511, or a function of the last three variables -/
def big (G : Fn) : List Fn := en 0 0 G ++ en 1 0 G ++ en 2 0 G ++ en 3 0 G ++ en 4 0 G ++ en 5 0 G ++ en 6 0 G ++ en 7 0 G ++ en 8 0 G
def small (G : Fn) : List Fn := en 0 0 G ++ en 1 0 G ++ en 2 0 G ++ en 3 0 G ++ en 4 0 G ++ en 5 0 G
theorem big_length (G : Fn) : (big G).length = 511 := by simp [big, en_length]
theorem small_length (G : Fn) : (small G).length = 63 := by simp [small, en_length]
theorem sub_big {G F : Fn} (hG : fin12 G) (h : Sub G F) : F ∈ big G ∨ F ∈ allv 3 9 := by
  obtain ⟨k, p, hk, rfl⟩ := h
  by_cases h8 : k ≤ 8
  · left
    have hm := fixp_en k 0 p G
    have : k = 0 ∨ k = 1 ∨ k = 2 ∨ k = 3 ∨ k = 4 ∨ k = 5 ∨ k = 6 ∨ k = 7 ∨ k = 8 := by omega
    unfold big
    rcases this with rfl | rfl | rfl | rfl | rfl | rfl | rfl | rfl | rfl <;> simp only [List.mem_append, hm, true_or, or_true]
  · right
    apply allv_mem
    intro α β hab
    rw [fixp_at, fixp_at]
    apply hG
    intro w hw
    split
    · rfl
    · exact hab w (by omega) (by omega)
theorem sub_small {G F : Fn} (hG : fin12 G) (hs : ∀ w, 8 ≤ w → ind G w) (h : Sub G F) : F ∈ small G ∨ F ∈ allv 2 6 := by
  obtain ⟨k, p, hk, rfl⟩ := h
  by_cases h8 : k ≤ 5
  · left
    have hm := fixp_en k 0 p G
    have : k = 0 ∨ k = 1 ∨ k = 2 ∨ k = 3 ∨ k = 4 ∨ k = 5 := by omega
    unfold small
    rcases this with rfl | rfl | rfl | rfl | rfl | rfl <;> simp only [List.mem_append, hm, true_or, or_true]
  · right
    apply allv_mem
    intro α β hab
    rw [fixp_at, fixp_at]
    apply f12_agree hG (fun w => 8 ≤ w) hs
    intro w hw hn
    split
    · rfl
    · exact hab w (by omega) (by omega)
theorem card_sub {G : Fn} (hG : fin12 G) : card (Sub G) 767 := by
  have h := card_of (Sub G) (big G ++ allv 3 9) (fun F hF => List.mem_append.mpr (sub_big hG hF))
  rw [List.length_append, big_length, allv_length3] at h
  exact h
theorem card_mono {C : Fn → Prop} {n m : Nat} (h : card C n) (hm : n ≤ m) : card C m := fun L h1 h2 => Nat.le_trans (h L h1 h2) hm
