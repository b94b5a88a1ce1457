/-! the layer GW over the kit's W: a world is a function of a state of type σ -/
def xw_ok : List Cond := lw_tbl.filter goodWord
theorem xw_mem {w : Cond} (h : w ∈ lw_tbl) (hg : goodWord w = true) : w ∈ xw_ok := List.mem_filter.mpr ⟨h, hg⟩
theorem xw_good {w : Cond} (h : w ∈ xw_ok) : (w.onTables && w.keeps) = true ∨ ∃ ty, w = .arrayClass ty := good_of_word (List.mem_filter.mp h).2
theorem xw_in {cw : Cond} (h : cw ∈ xw_ok) : GoodIn xw_ok (cw :: xw_ok) := by
  intro w hw
  rcases List.mem_cons.mp hw with rfl | hw
  · exact ⟨h, xw_good h⟩
  · exact ⟨hw, xw_good hw⟩
/-- what stays of the tables beside the good words -/
def xG (U : State) : Prop :=
  va_Nw (.fieldLinkNest "StateExplorer" 168 "StateExplorer$Nodes" "lows" "[I" "StateExplorer") U ∧
  va_Nw (.fieldLinkNest "StateExplorer" 174 "StateExplorer$Nodes" "highs" "[I" "StateExplorer") U ∧
  va_Nw (.methodLinkNest "StateExplorer" 222 ⟨"StateExplorer$Nodes", "forget", "()V"⟩ "StateExplorer") U
theorem xG.warm {s U : State} (hW : s.WarmedH U.vm) (h : xG s) : xG U := ⟨h.1.warmF hW, h.2.1.warmF hW, h.2.2.warmM hW⟩
theorem xG.same {s U : State} (hv : s.vm = U.vm) (h : xG s) : xG U := ⟨h.1.same rfl hv, h.2.1.same rfl hv, h.2.2.same rfl hv⟩
/-- the types of the arrays -/
abbrev xCa : Type := Nat → ClassId
def xTy (ca : xCa) : List (ClassId × FieldType) := [(ca 0, .int), (ca 1, .byte), (ca 2, .boolean), (ca 3, .long)]
/-- a world: how classes and array classes are numbered, what the cells are -/
abbrev xWd (σ : Type) : Type := va_G × xCa × (σ → va_W)
abbrev xDg {σ : Type} (ω : xWd σ) : va_G := ω.1
abbrev xCg {σ : Type} (ω : xWd σ) : xCa := ω.2.1
abbrev xWf {σ : Type} (ω : xWd σ) : σ → va_W := ω.2.2
/-- the world's own cells, and all that come from sz on -/
def xA {σ : Type} (ω : xWd σ) (sz : Nat) : Nat → Prop := fun q => (∃ (X : σ) (k : Nat) (e : va_E), (xWf ω X)[k]? = some (q, e)) ∨ sz ≤ q
def xH {σ : Type} (ω : xWd σ) (X : σ) (H : Heap) : Prop := va_P (xDg ω) classes (xWf ω X) H
def xK {σ : Type} (ω : xWd σ) (U : State) : Prop := va_K (xDg ω) classes (xTy (xCg ω)) U ∧ xG U
theorem xK.warm {σ : Type} {ω : xWd σ} {s U : State} (hW : s.WarmedH U.vm) (h : xK ω s) : xK ω U := ⟨va_K.moved hW.alike h.1, xG.warm hW h.2⟩
/-- the cells are apart -/
def xD {σ : Type} (ω : xWd σ) : Prop := ∀ X : σ, va_D (fun _ => True) (xWf ω X)
theorem xD.at {σ : Type} {ω : xWd σ} (h : xD ω) (sz : Nat) (X : σ) : va_D (xA ω sz) (xWf ω X) :=
  (h X).weaken (fun k q hk _ => Or.inl ⟨X, k, q.2, hk⟩)
abbrev Cx : Type := Program × Launch × Env × Room × State × MethodId × Array Value × List Frame × Method × Code
abbrev kP (κ : Cx) : Program := κ.1
abbrev kL (κ : Cx) : Launch := κ.2.1
abbrev kE (κ : Cx) : Env := κ.2.2.1
abbrev kR (κ : Cx) : Room := κ.2.2.2.1
abbrev kS (κ : Cx) : State := κ.2.2.2.2.1
abbrev kM (κ : Cx) : MethodId := κ.2.2.2.2.2.1
abbrev kA (κ : Cx) : Array Value := κ.2.2.2.2.2.2.1
abbrev kB (κ : Cx) : List Frame := κ.2.2.2.2.2.2.2.1
abbrev kMe (κ : Cx) : Method := κ.2.2.2.2.2.2.2.2.1
abbrev kC (κ : Cx) : Code := κ.2.2.2.2.2.2.2.2.2
abbrev WK (κ : Cx) (H : Heap) (locs : List Loc) (cells slots : Nat) (Q : State → Prop) (g : JFrame) : Prop := W (kP κ) (kL κ) (kE κ) (kR κ) (kS κ) (kM κ) (kA κ) (kB κ) (kMe κ) (kC κ) H locs cells slots Q g
def GW {σ : Type} (κ : Cx) (ω : xWd σ) (nL : Nat) (k : Nat × Nat) (Q : State → Prop) (X : σ) (pc : Nat) (lv : List (Nat × Value)) (st : List Value) : Prop :=
  ∀ (H : Heap) (locs : List Loc) (ls : Array Slot), xH ω X H → va_S (xA ω (kS κ).heap.size) (kS κ).heap H locs → lv_has ls nL lv → WK κ H locs k.1 k.2 Q (F0 (kM κ) pc ls st)
/-- what is fixed in a walk -/
def OKc {σ : Type} (κ : Cx) (ω : xWd σ) (nL : Nat) (cc : ByteArray) (own : String) (ret : Option FieldType) (rm : Room) : Prop :=
  (kP κ).tables.exec = Jvm.exec ∧ (kC κ).code = cc ∧ (kC κ).maxLocals = nL ∧ (kS κ).vm.findClass own = some (kM κ).cls ∧ (∀ w ∈ xw_ok, w.before (kA κ) (kS κ) = true) ∧ xK ω (kS κ) ∧ xD ω ∧ (kMe κ).sig.returnType = ret ∧ (kMe κ).locks = false ∧ kR κ = rm
/-- the room of a method over n frames -/
def xR (n : Nat) : Room := { frames := n, cells := 0, slots := 0, locals := 40 * n }
/-- behind a method: what it answers and the world -/
def xQ {σ : Type} (ω : xWd σ) (sz : Nat) (Z : Option Value → σ → Prop) : Array Value → State → Outcome → State → Prop := fun _ st o t =>
  (∃ (v : Option Value) (X : σ), o = .returned v ∧ Z v X ∧ xH ω X t.heap) ∧ va_F (xA ω sz) st t
def xPc {σ : Type} (ω : xWd σ) (sz : Nat) (av : List Value) (X : σ) : Array Value → State → Prop := va_Pc av (fun U => U.heap.size = sz ∧ xH ω X U.heap ∧ xK ω U)
/-- a contract: from the world X, with these arguments, the method returns, with Z -/
def CT {σ : Type} (l : Launch) (ω : xWd σ) (y : MethodName) (cw : Cond) (rm : Room) (av : List Value) (X : σ) (Z : Option Value → σ → Prop) : Prop :=
  ∀ sz : Nat, Met l y (cw :: xw_ok) rm (xPc ω sz av X) (xQ ω sz Z) rm.cells rm.slots (xA ω sz)
abbrev xZi {σ : Type} (Z : Int32 → σ → Prop) : Option Value → σ → Prop := fun v X => ∃ r : Int32, v = some (.int r) ∧ Z r X
abbrev xZv {σ : Type} (Z : σ → Prop) : Option Value → σ → Prop := fun v X => v = none ∧ Z X
theorem xPc.blind {σ : Type} {ω : xWd σ} {sz : Nat} {av : List Value} {X : σ} : FrameBlind (xPc ω sz av X) := by
  intro a U g mk q
  obtain ⟨q0, q1, qP, qK⟩ := q
  exact ⟨q0, q1, qP, va_K.moved (u := U) (U := U.calling g mk a) (Vm.Alike.refl U.vm) qK.1, xG.same rfl qK.2⟩
/-- the end of a walk of a contract -/
abbrev xMQ {σ : Type} (κ : Cx) (ω : xWd σ) (rm : Room) (Z : Option Value → σ → Prop) : State → Prop :=
  MQ (kB κ) (xQ ω (kS κ).heap.size Z) (kA κ) (kS κ) rm.cells rm.slots (xA ω (kS κ).heap.size)
theorem CT.of {σ : Type} {l : Launch} {ω : xWd σ} {y : MethodName} {cc : ByteArray} {nL : Nat} {ret : Option FieldType} {rm : Room} {av : List Value} {X : σ} {Z : Option Value → σ → Prop}
    (hy : plainName y.cls = true) (hn : (lg_sl av).length ≤ nL) (hD : xD ω)
    (body : ∀ κ : Cx, kL κ = l → kA κ = av.toArray → OKc κ ω nL cc y.cls ret rm → GW κ ω nL (0, 0) (xMQ κ ω rm Z) X 0 (lv_args 0 av) []) : CT l ω y (.code y cc nL ret) rm av X Z := by
  intro sz
  refine Met.ofW (cc := cc) (maxL := nL) (ret := ret) hy rfl ?_
  intro p e s m args below meth c s₁ B hml hv
  obtain ⟨rfl, hsz, hP, hK⟩ := hv
  have hts := atoms_spec (ws := Cond.code y cc nL ret :: xw_ok) B.pre
  have hown : s.vm.findClass y.cls = some m.cls := findClass_of_methodNamed B.named
  subst hsz
  have hl := lv_entry av (n := nL) hn
  rw [lg_entry_eq]
  generalize (lg_sl av ++ List.replicate (nL - (lg_sl av).length) Slot.unset).toArray = ls at hl ⊢
  exact body (p, l, e, rm, s, m, av.toArray, below, meth, c) rfl rfl ⟨B.exec, B.bytes, hml, hown, fun w hw => hts w (List.mem_cons_of_mem _ hw), hK, hD, B.returns, B.notSynchronized, rfl⟩ s.heap [] ls hP va_S.rf hl
section rows
variable {σ : Type} {κ : Cx} {ω : xWd σ} {nL : Nat} {k : Nat × Nat} {Q : State → Prop} {X : σ} {pc : Nat} {lv lv' : List (Nat × Value)} {st : List Value} {cc : ByteArray} {own : String} {ret : Option FieldType} {rm : Room}
theorem gw_iret {Z : Option Value → σ → Prop} {v : Int32} (o : OKc κ ω nL cc own (some .int) rm) (hk : k.1 ≤ rm.cells ∧ k.2 ≤ rm.slots) (hz : Z (some (.int v)) X) (hd : decode cc pc = .ok (.ireturn, 1)) : GW κ ω nL k (xMQ κ ω rm Z) X pc lv [.int v] := by
  intro H locs ls hP hS hl
  obtain ⟨hx, hb, hml, hown, hts, hK, hD, hr, hlocks, hR⟩ := o
  refine W.widen hk.1 hk.2 ?_
  exact W.iret hx hb hr (fun t ht hW => ⟨⟨_, X, rfl, hz, by rw [ht]; exact hP⟩, hS.F ht⟩) hS.2.2 hd hlocks
theorem gw_zret {Z : Option Value → σ → Prop} {v : Int32} (o : OKc κ ω nL cc own (some .boolean) rm) (hk : k.1 ≤ rm.cells ∧ k.2 ≤ rm.slots) (hb01 : v = 0 ∨ v = 1) (hz : Z (some (.int v)) X) (hd : decode cc pc = .ok (.ireturn, 1)) : GW κ ω nL k (xMQ κ ω rm Z) X pc lv [.int v] := by
  intro H locs ls hP hS hl
  obtain ⟨hx, hb, hml, hown, hts, hK, hD, hr, hlocks, hR⟩ := o
  refine W.widen hk.1 hk.2 ?_
  exact W.zret hx hb hr (by rcases hb01 with rfl | rfl <;> rfl) (fun t ht hW => ⟨⟨_, X, rfl, hz, by rw [ht]; exact hP⟩, hS.F ht⟩) hS.2.2 hd hlocks
theorem gw_vret {Z : Option Value → σ → Prop} (o : OKc κ ω nL cc own none rm) (hk : k.1 ≤ rm.cells ∧ k.2 ≤ rm.slots) (hz : Z none X) (hd : decode cc pc = .ok (.return_, 1)) : GW κ ω nL k (xMQ κ ω rm Z) X pc lv [] := by
  intro H locs ls hP hS hl
  obtain ⟨hx, hb, hml, hown, hts, hK, hD, hr, hlocks, hR⟩ := o
  refine W.widen hk.1 hk.2 ?_
  exact W.vret hx hb hr (fun t ht hW => ⟨⟨_, X, rfl, hz, by rw [ht]; exact hP⟩, hS.F ht⟩) hS.2.2 hd hlocks
theorem gw_sub (ks : List Nat) (h : lv_pick lv ks = lv') (kk : GW κ ω nL k Q X pc lv' st) : GW κ ω nL k Q X pc lv st := fun H locs ls hP hS hl => kk H locs ls hP hS (lv_sub hl ks h)
theorem gw_nm (kk : ∀ Y : σ, Y = X → GW κ ω nL k Q Y pc lv st) : GW κ ω nL k Q X pc lv st := kk X rfl
theorem gw_topi {x : Int32} (kk : ∀ y : Int32, y = x → GW κ ω nL k Q X pc lv (.int y :: st)) : GW κ ω nL k Q X pc lv (.int x :: st) := kk x rfl
theorem gw_topl {x : Int64} (kk : ∀ y : Int64, y = x → GW κ ω nL k Q X pc lv (.long y :: st)) : GW κ ω nL k Q X pc lv (.long x :: st) := kk x rfl
theorem gw_eqi {x y : Int32} (h : x = y) (kk : GW κ ω nL k Q X pc lv (.int y :: st)) : GW κ ω nL k Q X pc lv (.int x :: st) := h ▸ kk
end rows
