/-! exceptions: what is kept of the tables and the statics; a new start of a walk -/
abbrev eN (k : Nat) : String := match k with
  | 0 => "java/lang/IllegalArgumentException"
  | 1 => "java/lang/IndexOutOfBoundsException"
  | _ => "java/lang/IllegalStateException"
def th_ws : List Cond := [.castable (eN 0) (eN 0), .castable (eN 1) (eN 1), .castable (eN 2) (eN 2), .declares (Bundle.init0 "java/lang/RuntimeException"), .declares (Bundle.init0 "java/lang/Exception"), .declares (Bundle.init0 "java/lang/Throwable"),
  .laysStatic "java/lang/Throwable" "UNASSIGNED_STACK" "[Ljava/lang/StackTraceElement;", .laysStatic "java/lang/Throwable" "SUPPRESSED_SENTINEL" "Ljava/util/List;",
  .isRef (.static "java/lang/Throwable" "UNASSIGNED_STACK" "[Ljava/lang/StackTraceElement;"), .isRef (.static "java/lang/Throwable" "SUPPRESSED_SENTINEL" "Ljava/util/List;")]
theorem xth_vm {w : Cond} (hs : w.steady = true) {s : State} {vm' : Vm} (h : s.vm.Alike vm') (hw : w.before #[] s = true) : w.before #[] (s.setVm vm') = true := by
  unfold Cond.before Cond.holds at *
  rw [Cond.value_setVm₂ h h w [] hs]; exact hw
theorem xth_ff {U1 U2 : State} (hv : U1.vm = U2.vm) (O f d : String) : U2.fieldFound? O f d = U1.fieldFound? O f d := by
  simp only [State.fieldFound?, hv]
theorem xth_lays {O f d : String} {U1 U2 : State} (hv : U1.vm = U2.vm) (hh : ∀ (a : Nat) (cell : Cell), U1.heap[a]? = some cell → cell.vm.isStatics = true → U2.heap[a]? = some cell) (h : (Cond.laysStatic O f d).before #[] U1 = true) : (Cond.laysStatic O f d).before #[] U2 = true := by
  obtain ⟨c, k, i, fd, a, cell, hc, hf, hst, hsta, hcell, hiss, hcls, hlt, hty⟩ := Cond.laysStatic_spec h
  have hf2 := (xth_ff hv O f d).trans hf
  have hc2 := hh a cell hcell hiss
  simp [Cond.before, Cond.holds, Cond.value, ← hv, hc, hf2, hst, hsta, hc2, hiss, hcls, hlt, hty]
theorem xth_ref {O f d : String} {U1 U2 : State} (hv : U1.vm = U2.vm) (hh : ∀ (a : Nat) (cell : Cell), U1.heap[a]? = some cell → cell.vm.isStatics = true → U2.heap[a]? = some cell) (hl : (Cond.laysStatic O f d).before #[] U1 = true) (h : (Cond.isRef (.static O f d)).before #[] U1 = true) : (Cond.isRef (.static O f d)).before #[] U2 = true := by
  obtain ⟨c, k, i, fd, a, cell, hc, hf, hst, hsta, hcell, hiss, hcls, hlt, hty⟩ := Cond.laysStatic_spec hl
  have hf2 := (xth_ff hv O f d).trans hf
  have hc2 := hh a cell hcell hiss
  have e1 : (Term.static O f d).eval #[] U1 none [] U1 = cell.slots[fd.slot]? := by simp [Term.eval, State.fieldNamed?, hf, hst, hsta, hcell, hiss]
  have e2 : (Term.static O f d).eval #[] U2 none [] U2 = cell.slots[fd.slot]? := by simp [Term.eval, State.fieldNamed?, hf2, hst, hsta, hc2, hiss]
  simp only [Cond.before, Cond.holds, Cond.value, e1] at h
  simp only [Cond.before, Cond.holds, Cond.value, e2]
  exact h
def TH (U : State) : Prop := ∀ w ∈ th_ws, w.before #[] U = true
theorem TH.moved {s U : State} (hW : s.WarmedH U.vm) (hh : ∀ (a : Nat) (cell : Cell), s.heap[a]? = some cell → cell.vm.isStatics = true → U.heap[a]? = some cell) (h : TH s) : TH U := by
  have hV : ∀ w : Cond, w.steady = true → w.before #[] s = true → w.before #[] (s.setVm U.vm) = true := fun w hs hw => xth_vm hs hW.alike hw
  have l1 := hV _ rfl (h (.laysStatic "java/lang/Throwable" "UNASSIGNED_STACK" "[Ljava/lang/StackTraceElement;") (by simp [th_ws]))
  have l2 := hV _ rfl (h (.laysStatic "java/lang/Throwable" "SUPPRESSED_SENTINEL" "Ljava/util/List;") (by simp [th_ws]))
  have r1 := hV _ rfl (h (.isRef (.static "java/lang/Throwable" "UNASSIGNED_STACK" "[Ljava/lang/StackTraceElement;")) (by simp [th_ws]))
  have r2 := hV _ rfl (h (.isRef (.static "java/lang/Throwable" "SUPPRESSED_SENTINEL" "Ljava/util/List;")) (by simp [th_ws]))
  have hv : (s.setVm U.vm).vm = U.vm := rfl
  intro w hw
  simp only [th_ws, List.mem_cons, List.not_mem_nil, or_false] at hw
  rcases hw with rfl | rfl | rfl | rfl | rfl | rfl | rfl | rfl | rfl | rfl
  · exact va_Nw.warmC hW (h _ (by simp [th_ws]))
  · exact va_Nw.warmC hW (h _ (by simp [th_ws]))
  · exact va_Nw.warmC hW (h _ (by simp [th_ws]))
  · exact va_Nw.warmD hW (h _ (by simp [th_ws]))
  · exact va_Nw.warmD hW (h _ (by simp [th_ws]))
  · exact va_Nw.warmD hW (h _ (by simp [th_ws]))
  · exact xth_lays hv hh l1
  · exact xth_lays hv hh l2
  · exact xth_ref hv hh l1 r1
  · exact xth_ref hv hh l2 r2
theorem xhears {s s' : State} (h : s.vm.Alike s'.vm) (m : MethodId) (below : List Frame) (hh : s.hears m below = true) : s'.hears m below = true := by
  have hm : s'.vm.method? = s.vm.method? := funext h.method?
  have hc : s'.code? = s.code? := by funext x; rw [State.code?_eq, State.code?_eq, hm]
  revert hh
  cases below with
  | nil => simp only [State.hears, hm]; exact id
  | cons f r => cases f <;> simp only [State.hears, hm, hc] <;> exact id
section rebase
variable {p : Program} {l : Launch} {e : Env} {R R' : Room} {s : State} {m : MethodId} {args : Array Value} {below : List Frame} {meth : Method} {c : Code} {T : State} {locs : List Loc} {cells slots : Nat}
/-- the walk begun anew at the state T -/
abbrev xRb (T : State) (m : MethodId) (args : Array Value) (below : List Frame) : State := T.setFrames (.invoking m args :: below)
theorem stand_rebase (X : Stand p l e R s m args below meth c T locs cells slots) (hf : R'.frames ≤ R.frames) (hl : R'.locals ≤ R.locals) (hc : cells + R'.cells ≤ R.cells) (hs : slots + R'.slots ≤ R.slots) :
    Stand p l e R' (xRb T m args below) m args below meth c T [] 0 0 := by
  obtain ⟨g₀, hfr⟩ := X.frames_eq
  have hcur : T.cur < T.threads.size := State.cur_lt_of_frames hfr
  have hfs : (xRb T m args below).frames = .invoking m args :: below := State.frames_setFrames _ hcur
  have hme : (xRb T m args below).vm.method? m = some meth := X.method'
  have hlim : e.platform.stackLimits T.me = e.platform.stackLimits (xRb T m args below).me := (State.stackLimits_setFrames _ _ _).symm
  have hby : T.me.stackBytes = (xRb T m args below).me.stackBytes := (State.stackBytes_setFrames _ _).symm
  refine ⟨X.admits, X.cas, X.clock, hfs, ?_, ?_, hme, X.code, X.here, X.tail, State.WarmedH.refl _, hlim, hby, ?_⟩
  · have h0 := X.room
    have e1 := State.localsInUse_invoking X.frames X.method X.code
    have e2 := State.localsInUse_invoking hfs hme X.code
    have hb := X.heapSize
    have hu := X.used
    have hk : (xRb T m args below).slotsTrue = true := X.book
    have hl2 := X.limits
    have hb2 := X.bytes
    simp only [State.hasRoom, Bool.and_eq_true, decide_eq_true_eq] at h0 ⊢
    rw [e1, X.frames] at h0
    rw [e2, hfs, ← hlim, ← hby, hl2, hb2]
    refine ⟨⟨⟨⟨?_, ?_, ?_, ?_, ?_, ?_⟩, ?_⟩, ?_⟩, hk⟩
    · omega
    · omega
    · omega
    · omega
    · omega
    · exact h0.1.1.1.2.2.2.2.2
    · show T.heap.size + R'.cells ≤ _; omega
    · show T.slotsUsed + R'.slots ≤ _; omega
  · exact xhears X.warmed.alike m below X.hears
  · obtain ⟨t, ht, -⟩ := State.frames_cons hfs
    have h := (State.sameButNew.refl (xRb T m args below) ht).setFrames T.frames (State.cur_lt_of_frames hfs)
    have e9 : (xRb T m args below).setFrames T.frames = T := by
      rw [State.setFrames_setFrames]
      obtain ⟨t2, ht2, hf2⟩ := State.frames_cons hfr
      exact State.setFrames_self ht2
    rw [e9] at h
    exact h
end rebase
