/-! Exceptions that are caught, 5: the words that making one asks, at any state of the run -/
section XE
def xNar : List Cond := gLv 20 narrow_1
def xThr : String := "java/lang/Throwable"
def xStat : List (String × String) := [("UNASSIGNED_STACK", "[Ljava/lang/StackTraceElement;"), ("SUPPRESSED_SENTINEL", "Ljava/util/List;")]
def xKind : Cond → Bool
  | .castable .. => true
  | .declares _ => true
  | .laysStatic .. => true
  | .not (.castable ..) => true
  | .isRef (.static o n d) => decide (o = xThr) && decide ((n, d) ∈ xStat)
  | w => goodWord w
def xOk (w : Cond) : Bool := (decide (w ∈ tables_1) || decide (w ∈ xNar)) && xKind w
theorem xStart {Γ : gC} {s : State} (hK : gK Γ s) {w : Cond} (h : (decide (w ∈ tables_1) || decide (w ∈ xNar)) = true) : w.before #[Value.ref Γ.2.2.2.2.1] Γ.2.1 = true := by
  rcases Bool.or_eq_true_iff.mp h with h | h
  · exact hK.2.1 w (List.mem_append_right _ (of_decide_eq_true h))
  · have hn := hK.2.2.1
    rw [Cond.before_and, Bool.and_eq_true] at hn
    exact gLv_ok 20 narrow_1 hn.2 w (of_decide_eq_true h)
theorem xLS {u s : State} {A A' : Array Value} {o n d : String} (hvm : u.vm = s.vm) (hh : ∀ (a : Addr) (c : Cell), u.heap[a]? = some c → s.heap[a]? = some c) (h : (Cond.laysStatic o n d).before A u = true) : (Cond.laysStatic o n d).before A' s = true ∧ ∃ (c : ClassId) (k : Class) (i : Nat) (f : Field) (a : Addr) (cell : Cell), s.fieldFound? o n d = some (c, k, i, f) ∧ u.fieldFound? o n d = some (c, k, i, f) ∧ f.isStatic = true ∧ k.statics = some a ∧ u.heap[a]? = some cell ∧ s.heap[a]? = some cell ∧ cell.vm.isStatics = true := by
  obtain ⟨c, k, i, f, a, cell, h1, h2, h3, h4, h5, h6, h7, h8, h9⟩ := Cond.laysStatic_spec (show (Cond.laysStatic o n d).holds A u none u [] = true from h)
  have h2' : s.fieldFound? o n d = some (c, k, i, f) := by
    unfold State.fieldFound? at h2 ⊢
    rw [← hvm]
    exact h2
  have h1' : s.vm.findClass o = some c := by rw [← hvm]; exact h1
  refine ⟨?_, c, k, i, f, a, cell, h2', h2, h3, h4, h5, hh a cell h5, h6⟩
  simp only [Cond.before, Cond.holds, Cond.value, h1', h2', h4, Option.bind_some, hh a cell h5, Option.map_some, h3, h6, h7, h8, h9]
  simp
theorem xIR {u s : State} {A A' : Array Value} {o n d : String} (hvm : u.vm = s.vm) (hh : ∀ (a : Addr) (c : Cell), u.heap[a]? = some c → s.heap[a]? = some c) (hl : (Cond.laysStatic o n d).before A u = true) (h : (Cond.isRef (.static o n d)).before A u = true) : (Cond.isRef (.static o n d)).before A' s = true := by
  obtain ⟨-, c, k, i, f, a, cell, h1, h2, h3, h4, h5, h6, h7⟩ := xLS (A' := A') hvm hh hl
  have e1 : (Term.static o n d).eval A u none [] u = cell.slots[f.slot]? := by simp [Term.eval, State.fieldNamed?, h2, h3, h4, h5, h7]
  have e2 : (Term.static o n d).eval A' s none [] s = cell.slots[f.slot]? := by simp [Term.eval, State.fieldNamed?, h1, h3, h4, h6, h7]
  simp only [Cond.before, Cond.holds, Cond.value] at h ⊢
  rw [e1] at h
  rw [e2]
  exact h
theorem xStatIn : ∀ q ∈ xStat, (decide (Cond.laysStatic xThr q.1 q.2 ∈ tables_1) || decide (Cond.laysStatic xThr q.1 q.2 ∈ xNar)) = true := by decide +kernel
theorem xHolds {Γ : gC} {s : State} (hK : gK Γ s) (hh : ∀ (a : Addr) (c : Cell), Γ.2.1.heap[a]? = some c → s.heap[a]? = some c) {w : Cond} (h : xOk w = true) (args : Array Value) : w.before args s = true := by
  unfold xOk at h
  obtain ⟨h1, h2⟩ := Bool.and_eq_true_iff.mp h
  have h0 := xStart hK h1
  have hW := hK.2.2.2.1
  have tr : ∀ {c : Cond}, c.onTables = true → c.before #[Value.ref Γ.2.2.2.2.1] (Γ.2.1.setVm s.vm) = true → c.before args s = true := fun hc hb => va_tabs hc (rfl : (Γ.2.1.setVm s.vm).vm = s.vm) hb
  have sh : ∀ {c : Cond}, c.keeps = true → c.before #[Value.ref Γ.2.2.2.2.1] Γ.2.1 = true → c.before #[Value.ref Γ.2.2.2.2.1] (Γ.2.1.setVm s.vm) = true := fun hc hb => Cond.holds_shifted (State.Shifted.of_warmed hW) _ [] hc hb
  unfold xKind at h2
  split at h2
  · exact tr rfl (by rw [Cond.castable_setVm hW.alike]; exact h0)
  · exact tr rfl (by rw [Cond.declares_setVm hW.alike]; exact h0)
  · exact (xLS (u := Γ.2.1.setVm s.vm) (s := s) rfl hh (sh rfl h0)).1
  · have e1 := h0
    simp only [Cond.before, Cond.holds, Cond.value, hW.alike.findClass, hW.alike.assignable] at e1 ⊢
    exact e1
  · obtain ⟨q1, q2⟩ := Bool.and_eq_true_iff.mp h2
    have q1 := of_decide_eq_true q1
    have q2 := of_decide_eq_true q2
    subst q1
    have hl := xStart hK (xStatIn _ q2)
    exact xIR (u := Γ.2.1.setVm s.vm) (s := s) rfl hh (sh rfl hl) (sh rfl h0)
  · exact word_at hW (good_of_word h2) h0
theorem xNpeIn : (Bundle.npeArmAtoms 8).all xOk = true := by decide +kernel
theorem xIdxIn : (Bundle.messageArmAtoms Bundle.idxN Bundle.idxUp).all xOk = true := by decide +kernel
theorem xNegIn : (Bundle.messageArmAtoms "java/lang/NegativeArraySizeException" ["java/lang/RuntimeException", "java/lang/Exception"]).all xOk = true := by decide +kernel
theorem xAriIn : (Bundle.messageArmAtoms "java/lang/ArithmeticException" ["java/lang/RuntimeException", "java/lang/Exception"]).all xOk = true := by decide +kernel
theorem xCceIn : (Bundle.messageArmAtoms "java/lang/ClassCastException" ["java/lang/RuntimeException", "java/lang/Exception"]).all xOk = true := by decide +kernel
end XE
