/-! Exceptions that are caught, 6: the rule of the abstract layer: a throw lands at its handler with the exception alone on the stack -/
section XF
variable {Γ : gC} {M : gI} {pc : Nat} {ls st : List gV} {v : gM} {h : gH} {t bc bs : Nat} {Q : gQ}
theorem gR_more {H H' : Heap} {k : Nat} (hH : gR Γ v h t H) (hz : H'.size = H.size + k) (ho : ∀ q, q < H.size → H'[q]? = H[q]?) : gR Γ v h (t + k) H' := by
  have hs := hH.1
  refine ⟨by rw [hz, hs]; omega, fun q hq => (ho q (by omega)).trans (hH.2.1 q hq), fun a ha => hH.2.2.1 a (by omega), fun a h1 h2 => ?_⟩
  by_cases e : a < t
  · exact gAt_kept (fun _ => rfl) rfl (by omega) (ho _ (by omega)) (hH.2.2.2 a h1 e)
  · have h9 := hH.2.2.1 a (by omega)
    unfold gAt
    rw [h9]
    exact ⟨fun z => absurd z (by decide), fun _ z => absurd z (by decide)⟩
theorem gS_more {H0 H H' : Heap} {locs L : List Loc} {B k : Nat} (hS : va_S (fun q => B ≤ q) H0 H locs) (hB : B ≤ H.size) (hz : H'.size = H.size + k) (ho : ∀ q, q < H.size → H'[q]? = H[q]?) (hL : ∀ q ∈ L, H.size ≤ q.base) : va_S (fun q => B ≤ q) H0 H' (locs ++ L) :=
  ⟨Nat.le_trans hS.1 (by omega), fun x h1 h2 => (ho x (Nat.lt_of_lt_of_le h1 hS.1)).trans (hS.2.1 x h1 h2), fun q hq => (List.mem_append.mp hq).elim (hS.2.2 q) (fun z => Nat.le_trans hB (hL q z))⟩
theorem xHeap {H : Heap} {s : State} {locs : List Loc} (hR : gR Γ v h t H) (hS : va_S (fun q => gB Γ ≤ q) s.heap H locs) (hb : gB Γ ≤ s.heap.size) : ∀ (a : Addr) (c : Cell), Γ.2.1.heap[a]? = some c → s.heap[a]? = some c := by
  intro a c hc
  have ha : a < gB Γ := (Array.getElem?_eq_some_iff.mp hc).1
  rw [← hS.2.1 a (Nat.lt_of_lt_of_le ha hb) (Nat.not_le_of_lt ha), hR.2.1 a ha]
  exact hc
theorem xStB {s : State} (hK : gK Γ s) (hh : ∀ (a : Addr) (c : Cell), Γ.2.1.heap[a]? = some c → s.heap[a]? = some c) (c : ClassId) (k : Class) (i : Nat) (f : Field) (a : Addr) (h1 : s.fieldFound? Bundle.tN "UNASSIGNED_STACK" Bundle.steD = some (c, k, i, f)) (h2 : k.statics = some a) : a < gB Γ := by
  have hl := xStart hK (xStatIn ("UNASSIGNED_STACK", "[Ljava/lang/StackTraceElement;") (by decide))
  have hl2 : (Cond.laysStatic xThr "UNASSIGNED_STACK" "[Ljava/lang/StackTraceElement;").before #[Value.ref Γ.2.2.2.2.1] (Γ.2.1.setVm s.vm) = true := Cond.holds_shifted (State.Shifted.of_warmed hK.2.2.2.1) _ [] rfl hl
  obtain ⟨-, c', k', i', f', a', cell, q1, -, -, q4, q5, -⟩ := xLS (u := Γ.2.1.setVm s.vm) (s := s) (A' := #[]) rfl hh hl2
  have q1 : s.fieldFound? Bundle.tN "UNASSIGNED_STACK" Bundle.steD = some (c', k', i', f') := q1
  cases h1.symm.trans q1
  cases h2.symm.trans q4
  exact (Array.getElem?_eq_some_iff.mp q5).1
theorem xCast {args : Array Value} {s : State} {A B : String} {cA : ClassId} (h : (Cond.castable A B).before args s = true) (hA : s.vm.findClass A = some cA) : ∃ cB, s.vm.findClass B = some cB ∧ s.vm.assignable cA cB = true := by
  obtain ⟨c3, c4, hc3, hc4, hasg⟩ := Cond.castable_spec h
  cases hA.symm.trans hc3
  exact ⟨c4, hc4, hasg⟩
theorem xNCast {args : Array Value} {s : State} {A B : String} {cA : ClassId} (h : (Cond.not (Cond.castable A B)).before args s = true) (hA : s.vm.findClass A = some cA) : ∃ cB, s.vm.findClass B = some cB ∧ s.vm.assignable cA cB = false := by
  simp only [Cond.before, Cond.holds, Cond.value, hA] at h
  cases hB : s.vm.findClass B with
  | none => rw [hB] at h; simp at h
  | some cB =>
    rw [hB] at h
    refine ⟨cB, rfl, ?_⟩
    cases hc : s.vm.assignable cA cB with
    | false => rfl
    | true => simp [hc] at h
/-- an exception of class cls at pc of M: who catches it (names of the classes by their entries; fits: is it one) -/
def xPlan (own cls : String) (tab : List (Nat × Nat × Nat × Nat)) (pc : Nat) (nm : Nat → String) (fits : Nat → Bool) : Bool := tab.all (fun x => !(xCv pc x) || (decide (x.2.2.2 ≠ 0) && (xOk (.classLink own x.2.2.2 (nm x.2.2.2)) && (bif fits x.2.2.2 then xOk (.castable cls (nm x.2.2.2)) else xOk (.not (.castable cls (nm x.2.2.2)))))))
theorem Gx_throw {note : Frame} {cls : String} {k n hp bc' bs' : Nat} {st' : List gV} {fits : Nat → Bool} {nm : Nat → String} {tab : List (Nat × Nat × Nat × Nat)}
    (htab : gTab M.2.2.2.2.2.slots = tab) (hne : tab ≠ [])
    (hthr : ∀ (p : Program) (e : Env) (R : Room) (s : State) (m : MethodId) (args : Array Value) (below : List Frame) (meth : Method) (c : Code) (T : State) (locs : List Loc) (cells slots : Nat) (lsa : Array Slot), p.tables.exec = Jvm.exec → c.code = M.2.1 → Stand p Γ.1 e R s m args below meth c T locs cells slots → gR Γ v h t T.heap → gRs t st → gK Γ s → ∀ target, Steps p.tables e below ((T.setTop (F0 m pc lsa (st'.map (gCv Γ)))).pushFrame note) target → Steps p.tables e below (T.setTop (F0 m pc lsa (st.map (gCv Γ)))) target)
    (hmade : ∀ (p : Program) (e : Env) (s : State) (m : MethodId) (args : Array Value) (below : List Frame) (meth : Method) (c : Code) (T : State) (locs : List Loc) (cells slots : Nat) (g : JFrame), p.tables.exec = Jvm.exec → (∀ w, xOk w = true → w.before args s = true) → Stand p Γ.1 e M.2.2.2.2.2 s m args below meth c T locs cells slots → (∀ x ∈ locs, gB Γ ≤ x.base) → (∀ (c : ClassId) (k : Class) (i : Nat) (f : Field) (a : Addr), s.fieldFound? Bundle.tN "UNASSIGNED_STACK" Bundle.steD = some (c, k, i, f) → k.statics = some a → a < gB Γ) → g.method = m → g.locals.size = c.maxLocals → 2 * g.monitorRoom + (g.stack.map fun v => v.category).sum = gCs st' → cells + k ≤ M.2.2.2.2.2.cells → slots + n ≤ M.2.2.2.2.2.slots → xMade p Γ.1 e M.2.2.2.2.2 s m args below meth c T locs cells slots g note cls k n)
    (hcat : xPlan M.2.2.2.2.1 cls tab pc nm fits = true) (hf : (tab.find? (fun x => xCv pc x && fits x.2.2.2)).map (fun x => x.2.2.1) = some hp) (hk : 1 ≤ k) (hb1 : bc' + k ≤ bc) (hb2 : n + bs' ≤ bs)
    (kk : Gx Γ M hp ls [(2, ((t + (k - 1) : Nat) : Int))] v h (t + k) bc' bs' Q) : Gx Γ M pc ls st v h t bc bs Q := by
  intro p e R s m args below meth c Z Cx H locs cells slots lsa h1 h2 h3 h4 h5 h6 h7
  obtain ⟨hx, hb, hml, hown, hK, hbs, hRoom, hname, hX, hO⟩ := id Cx
  have hh := xHeap h1 h2 hbs
  have hws : ∀ w, xOk w = true → w.before args s = true := fun w hw => xHolds hK hh hw args
  intro T hT X
  subst hT
  subst hRoom
  obtain ⟨U, L, XU, hL, hst, hz, ho, cell, hcell, hcls, hvm⟩ := hmade p e s m args below meth c T locs cells slots (F0 m pc lsa (st'.map (gCv Γ))) hx hws X h2.2.2 (xStB hK hh) rfl (h5.1.trans hml.symm) (by rw [gCs_sum]; simp) (by omega) (by omega)
  have hB : gB Γ ≤ T.heap.size := by rw [h1.1]; omega
  obtain ⟨vm', XV, hcat2⟩ := xCatchAt XU (own := M.2.2.2.2.1) (tab := tab) (fits := fits) (pc := hp) (g := F0 m pc lsa (st'.map (gCv Γ))) rfl hown (by rw [← htab]; exact hX (by rw [htab]; exact hne)) hcell (fun k hk => by rw [hvm] at hk; cases hk) (Vm.classAt_of_findClass hcls) (fun x hxm hxc => by
    have hq := List.all_eq_true.mp hcat x hxm
    rw [show xCv pc x = true from hxc] at hq
    simp only [Bool.not_true, Bool.false_or, Bool.and_eq_true, decide_eq_true_eq] at hq
    obtain ⟨q0, q1, q2⟩ := hq
    refine ⟨q0, nm x.2.2.2, ?_⟩
    cases hfit : fits x.2.2.2 with
    | true =>
      rw [hfit, cond_true] at q2
      obtain ⟨cB, e1, e2⟩ := xCast (hws _ q2) hcls
      exact ⟨cB, hws _ q1, e1, e2⟩
    | false =>
      rw [hfit, cond_false] at q2
      obtain ⟨cB, e1, e2⟩ := xNCast (hws _ q2) hcls
      exact ⟨cB, hws _ q1, e1, e2⟩) hf
  have hk2 := kk p e M.2.2.2.2.2 s m args below meth c Z Cx U.heap (locs ++ L) (cells + k) (slots + n) lsa (gR_more h1 hz ho) (gS_more h2 hB hz ho hL) (by omega) (by omega) h5 (gRs_mono (by omega) h6) ⟨⟨by omega, by omega⟩, trivial⟩
  obtain ⟨t2, a1, b1⟩ := hk2 (U.setVm vm') rfl XV
  have e9 : gCv Γ (2, ((t + (k - 1) : Nat) : Int)) = .ref (T.heap.size + (k - 1)) := by
    show gRv _ _ = _
    rw [gRv_ref (by omega), h1.1, Int.toNat_natCast, Nat.add_assoc]
  rw [List.map_cons, List.map_nil, e9] at a1
  exact ⟨t2, hthr p e _ s m args below meth c T locs cells slots lsa hx hb X h1 h7 hK _ (hst _ (hcat2 _ a1)), b1⟩
end XF
