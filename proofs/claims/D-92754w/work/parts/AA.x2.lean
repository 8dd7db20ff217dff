/-! Exceptions that are caught, 2: the whole search through a method's table; at a Stand -/
section XB
theorem xSearch {e : Env} {s : State} {f : JFrame} {a : Addr} {cell : Cell} {own : String} {args : Array Value} {fits : Nat → Bool} (hpl : e.platform.magicAccessors = ({} : Platform).magicAccessors) (hown : s.vm.findClass own = some f.method.cls) (hobj : ∀ k, cell.vm ≠ .statics k) (hks : ∃ k, s.vm.classes[cell.cls]? = some k) :
    ∀ (L : List ExceptionTableEntry) (pc : Nat), (∀ x ∈ L, covers x f.pc = true → x.catchType ≠ 0 ∧ ∃ name cT, (Cond.classLink own x.catchType name).before args s = true ∧ s.vm.findClass name = some cT ∧ s.vm.assignable cell.cls cT = fits x.catchType) →
      (L.find? (fun x => covers x f.pc && fits x.catchType)).map (fun x => x.handlerPc) = some pc → ∀ T : State, s.WarmedH T.vm → T.heap[a]? = some cell →
      ∃ vm', s.WarmedH vm' ∧ ∀ (Q : Handler → Pre) (E : CtlPost) (d : Bool) (acts : List Action), wp (findHandler.go f a L) Q E e d acts T ↔ Q (.found pc) d acts (T.setVm vm')
  | [], pc, _, hf, _, _, _ => by cases hf
  | x :: t, pc, hl, hf, T, hW, hcell => by
    cases hcv : covers x f.pc with
    | false =>
      rw [List.find?_cons_of_neg (by rw [hcv, Bool.false_and]; decide)] at hf
      obtain ⟨vm', h1, h2⟩ := xSearch hpl hown hobj hks t pc (fun y hy => hl y (List.mem_cons_of_mem _ hy)) hf T hW hcell
      exact ⟨vm', h1, fun Q E d acts => (W.findHandler_go_skip hcv).trans (h2 Q E d acts)⟩
    | true =>
      obtain ⟨h0, name, cT, hlink, hcT, hasg⟩ := hl x List.mem_cons_self hcv
      obtain ⟨c', hc', hcl⟩ := Cond.classLink_spec hown hlink e.platform hpl
      cases hcT.symm.trans hc'
      obtain ⟨dk, _, _, kt, hd, _, _, _, _, hkt, _, hopen⟩ := hcl.here
      have hcl₀ := hW.classLinks hcl
      have hW' : s.WarmedH (T.vm.noted f.method.cls x.catchType (.cls cT)) := hW.noted hd hopen (State.rightAt_cls hcl)
      obtain ⟨ks, hks0⟩ := hks
      obtain ⟨ks', hks', -⟩ := hW'.alike.2.2 _ _ hks0
      obtain ⟨kt', hkt', -⟩ := hW'.alike.2.2 _ _ hkt
      have hgo := fun (Q : Handler → Pre) (E : CtlPost) (d : Bool) (acts : List Action) => xGo (Q := Q) (E := E) (d := d) (acts := acts) (t := t) hcv h0 (resolveClass_links e.toSetting hcl₀) (Nat.le_of_eq (Vm.size_noted _ _ _ _)) hcell hobj ⟨ks', hks'⟩ ⟨kt', hkt'⟩
      rw [hW'.alike.assignable, hasg] at hgo
      cases hfit : fits x.catchType with
      | true =>
        rw [List.find?_cons_of_pos (by rw [hcv, hfit]; rfl)] at hf
        have hf : x.handlerPc = pc := Option.some.inj hf
        refine ⟨_, hW', fun Q E d acts => ?_⟩
        rw [hgo, if_pos hfit, hf]
      | false =>
        rw [List.find?_cons_of_neg (by rw [hcv, hfit]; decide)] at hf
        obtain ⟨vm', h1, h2⟩ := xSearch hpl hown hobj ⟨ks, hks0⟩ t pc (fun y hy => hl y (List.mem_cons_of_mem _ hy)) hf (T.setVm (T.vm.noted f.method.cls x.catchType (.cls cT))) hW' hcell
        refine ⟨vm', h1, fun Q E d acts => ?_⟩
        rw [hgo, if_neg (by rw [hfit]; decide)]
        exact h2 Q E d acts
/-- a handler's row of four numbers covers pc -/
def xCv (pc : Nat) (h : Nat × Nat × Nat × Nat) : Bool := decide (h.1 ≤ pc) && decide (pc < h.2.1)
theorem xFind_map (fits : Nat → Bool) (pc : Nat) (L : List ExceptionTableEntry) : (L.find? (fun x => covers x pc && fits x.catchType)).map (fun x => x.handlerPc) = ((L.map (fun h => (h.startPc, h.endPc, h.handlerPc, h.catchType))).find? (fun h => xCv pc h && fits h.2.2.2)).map (fun h => h.2.2.1) := by
  rw [List.find?_map, Option.map_map]
  rfl
theorem xCatchAt {p : Program} {l : Launch} {e : Env} {R : Room} {s : State} {m : MethodId} {args : Array Value} {below : List Frame} {meth : Method} {c : Code} {T : State} {locs : List Loc} {cells slots : Nat} (X : Stand p l e R s m args below meth c T locs cells slots) {own : String} {tab : List (Nat × Nat × Nat × Nat)} {fits : Nat → Bool} {pc : Nat} {a : Addr} {cell : Cell} {g : JFrame} (hg : g.method = m) (hown : s.vm.findClass own = some m.cls) (htab : c.exceptionTable.toList.map (fun h => (h.startPc, h.endPc, h.handlerPc, h.catchType)) = tab)
    (hcell : T.heap[a]? = some cell) (hobj : ∀ k, cell.vm ≠ .statics k) (hks : ∃ k, s.vm.classes[cell.cls]? = some k)
    (hl : ∀ h ∈ tab, xCv g.pc h = true → h.2.2.2 ≠ 0 ∧ ∃ name cT, (Cond.classLink own h.2.2.2 name).before args s = true ∧ s.vm.findClass name = some cT ∧ s.vm.assignable cell.cls cT = fits h.2.2.2)
    (hf : (tab.find? (fun h => xCv g.pc h && fits h.2.2.2)).map (fun h => h.2.2.1) = some pc) :
    ∃ vm', Stand p l e R s m args below meth c (T.setVm vm') locs cells slots ∧ ∀ target, Steps p.tables e below ((T.setVm vm').setTop { g with pc := pc, stack := [.ref a] }) target → Steps p.tables e below ((T.setTop g).pushFrame (.throwing a)) target := by
  have hpl : e.platform.magicAccessors = ({} : Platform).magicAccessors := by rw [X.admits.platform]
  have hvm := Stand.throwing_vm T g a
  have hhp := Stand.throwing_heap T g a
  obtain ⟨vm', h1, h2⟩ := xSearch (e := e) (f := g) (a := a) (args := args) (fits := fits) hpl (by rw [hg]; exact hown) hobj hks c.exceptionTable.toList pc (fun x hx hcv => hl (x.startPc, x.endPc, x.handlerPc, x.catchType) (by rw [← htab]; exact List.mem_map_of_mem hx) hcv) (by rw [xFind_map, htab]; exact hf) ((T.setTop g).pushFrame (.throwing a)) (by rw [hvm]; exact X.warmed) (by rw [hhp]; exact hcell)
  refine ⟨vm', X.noted h1, fun target hrest => ?_⟩
  have h : At T g.method c below := by rw [hg]; exact X.here
  refine xCaught h (fun Q E d acts => ?_) hrest
  rw [W.findHandler_eq (meth := meth) (code := c) (by rw [hvm, hg]; exact X.method') X.code]
  exact h2 Q E d acts
end XB
