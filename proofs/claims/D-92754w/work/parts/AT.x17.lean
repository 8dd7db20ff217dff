/-! Exceptions that a native throws, 5: one with a message (printed by gx17.py from part AC.x4) -/
section XQ
variable {p : Program} {l : Launch} {e : Env} {R : Room} {s : State} {m₀ : MethodId} {args : Array Value} {below : List Frame} {meth : Method} {c : Code} {T' : State} {locs : List Loc} {cells slots : Nat}
set_option maxHeartbeats 1000000 in
theorem xMsgF (X : Stand p l e R s m₀ args below meth c T' locs cells slots) (hexec : p.tables.exec = Jvm.exec) (htr : e.platform.stackTraces = false) {cls : String} {names : List String} {text : String}
    (hcls : Bundle.fit cls = true) (hnames : ∀ n ∈ names, Bundle.fit n = true) (hsoe : (cls == "java/lang/StackOverflowError") = false) (hoom : (cls == "java/lang/OutOfMemoryError") = false)
    (h : ∀ a ∈ Bundle.messageArmAtoms cls names, a.before args s = true)
    {B : Nat} (hlocs : ∀ x ∈ locs, B ≤ x.base) (hst : ∀ (c : ClassId) (k : Class) (i : Nat) (f : Field) (a : Addr), s.fieldFound? Bundle.tN "UNASSIGNED_STACK" Bundle.steD = some (c, k, i, f) → k.statics = some a → a < B)
    (htext : (text == notModelled) = false) (hlimit : ¬ (stringBytes (stringToUtf16 text)).size > e.platform.arrayLengthLimit) (hheap : ¬ (stringBytes (stringToUtf16 text)).size * componentBytes .byte > e.platform.maxHeapBytes)
    {g : JFrame} (hg : g.method = m₀) (hsize : g.locals.size = c.maxLocals)
    {nf : NFrame} (hnf : nf.words = 0) (hnl : nf.locked = none) (hna : nf.awaiting = false) (hRframes : names.length + 5 < R.frames) (hRlocals : 2 * g.monitorRoom + (g.stack.map fun v => v.category).sum + 10240 ≤ R.locals) (hshort : 13 * names.length + 55 ≤ 10240)
    (hRcells : cells + 3 ≤ R.cells) (hRslots : slots + ((stringBytes (stringToUtf16 text)).size + 4 + 6) ≤ R.slots) :
    xMadeE p l e R s m₀ args below meth c T' locs cells slots g (T'.setFrames (.throwNew cls (some text) none :: .native nf :: .java g :: below)) cls 3 ((stringBytes (stringToUtf16 text)).size + 4 + 6) := by
  have howns : e.platform.frameOwnsMonitors = true := by rw [X.admits.platform]
  have hfin : e.platform.finalization = false := by rw [X.admits.platform]
  have hpl : e.platform.magicAccessors = ({} : Platform).magicAccessors := by rw [X.admits.platform]
  have a : ∀ x, x ∈ Bundle.messageArmAtoms cls names → x.holds args s none s [] = true := fun x hx => h x hx
  obtain ⟨T, Z0, L, -, Y⟩ := ThrowableC.of_atoms (args := args) howns hfin hpl (fun x hx => h x (by simp [Bundle.messageArmAtoms, hx]))
  obtain ⟨Z, M, LZ, LM, hnZ⟩ := Init0T.ofS_atoms (args := args) hpl L Y (fun x hx => h x (by simp [Bundle.messageArmAtoms, hx]))
  obtain ⟨P1, Ps, hlen, L1, hL, hP1m, hlink1, hlink⟩ := Bundle.chainS (args := args) hpl hnZ names cls hcls hnames (fun x hx => h x (by simp [Bundle.messageArmAtoms, hx]))
  obtain ⟨Zs, LZs, hn4, hfitv, hfitc⟩ := StringT.of_atoms (args := args) (fun x hx => h x (by simp [Bundle.messageArmAtoms, hx]))
  have hfound : s.vm.findClass cls = some P1.m.cls := findClass_of_methodNamed hP1m
  obtain ⟨c1, kX, hc1, hk, hord, -, -, hn6⟩ := Cond.instantiable_spec (a (.instantiable cls 6) (by simp [Bundle.messageArmAtoms]))
  cases Option.some.inj (hc1.symm.trans hfound)
  have hinit := Cond.initialized_spec hfound hk (a (.initialized cls) (by simp [Bundle.messageArmAtoms]))
  have hctor : kX.findMethod "<init>" "(Ljava/lang/String;)V" = some P1.m.idx := findMethod_of_methodNamed hP1m hk
  have hsel0 : selectMethod e.platform s.vm P1.m.cls T.fill0 = .method T.fill0 := by
    obtain ⟨c2, r2, m2, q1, q2, q3, q4, -⟩ := Cond.selects_spec (a (.selects cls Bundle.tFill0 Bundle.tFill0) (by simp [Bundle.messageArmAtoms]))
    cases Option.some.inj (q1.symm.trans hfound)
    cases Option.some.inj (q2.symm.trans (State.methodFound?_of_named Y.fill0 (by decide)))
    cases Option.some.inj (q3.symm.trans Y.fill0)
    rw [Launch.admits_selectMethod X.admits]; exact q4
  have hselF : selectMethod e.platform s.vm P1.m.cls T.fill = .method T.fill := by
    obtain ⟨c2, r2, m2, q1, q2, q3, q4, -⟩ := Cond.selects_spec (a (.selects cls Bundle.tFill Bundle.tFill) (by simp [Bundle.messageArmAtoms]))
    cases Option.some.inj (q1.symm.trans hfound)
    cases Option.some.inj (q2.symm.trans (State.methodFound?_of_named Y.fill (by decide)))
    cases Option.some.inj (q3.symm.trans Y.fill)
    rw [Launch.admits_selectMethod X.admits]; exact q4
  obtain ⟨cellS0, hcS0, hiss⟩ := Y.statics
  obtain ⟨u0, hu0⟩ := Cond.staticRefV Y.unassigned L.unassignedStatic L.statics hcS0 hiss (a (.isRef (.static Bundle.tN "UNASSIGNED_STACK" Bundle.steD)) (by simp [Bundle.messageArmAtoms]))
  obtain ⟨sen, hsen⟩ := Cond.staticRefV Y.sentinel L.sentinelStatic L.statics hcS0 hiss (a (.isRef (.static Bundle.tN "SUPPRESSED_SENTINEL" Bundle.listD)) (by simp [Bundle.messageArmAtoms]))
  obtain ⟨ci198, i198, fB, hk198, hg198, ha198, hsB, -, hnB, htB, hffB⟩ := Cond.ownField (t := .object "java/lang/Object") Y.found L.cls (by decide +kernel) (a (.fieldLink Bundle.tN 198 Bundle.tN "backtrace" "Ljava/lang/Object;") (by simp [Bundle.messageArmAtoms])) (a (.lays Bundle.tN Bundle.tN "backtrace" "Ljava/lang/Object;") (by simp [Bundle.messageArmAtoms])) e.platform hpl
  obtain ⟨cellS, hcS', heS, -, hkeep⟩ := X.same.2.2.2.2.2 T.aS cellS0 hcS0
  have hcellS : T'.heap[T.aS]? = some cellS := hcS'
  have hout' : ∀ i, (⟨T.aS, i⟩ : Loc) ∉ locs := fun i hmem => by
    exact absurd (hlocs _ hmem) (Nat.not_le_of_lt (hst _ _ _ _ _ Y.unassigned L.statics))
  have hknownS : cellS.vm ≠ .unknown := by
    rw [heS]; intro hu
    rw [show cellS0.vm = .unknown from hu] at hiss
    cases hiss
  obtain ⟨iM, hffM⟩ := Y.msg
  obtain ⟨tyC, dC, hdC, hdnC⟩ := Cond.laysAt hfound hk Y.cause (a (.lays cls Bundle.tN "cause" "Ljava/lang/Throwable;") (by simp [Bundle.messageArmAtoms]))
  obtain ⟨tyS, dS, hdS, hdnS⟩ := Cond.laysAt hfound hk Y.stack (a (.lays cls Bundle.tN "stackTrace" Bundle.steD) (by simp [Bundle.messageArmAtoms]))
  obtain ⟨tyP, dP, hdP, hdnP⟩ := Cond.laysAt hfound hk Y.supp (a (.lays cls Bundle.tN "suppressedExceptions" Bundle.listD) (by simp [Bundle.messageArmAtoms]))
  obtain ⟨tyM, dM, hdM, hdnM⟩ := Cond.laysAt hfound hk hffM (a (.lays cls Bundle.tN "detailMessage" "Ljava/lang/String;") (by simp [Bundle.messageArmAtoms]))
  obtain ⟨tyB, dB, hdB, hdnB⟩ := Cond.laysAt hfound hk hffB (a (.lays cls Bundle.tN "backtrace" "Ljava/lang/Object;") (by simp [Bundle.messageArmAtoms]))
  have bC := Cond.laysApart hdB hdC hdnB hdnC (by rw [hnB, Y.causeName]; decide)
  have bS := Cond.laysApart hdB hdS hdnB hdnS (by rw [hnB, Y.stackName]; decide)
  have bP := Cond.laysApart hdB hdP hdnB hdnP (by rw [hnB, Y.suppName]; decide)
  have hskip : SkipFacts T e.platform s (fun u => u) u0 ((preparedCellV T.toThrowableT (freshCell P1.m.cls kX) (T'.heap.size + 2) u0 sen).withEntry T'.cur) :=
    ⟨{ ci198 := ci198, i198 := i198, fBack := fB }, ⟨hk198, hg198, ha198, hsB⟩, by
      have := fresh_default (c := P1.m.cls) tyB
      rw [htB] at this
      simpa [preparedCellV, Cell.setSlot, Cell.withEntry, Array.getElem?_setIfInBounds, bC, bS, bP, bC.symm, bS.symm, bP.symm, defaultValue] using this, fun _ _ => rfl⟩
  have hF : (.native nf :: .java g :: below : List Frame) = [.native nf, .java g] ++ below := rfl
  have hA : At T' m₀ c below := X.here
  have hRslots' : slots + ((stringBytes (stringToUtf16 text)).size + Zs.kS.instanceTypes.size + kX.instanceTypes.size) ≤ R.slots := by rw [hn4, hn6]; exact hRslots
  obtain ⟨g₀, hfrm⟩ := X.frames_eq
  have hcur : T'.cur < T'.threads.size := State.cur_lt_of_frames hfrm
  have hsu : stackUse (.native nf :: .java g :: below) = ((stackUse (.java g :: below)).1 + 1, (stackUse (.java g :: below)).2) := stackUse_light _ _ (fun f hf => by cases hf) hnf
  have hst0 := X.stackAbove hsize hRlocals
  rw [X.tail] at hst0
  have hb : ((((T'.setFrames (.throwNew cls (some text) none :: .native nf :: .java g :: below)).threads[T'.cur]?).map (·.stackBytes)).getD 0) = T'.me.stackBytes := by
    rw [← State.stackBytes_setFrames T' (.throwNew cls (some text) none :: .native nf :: .java g :: below)]
    exact State.stackBytes_me (T'.setFrames (.throwNew cls (some text) none :: .native nf :: .java g :: below))
  have hlimE : (e.platform.stackLimits T'.me).2 = (e.platform.limitsFor T'.me.stackBytes).2 := rfl
  have hbf : e.platform.stackBeyond ((((T'.setFrames (.throwNew cls (some text) none :: .native nf :: .java g :: below)).threads[T'.cur]?).map (·.stackBytes)).getD 0) (T'.setFrames (.throwNew cls (some text) none :: .native nf :: .java g :: below)).frames = false ∧ e.platform.vmThrowRoom ≤ e.platform.stackFree ((((T'.setFrames (.throwNew cls (some text) none :: .native nf :: .java g :: below)).threads[T'.cur]?).map (·.stackBytes)).getD 0) (T'.setFrames (.throwNew cls (some text) none :: .native nf :: .java g :: below)).frames := by
    rw [hb, State.frames_setFrames _ hcur, Launch.admits_vmThrowRoom X.admits]
    unfold Platform.stackBeyond Platform.stackFree
    rw [stackUse_light _ _ (fun f hf => by cases hf) rfl, hsu]
    refine ⟨decide_eq_false (by omega), by omega⟩
  have hfr' : (.native nf :: .java g :: below : List Frame).length + Ps.length + 4 < (e.platform.stackLimits T'.me).1 := by
    have := X.framesAbove hRframes
    rw [hfrm] at this
    simp only [List.length_cons] at this ⊢
    omega
  have hwd' : (stackUse (.native nf :: .java g :: below)).2 + 13 * Ps.length + 55 ≤ (e.platform.stackLimits T'.me).2 := by rw [hsu]; show (stackUse (.java g :: below)).2 + 13 * Ps.length + 55 ≤ _; omega
  have hslots : T'.slotsUsed + (stringBytes (stringToUtf16 text)).size + Zs.kS.instanceTypes.size + kX.instanceTypes.size ≤ e.platform.maxSlots := by have := X.slotsAbove hRslots'; omega
  obtain ⟨kX', hk', he'⟩ := X.warmed.alike.2.2 _ _ hk
  have hty : kX'.instanceTypes = kX.instanceTypes := by rw [he']
  have hfresh : freshCell P1.m.cls kX' = freshCell P1.m.cls kX := by
    show ({ cls := P1.m.cls, slots := kX'.instanceTypes.map defaultValue, vm := .none } : Cell) = _
    rw [hty]
  obtain ⟨kS', kB', LZ', htyS⟩ := LZs.warmer X.warmed.alike
  have hsame : withThrown T' { Zs with kS := kS', kB := kB' } text P1.m.cls kX' = (withThrown T' Zs text P1.m.cls kX) := by
    rw [← withThrown_warmer T' Zs (kB' := kB') htyS text P1.m.cls kX]
    show (withString T' _ _ _ _ _ _).pushCell (freshCell P1.m.cls kX') = (withString T' _ _ _ _ _ _).pushCell (freshCell P1.m.cls kX)
    rw [hfresh]
  have hfs : T'.fitsSlot = s.fitsSlot := (show T'.fitsSlot = (s.setVm T'.vm).fitsSlot from rfl).trans (State.fitsSlot_setVm X.warmed.alike)
  obtain ⟨x1, x2, -, x4, x5, -, x7⟩ := withThrown_facts e.platform T' Zs text P1.m.cls kX
  have hltS : T.aS < T'.heap.size := (Array.getElem?_eq_some_iff.mp hcellS).1
  have hWat : At (withThrown T' Zs text P1.m.cls kX) m₀ c below := by simpa [withThrown, withString] using hA
  have hWcur : (withThrown T' Zs text P1.m.cls kX).cur = T'.cur := by simp [withThrown, withString]
  have hWW : s.WarmedH (withThrown T' Zs text P1.m.cls kX).vm := by rw [x1]; exact X.warmed
  have hF2 : (.thenThrow (T'.heap.size + 2) :: .native nf :: .java g :: below : List Frame) = [.thenThrow (T'.heap.size + 2), .native nf, .java g] ++ below := rfl
  obtain ⟨hfN, -, -⟩ := xIn hWat hF2 (passJ P1.m (T'.heap.size + 2) (.ref (T'.heap.size + 1)) 0 []) (hWW.methodAt L1.method) L1.code (hWW.plainAt L1.plain)
  have hroom := roomAbove (pl := e.platform) (u := (withThrown T' Zs text P1.m.cls kX).setFrames (.thenThrow (T'.heap.size + 2) :: .native nf :: .java g :: below)) (vars := 2) (pushed := [.thenThrow (T'.heap.size + 2)]) (base := .native nf :: .java g :: below) (free := 13 * Ps.length + 55) (lim := e.platform.stackLimits T'.me) hfN (by rw [State.stackLimits_setFrames]; exact x7) (by simp only [List.length_cons, List.length_nil] at hfr' ⊢; omega) (by omega) (by rw [stackUse_light _ _ (fun f hf => by cases hf) rfl, stackUse_nil]; show 0 + 2 + 11 ≤ _; omega)
  obtain ⟨vm', hW', st⟩ := xCtorS (p := p) hWat hF hexec (H := fun u => u.setCell (T'.heap.size + 2) ((((preparedCellV T.toThrowableT (freshCell P1.m.cls kX) (T'.heap.size + 2) u0 sen).withEntry T'.cur).setSlot T.fStack.slot u0.v).left.setSlot T.fMsg.slot (.ref (T'.heap.size + 1)))) (heapOnly_id.thenSetCell (T'.heap.size + 2) _) P1 L1 hWW (T'.heap.size + 2) (T'.heap.size + 1) hroom (fun vm1 hW1 hI1 => by
    rw [hlink1]
    obtain ⟨-, -, hfI⟩ := xIn (hWat.setVm (hWW.alike.symm.trans hW1.alike)) hF2 (passJ P1.m (T'.heap.size + 2) (.ref (T'.heap.size + 1)) 0 []) (hW1.methodAt L1.method) L1.code (hW1.plainAt (U := (withThrown T' Zs text P1.m.cls kX).setVm vm1) L1.plain)
    obtain ⟨vm2, hW2, st2⟩ := Steps.initThrowableSColdByV p (V := ((((withThrown T' Zs text P1.m.cls kX).setVm vm1).setFrames (.thenThrow (T'.heap.size + 2) :: .native nf :: .java g :: below)).pushFrame (.java (passJ P1.m (T'.heap.size + 2) (.ref (T'.heap.size + 1)) 0 [])))) (g := passJ P1.m (T'.heap.size + 2) (.ref (T'.heap.size + 1)) 2 []) (c := P1.code) (self := T'.heap.size + 2) hI1 hexec T L Z LZ M LM hW1 (t := T'.cur) hWcur
      (Nn := fun u => u) heapOnly_id (fun _ _ => rfl) (fun _ => rfl) (fun u x y => setCell_twice _ _ _ _) (fun _ => Nat.le_refl _) (msg := .ref (T'.heap.size + 1)) rfl (cN := ((preparedCellV T.toThrowableT (freshCell P1.m.cls kX) (T'.heap.size + 2) u0 sen).withEntry T'.cur))
      x4 (by intro k hk'; cases hk') (by intro hk'; cases hk') rfl hsel0 ((x5 _ hltS).trans hcellS) (Nat.ne_of_lt (Nat.lt_of_lt_of_le hltS (Nat.le_add_right _ 2))) hknownS (by rw [hkeep _ (hout' _)]; exact hu0) (Takes.of_laid hk hord tyS (by rw [Y.stackType]; exact fits_refV_array _ u0))
      (fun _ hu => hu) (fun _ hu => hu) rfl rfl rfl (by simp [preparedCellV, Cell.setSlot, Cell.withEntry]) hskip (fun _ _ hA hW _ hroom _ hrest => L.nativeOff p htr hA hW hroom hrest) hselF (by rw [hkeep _ (hout' _)]; exact hsen)
      (Takes.of_laid hk hord tyC (by rw [Y.causeType]; rfl)) (Takes.of_laid hk hord tyP (by rw [Y.suppType]; exact fits_refV_object _ sen)) (Takes.of_laid hk hord tyM (by rw [Y.msgType]; rfl)) Y.objLocals Ps hL hlink (ig := .invokespecial P1.index) (len := 3) [] (lim := e.platform.stackLimits T'.me) (by rw [State.stackLimits_pushFrame, State.stackLimits_setFrames]; exact x7)
      (by rw [hfI]; simp only [List.length_cons, List.length_nil] at hfr' ⊢; omega)
      (by rw [hfI, List.tail_cons, stackUse_java, stackUse_light _ _ (fun f hf => by cases hf) rfl]
          show (stackUse (Frame.native nf :: .java g :: below)).2 + (2 + 11 + 2 * 0 + operandWords []) + 13 * Ps.length + 42 ≤ _
          simp only [operandWords, List.foldl_nil]
          omega) L1.at2
    exact ⟨vm2, hW2, fun t' h' => st2 t' h'⟩)
  rw [plainBareV_eq T.toThrowableT (T'.heap.size + 2) u0 sen (.ref (T'.heap.size + 1)) T'.cur rfl rfl] at st
  obtain ⟨-, -, w3, w4, -, -, -⟩ := withThrown_facts e.platform T' Zs text P1.m.cls kX
  have X3 := ((X.pushed (bytesOf Zs.cB (stringToUtf16 text))).pushed (stringAt Zs.cS Zs.kS Zs.fv Zs.fc (stringToUtf16 text) T'.heap.size)).pushed (freshCell P1.m.cls kX)
  have hlow : ∀ q, q < T'.heap.size → (((T'.pushCell (bytesOf Zs.cB (stringToUtf16 text))).pushCell (stringAt Zs.cS Zs.kS Zs.fv Zs.fc (stringToUtf16 text) T'.heap.size)).pushCell (freshCell P1.m.cls kX)).heap[q]? = T'.heap[q]? := by
    intro q hq
    show (((T'.heap.push _).push _).push _)[q]? = _
    rw [Array.getElem?_push, if_neg (by simp only [Array.size_push]; omega), Array.getElem?_push, if_neg (by simp only [Array.size_push]; omega), Array.getElem?_push, if_neg (Nat.ne_of_lt hq)]
  rw [← withString_eq] at X3 hlow
  have X4 := X3.noted hW'
  have ha : (T'.heap.size + 2) < ((withThrown T' Zs text P1.m.cls kX).setVm vm').heap.size := by show _ < (withThrown T' Zs text P1.m.cls kX).heap.size; rw [w3]; omega
  have hcell : ((withThrown T' Zs text P1.m.cls kX).setVm vm').heap[(T'.heap.size + 2)]? = some (freshCell P1.m.cls kX) := w4
  have X5 := ((((X4.stored hcell T.fCause.slot (.ref (T'.heap.size + 2))).storedAgain ha T.fStack.slot u0.v).storedAgain ha T.fSupp.slot sen.v).storedAgain ha T.fStack.slot u0.v).storedAgain ha T.fMsg.slot (.ref (T'.heap.size + 1))
  have b1 : (bytesOf Zs.cB (stringToUtf16 text)).slots.size = (stringBytes (stringToUtf16 text)).size := by
    rw [(Cell.writeAll_facts _ _).2.2]; simp [bytes0]
  have b2 : (stringAt Zs.cS Zs.kS Zs.fv Zs.fc (stringToUtf16 text) T'.heap.size).slots.size = 4 := by simp [string0, Cell.setSlot, hn4]
  have b3 : (freshCell P1.m.cls kX).slots.size = 6 := by simp [hn6]
  rw [b1, b2, b3] at X5
  simp only [List.append_assoc, List.cons_append, List.nil_append] at X5
  rw [show slots + (stringBytes (stringToUtf16 text)).size + 4 + 6 = slots + ((stringBytes (stringToUtf16 text)).size + 4 + 6) by omega] at X5
  refine ⟨_, _, X5, ?_, ?_, ?_, ?_, ?_⟩
  · intro q hq
    simp only [List.mem_cons, List.not_mem_nil, or_false] at hq
    rcases hq with rfl | rfl | rfl | rfl | rfl <;> exact Nat.le_add_right _ _
  · intro target hwalk
    obtain ⟨g₁, hfrM⟩ := X5.frames_eq
    have hU : ((((withThrown T' Zs text P1.m.cls kX).setVm vm').setCell (T'.heap.size + 2) (plainBareV T.toThrowableT (freshCell P1.m.cls kX) (T'.heap.size + 2) u0 sen (.ref (T'.heap.size + 1)))).setTop g).pushFrame (.throwing (T'.heap.size + 2)) = (((withThrown T' Zs text P1.m.cls kX).setVm vm').setCell (T'.heap.size + 2) (plainBareV T.toThrowableT (freshCell P1.m.cls kX) (T'.heap.size + 2) u0 sen (.ref (T'.heap.size + 1)))).setFrames (.throwing (T'.heap.size + 2) :: .java g :: below) := by
      rw [State.pushFrame, State.frames_setTop _ hfrM, State.setTop_of_frames _ hfrM, State.setFrames_setFrames]
    refine xBeginS hA hF { Zs with kS := kS', kB := kB' } LZ' (cls := cls) (m := text) (cX := P1.m.cls) (kX := kX') (i := P1.m.idx) hsoe hoom (by rw [X.warmed.alike.findClass]; exact hfound) hk' (by rw [he']; exact hinit) (by rw [he']; exact hord) (Launch.admits_hotImplicitExceptions X.admits) hbf.1 hbf.2 htext (by rw [he']; exact hctor) hlimit hheap (X.cellsAbove hRcells) (by show T'.slotsUsed + _ + kS'.instanceTypes.size + kX'.instanceTypes.size ≤ _; rw [htyS, hty]; exact hslots) (by rw [hfs]; exact hfitv _) (by rw [hfs]; exact hfitc _) ?_
    rw [hsame]
    refine st target ?_
    refine xPastNative X5.here (F := .java g :: below) (mid := [.java g]) rfl (T'.heap.size + 2) nf hnl hna ?_
    rw [← hU]
    exact hwalk
  · show ((((withThrown T' Zs text P1.m.cls kX).setVm vm').setCell (T'.heap.size + 2) (plainBareV T.toThrowableT (freshCell P1.m.cls kX) (T'.heap.size + 2) u0 sen (.ref (T'.heap.size + 1))))).heap.size = _
    rw [xSetSize]
    exact w3
  · intro q hq
    show ((((withThrown T' Zs text P1.m.cls kX).setVm vm').setCell (T'.heap.size + 2) (plainBareV T.toThrowableT (freshCell P1.m.cls kX) (T'.heap.size + 2) u0 sen (.ref (T'.heap.size + 1))))).heap[q]? = _
    rw [heapAt_setCell_ne _ (show T'.heap.size + 2 ≠ q by omega)]
    exact hlow q hq
  · exact ⟨_, heapAt_setCell_self (s := (withThrown T' Zs text P1.m.cls kX).setVm vm') _ ha, hfound, rfl⟩
end XQ
