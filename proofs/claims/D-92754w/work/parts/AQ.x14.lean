/-! Exceptions that a native throws, 2: from the note to the constructor's call -/
section XN
theorem xBegin0 {tb : Tables} {e : Env} {below F mid : List Frame} {s target : State} {m0 : MethodId} {c : Code} (h : At s m0 c below) (hF : F = mid ++ below) {cls : String} {cX : ClassId} {kX : Class} {i : Nat}
    (hsoe : (cls == "java/lang/StackOverflowError") = false) (hoom : (cls == "java/lang/OutOfMemoryError") = false) (hfound : s.vm.findClass cls = some cX) (hk : s.vm.classes[cX]? = some kX) (hinit : kX.init = .initialized) (hord : kX.kind = .ordinary) (hhot : e.platform.hotImplicitExceptions = false)
    (hbeyond : e.platform.stackBeyond ((((s.setFrames (.throwNew cls none none :: F)).threads[s.cur]?).map (·.stackBytes)).getD 0) (s.setFrames (.throwNew cls none none :: F)).frames = false)
    (hfree : e.platform.vmThrowRoom ≤ e.platform.stackFree ((((s.setFrames (.throwNew cls none none :: F)).threads[s.cur]?).map (·.stackBytes)).getD 0) (s.setFrames (.throwNew cls none none :: F)).frames)
    (hctor : kX.findMethod "<init>" "()V" = some i) (hcells : s.heap.size + 1 ≤ e.platform.maxCells) (hslots : s.slotsUsed + kX.instanceTypes.size ≤ e.platform.maxSlots)
    (hrest : Steps tb e below (doInvoke e ((s.pushCell (freshCell cX kX)).setFrames (.thenThrow s.heap.size :: F)) [] ⟨cX, i⟩ #[.ref s.heap.size]).1 target) : Steps tb e below (s.setFrames (.throwNew cls none none :: F)) target := by
  obtain ⟨g₀, hg⟩ := Option.isSome_iff_exists.mp h.top
  obtain ⟨r, hr'⟩ := State.topJava?_eq_some.mp hg
  have hf0 : (s.setFrames (.throwNew cls none none :: F)).frames = .throwNew cls none none :: F := State.frames_setFrames _ (State.cur_lt_of_frames hr')
  refine Steps.head ⟨h.running, by simpa using h.runnable, by simpa using h.alone⟩ ⟨.throwNew cls none none :: mid, by rw [hf0, hF]; rfl, by simp, by simp⟩ ?_
  rw [stepThread_throwNew hf0, stepThrowNew_plain (s := s.setFrames (.throwNew cls none none :: F)) (c := cX) (k := kX) (i := i) hsoe hoom hfound hk hinit hord hhot hbeyond hfree hctor hcells hslots]
  rw [State.pushCell_setFrames, State.setFrames_setFrames]
  exact hrest
theorem xBeginS {tb : Tables} {e : Env} {below F mid : List Frame} {s target : State} {m0 : MethodId} {c : Code} (h : At s m0 c below) (hF : F = mid ++ below) (Z : StringT) (LZ : Z.Laid s.vm) {cls m : String} {cX : ClassId} {kX : Class} {i : Nat}
    (hsoe : (cls == "java/lang/StackOverflowError") = false) (hoom : (cls == "java/lang/OutOfMemoryError") = false) (hfound : s.vm.findClass cls = some cX) (hk : s.vm.classes[cX]? = some kX) (hinit : kX.init = .initialized) (hord : kX.kind = .ordinary) (hhot : e.platform.hotImplicitExceptions = false)
    (hbeyond : e.platform.stackBeyond ((((s.setFrames (.throwNew cls (some m) none :: F)).threads[s.cur]?).map (·.stackBytes)).getD 0) (s.setFrames (.throwNew cls (some m) none :: F)).frames = false)
    (hfree : e.platform.vmThrowRoom ≤ e.platform.stackFree ((((s.setFrames (.throwNew cls (some m) none :: F)).threads[s.cur]?).map (·.stackBytes)).getD 0) (s.setFrames (.throwNew cls (some m) none :: F)).frames)
    (hm : (m == notModelled) = false) (hctor : kX.findMethod "<init>" "(Ljava/lang/String;)V" = some i)
    (hlimit : ¬ (stringBytes (stringToUtf16 m)).size > e.platform.arrayLengthLimit) (hheap : ¬ (stringBytes (stringToUtf16 m)).size * componentBytes .byte > e.platform.maxHeapBytes)
    (hcells : s.heap.size + 3 ≤ e.platform.maxCells) (hslots : s.slotsUsed + (stringBytes (stringToUtf16 m)).size + Z.kS.instanceTypes.size + kX.instanceTypes.size ≤ e.platform.maxSlots)
    (hfitv : s.fitsSlot Z.cS .none Z.fv.slot (.ref s.heap.size) = true) (hfitc : s.fitsSlot Z.cS .none Z.fc.slot (.int (stringCoder (stringToUtf16 m))) = true)
    (hrest : Steps tb e below (doInvoke e ((withThrown s Z m cX kX).setFrames (.thenThrow (s.heap.size + 2) :: F)) [] ⟨cX, i⟩ #[.ref (s.heap.size + 2), .ref (s.heap.size + 1)]).1 target) : Steps tb e below (s.setFrames (.throwNew cls (some m) none :: F)) target := by
  obtain ⟨g₀, hg⟩ := Option.isSome_iff_exists.mp h.top
  obtain ⟨r, hr'⟩ := State.topJava?_eq_some.mp hg
  have hf0 : (s.setFrames (.throwNew cls (some m) none :: F)).frames = .throwNew cls (some m) none :: F := State.frames_setFrames _ (State.cur_lt_of_frames hr')
  refine Steps.head ⟨h.running, by simpa using h.runnable, by simpa using h.alone⟩ ⟨.throwNew cls (some m) none :: mid, by rw [hf0, hF]; rfl, by simp, by simp⟩ ?_
  rw [stepThread_throwNew hf0, stepThrowNew_message (s := s.setFrames (.throwNew cls (some m) none :: F)) (c := cX) (k := kX) (i := i) Z LZ hsoe hoom hfound hk hinit hord hhot hbeyond hfree hm hctor hlimit hheap hcells hslots hfitv hfitc]
  rw [withThrown_setFrames, State.setFrames_setFrames]
  exact hrest
end XN
