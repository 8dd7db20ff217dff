/-! Exceptions that a native throws, 7: System.arraycopy of null -/
section XS
theorem xCopyN {p : Program} {l : Launch} {e : Env} {R : Room} {s : State} {m : MethodId} {args : Array Value} {below : List Frame} {meth : Method} {c : Code} {T : State} {locs : List Loc} {cells slots : Nat} (X : Stand p l e R s m args below meth c T locs cells slots) (hexec : p.tables.exec = Jvm.exec) {own : String} {index : Nat} (hown : s.vm.findClass own = some m.cls)
    (hlink : (Cond.methodLink own index arraycopyName).before args s = true) (hnat : (Cond.native arraycopyName).before args s = true) (hstat : (Cond.static arraycopyName).before args s = true) (hinit : (Cond.initialized "java/lang/System").before args s = true)
    {src dst : Value} {srcPos destPos n : Int32} {cls : String} {msg : Option String}
    (hsem : ∀ (vm' : Vm) (fs : List Frame), s.WarmedH vm' → wpRun (Native.java_lang_System.arraycopy.sem #[src, .int srcPos, dst, .int destPos, .int n]) (fun _ _ _ => False) (fun x s₁ _ => x = .throwNew cls msg ∧ s₁ = (T.setVm vm').setFrames fs) e ((T.setVm vm').setFrames fs))
    (hsr : src.isRef = true) (hdr : dst.isRef = true)
    {g : JFrame} (hg : g.method = m) (hsize : g.locals.size = c.maxLocals) {rest : List Value} (hstack : g.stack = .int n :: .int destPos :: dst :: .int srcPos :: src :: rest)
    (hdg : decode c.code g.pc = .ok (.invokestatic index, 3)) (hframes : 1 ≤ R.frames) (hlocals : 2 * g.monitorRoom + (rest.map fun v => v.category).sum + (nativeFrameWords "java/lang/System" "arraycopy" 5 + 11) ≤ R.locals) :
    ∃ (vm' : Vm) (nf : NFrame), Stand p l e R s m args below meth c (T.setVm vm') locs cells slots ∧ s.WarmedH vm' ∧ (nf.words = 0 ∧ nf.locked = none ∧ nf.awaiting = false) ∧
      ∀ target, Steps p.tables e below ((T.setVm vm').setFrames (.throwNew cls msg none :: .native nf :: .java { g with stack := rest } :: below)) target → Steps p.tables e below (T.setTop g) target := by
  obtain ⟨r, kS, methS, hnS, hmS, hkS, N⟩ := NativeOf.of_static hnat hstat (ps := [.object "java/lang/Object", .int, .object "java/lang/Object", .int, .int]) (ret := none) (by decide +kernel)
  have hinitS : kS.init = .initialized := Cond.initialized_spec (findClass_of_methodNamed hnS) hkS hinit
  obtain ⟨vm', X', step⟩ := X.invokestatic hexec hown hlink hnS hmS N.static hkS hinitS (by decide) hg (argsL := [src, .int srcPos, dst, .int destPos, .int n]) (rest := rest) (by rw [N.sig]; rfl) hstack hdg
  obtain ⟨kS', N'⟩ := N.alike X'.warmed.alike
  have hseen : seenByNative methS #[src, .int srcPos, dst, .int destPos, .int n] = #[src, .int srcPos, dst, .int destPos, .int n] := by
    cases src <;> cases dst <;> first | (cases hsr; done) | (cases hdr; done) | simp [seenByNative, N.static, N.sig, narrow]
  refine ⟨vm', { method := r, args := seenByNative methS #[src, .int srcPos, dst, .int destPos, .int n], locked := none }, X', X'.warmed, ⟨rfl, rfl, rfl⟩, fun target hrest => step target fun acts => ?_⟩
  subst hg
  have hcat : operandWords [src, .int srcPos, dst, .int destPos, .int n] = 5 := by
    cases src <;> cases dst <;> first | (cases hsr; done) | (cases hdr; done) | rfl
  obtain ⟨g₀, hfr⟩ := X'.frames_eq
  refine xNatThrows (g := { g with stack := rest }) (k := kS') (meth := methS) (row := arraycopyRow) X'.here acts N'.cls N'.meth N'.boot N'.native N'.noCode N'.noLock (by rw [N'.className, N'.name, N'.desc]; exact arraycopy_row p) ?_ ?_ (by rw [X'.tail]; exact hrest)
  · rw [N'.className, N'.name]
    show e.platform.stackFull _ _ (nativeFrameWords "java/lang/System" "arraycopy" (operandWords [src, .int srcPos, dst, .int destPos, .int n])) = false
    rw [hcat]
    exact X'.notFull (g := { g with stack := rest }) hsize (vars := nativeFrameWords "java/lang/System" "arraycopy" 5) hframes hlocals
  · have hU : ((T.setVm vm').setTop { g with stack := rest }).pushFrame (.native { method := r, args := seenByNative methS #[src, .int srcPos, dst, .int destPos, .int n], locked := none }) = (T.setVm vm').setFrames (.native { method := r, args := seenByNative methS #[src, .int srcPos, dst, .int destPos, .int n], locked := none } :: .java { g with stack := rest } :: below) := by
      rw [State.pushFrame, State.frames_setTop _ hfr, State.setTop_of_frames _ hfr, State.setFrames_setFrames]
    rw [hU, arraycopyRow_sem]
    rw [show Native.java_lang_System.arraycopy.sem (seenByNative methS #[src, .int srcPos, dst, .int destPos, .int n]) = Native.java_lang_System.arraycopy.sem #[src, .int srcPos, dst, .int destPos, .int n] by rw [hseen]]
    exact hsem vm' _ X'.warmed
theorem xWpNull {e : Env} {s : State} (srcPos destPos len : Int32) {src dst : Value} (hsr : src.isRef = true) (hdr : dst.isRef = true) (h : src = .null ∨ dst = .null) :
    wpRun (Native.java_lang_System.arraycopy.sem #[src, .int srcPos, dst, .int destPos, .int len]) (fun _ _ _ => False) (fun x s₁ _ => x = .throwNew "java/lang/NullPointerException" none ∧ s₁ = s) e s := by
  have key : Native.java_lang_System.arraycopy.sem #[src, .int srcPos, dst, .int destPos, .int len] = (do Jvm.mark "nat.java_lang_System.arraycopy/null"; Jvm.throwNew "java/lang/NullPointerException") := by
    cases src <;> cases dst <;> first | (cases hsr; done) | (cases hdr; done) | rfl | (rcases h with h | h <;> cases h)
  rw [key]
  unfold wpRun
  simp
end XS
