/-! Exceptions that a native throws, 1: the constructor's frame over the note, whatever frames F lie under the note -/
section XM
theorem xIn {below F mid : List Frame} {W : State} {m0 : MethodId} {c : Code} (hWat : At W m0 c below) (hF : F = mid ++ below) (fr : JFrame) {meth : Method} {code : Code}
    (hm : W.vm.method? fr.method = some meth) (hc : meth.code = some code) (hplain : W.plainMethod fr.method) :
    (W.setFrames F).frames = F ∧ At ((W.setFrames F).pushFrame (.java fr)) fr.method code below ∧ ((W.setFrames F).pushFrame (.java fr)).frames = .java fr :: F := by
  obtain ⟨g₀, hg⟩ := Option.isSome_iff_exists.mp hWat.top
  obtain ⟨r, hr'⟩ := State.topJava?_eq_some.mp hg
  have hcurW : W.cur < W.threads.size := State.cur_lt_of_frames hr'
  have hfN : (W.setFrames F).frames = F := State.frames_setFrames _ hcurW
  have hcurN : (W.setFrames F).cur < (W.setFrames F).threads.size := by
    unfold State.setFrames
    simpa using hcurW
  have hgoN : (W.setFrames F).goesOn := ⟨hWat.running, by simpa using hWat.runnable, by simpa using hWat.alone⟩
  refine ⟨hfN, At.pushOn _ hgoN hcurN ⟨mid, by rw [hfN, hF]⟩ hm hc hplain, ?_⟩
  rw [show ((W.setFrames F).pushFrame (.java fr)).frames = .java fr :: (W.setFrames F).frames from State.frames_setFrames _ hcurN, hfN]
/-- behind the constructor: the note, then the exception under way over F -/
theorem xThen {tb : Tables} {e : Env} {below F mid : List Frame} {W target : State} {m0 : MethodId} {c : Code} (hWat : At W m0 c below) (hF : F = mid ++ below) (a : Addr) (hrest : Steps tb e below (W.setFrames (.throwing a :: F)) target) : Steps tb e below (W.setFrames (.thenThrow a :: F)) target := by
  obtain ⟨g₀, hg⟩ := Option.isSome_iff_exists.mp hWat.top
  obtain ⟨r, hr'⟩ := State.topJava?_eq_some.mp hg
  have hcur : W.cur < W.threads.size := State.cur_lt_of_frames hr'
  have hf1 : (W.setFrames (.thenThrow a :: F)).frames = .thenThrow a :: F := State.frames_setFrames _ hcur
  refine Steps.head ⟨hWat.running, by simpa using hWat.runnable, by simpa using hWat.alone⟩ ⟨.thenThrow a :: mid, by rw [hf1, hF]; rfl, by simp, by simp⟩ ?_
  rw [stepThread_thenThrow hf1]
  show Steps tb e below ((W.setFrames (.thenThrow a :: F)).setFrames (.throwing a :: F)) target
  rw [State.setFrames_setFrames]
  exact hrest
/-- the exception under way passes a native's frame -/
theorem xPastNative {tb : Tables} {e : Env} {below F mid : List Frame} {W target : State} {m0 : MethodId} {c : Code} (hWat : At W m0 c below) (hF : F = mid ++ below) (a : Addr) (f : NFrame) (hl : f.locked = none) (hw : f.awaiting = false) (hrest : Steps tb e below (W.setFrames (.throwing a :: F)) target) : Steps tb e below (W.setFrames (.throwing a :: .native f :: F)) target := by
  obtain ⟨g₀, hg⟩ := Option.isSome_iff_exists.mp hWat.top
  obtain ⟨r, hr'⟩ := State.topJava?_eq_some.mp hg
  have hcur : W.cur < W.threads.size := State.cur_lt_of_frames hr'
  have hf1 : (W.setFrames (.throwing a :: .native f :: F)).frames = .throwing a :: .native f :: F := State.frames_setFrames _ hcur
  refine Steps.head ⟨hWat.running, by simpa using hWat.runnable, by simpa using hWat.alone⟩ ⟨.throwing a :: .native f :: mid, by rw [hf1, hF]; rfl, by simp, by simp⟩ ?_
  rw [stepThread_throwing hf1]
  have e1 : (stepThrowing e (W.setFrames (.throwing a :: .native f :: F)) a (.native f :: F)).1 = (W.setFrames (.throwing a :: .native f :: F)).setFrames (.throwing a :: F) := by
    simp only [stepThrowing, hw, Bool.false_eq_true, if_false, vmDo]
    generalize hr : Sem.go _ e false _ (W.setFrames (.throwing a :: .native f :: F)) = res
    obtain ⟨as, rfl, ha⟩ := Sem.eq_ok_of hr (a := true) (s' := W.setFrames (.throwing a :: .native f :: F)) (acts' := []) (by simp [hl, leaveIfLocked])
    rfl
  rw [e1, State.setFrames_setFrames]
  exact hrest
end XM
