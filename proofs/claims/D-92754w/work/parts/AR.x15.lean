/-! Exceptions that a native throws, 3: the constructor, whatever frames F lie under the note (printed by gx15.py) -/
section XO
theorem xCtor0 {p : Program} {e : Env} {below F mid : List Frame} {s₀ W : State} {m0 : MethodId} {c : Code} (hWat : At W m0 c below) (hF : F = mid ++ below) (hexec : p.tables.exec = Jvm.exec) {H : State → State} (hH : HeapOnly H) (P1 : PassC) (L1 : P1.Links0 e.platform s₀) (hW : s₀.WarmedH W.vm) (a : Addr)
    (hroom : e.platform.stackFull (((W.setFrames (.thenThrow a :: F)).threads[(W.setFrames (.thenThrow a :: F)).cur]?).getD { frames := [] }) (W.setFrames (.thenThrow a :: F)).frames 1 = false)
    (hsup : ∀ vm1, s₀.WarmedH vm1 → At (((W.setVm vm1).setFrames (.thenThrow a :: F)).pushFrame (.java (pass0J P1.m a 0 []))) P1.m P1.code below → ∃ vm2, s₀.WarmedH vm2 ∧ ∀ t' : State,
      Steps p.tables e below ((H (((W.setVm vm2).setFrames (.thenThrow a :: F)).pushFrame (.java (pass0J P1.m a 0 [])))).setTop (pass0J P1.m a 4 [])) t' →
      Steps p.tables e below (doInvoke e ((((W.setVm vm1).setFrames (.thenThrow a :: F)).pushFrame (.java (pass0J P1.m a 0 []))).setTop (pass0J P1.m a 1 [])) [] P1.sup #[.ref a]).1 t') :
    ∃ vm', s₀.WarmedH vm' ∧ ∀ target, Steps p.tables e below ((H (W.setVm vm')).setFrames (.throwing a :: F)) target → Steps p.tables e below (doInvoke e (W.setFrames (.thenThrow a :: F)) [] P1.m #[.ref a]).1 target := by
  have hF2 : (.thenThrow a :: F : List Frame) = (.thenThrow a :: mid) ++ below := by rw [hF]; rfl
  have hmW := hW.methodAt L1.method
  obtain ⟨hfN, hI, hfI⟩ := xIn hWat hF2 (pass0J P1.m a 0 []) hmW L1.code (hW.plainAt L1.plain)
  obtain ⟨vm1, hW1, st1⟩ := Steps.invokeInitCold (tb := p.tables) (s₀ := s₀) (U := ((W.setFrames (.thenThrow a :: F)).pushFrame (.java (pass0J P1.m a 0 [])))) (f := pass0J P1.m a 1 [.ref a]) (args := []) (rest := []) (a := a) hI hexec L1.at1 hW L1.links L1.right L1.notHandle L1.cls L1.file L1.pool L1.supClass L1.supMethod L1.supName L1.supStatic L1.supAbstract L1.supFound L1.supParams.symm rfl
  obtain ⟨vm2, hW2, st2⟩ := hsup vm1 hW1 (hI.setVm (hW.alike.symm.trans hW1.alike))
  refine ⟨vm2, hW2, fun target hrest => ?_⟩
  rw [(doInvoke_java (s := (W.setFrames (.thenThrow a :: F))) (e := e) (acts := []) (args := #[.ref a]) (meth := P1.meth) (code := P1.code) hmW L1.code L1.locks (by rw [L1.locals]; exact hroom)).1, L1.locals]
  show Steps p.tables e below ((W.setFrames (.thenThrow a :: F)).pushFrame (.java (pass0J P1.m a 0 []))) target
  rw [← State.setTop_self (s := ((W.setFrames (.thenThrow a :: F)).pushFrame (.java (pass0J P1.m a 0 [])))) (State.topJava?_of_frames hfI)]
  jvm_step hI [hexec, L1.at0, Value.isRef]
  refine st1 target (st2 target ?_)
  have hWv : At (W.setVm vm2) m0 c below := hWat.setVm (hW.alike.symm.trans hW2.alike)
  obtain ⟨hfN2, hI2, hfI2⟩ := xIn hWv hF2 (pass0J P1.m a 0 []) (hW2.methodAt L1.method) L1.code (hW2.plainAt (U := W.setVm vm2) L1.plain)
  have hB : At (H (((W.setVm vm2).setFrames (.thenThrow a :: F)).pushFrame (.java (pass0J P1.m a 0 [])))) P1.m P1.code below := hH.at_ hI2
  jvm_step hB [hexec, L1.at4, Op.return_.wp_sem]
  intro acts2
  have hfH : (H (((W.setVm vm2).setFrames (.thenThrow a :: F)).pushFrame (.java (pass0J P1.m a 0 [])))).frames = .java (pass0J P1.m a 0 []) :: .thenThrow a :: F := by rw [hH.frames]; exact hfI2
  rw [ret_to (t := H (((W.setVm vm2).setFrames (.thenThrow a :: F)).pushFrame (.java (pass0J P1.m a 0 [])))) (f := pass0J P1.m a 4 []) (f₀ := pass0J P1.m a 0 []) (below := .thenThrow a :: F) (fs := .thenThrow a :: F) (meth := P1.meth) hfH (by rw [hH.vm]; exact hW2.methodAt L1.method) L1.locks rfl rfl rfl acts2]
  have hHI : (H (((W.setVm vm2).setFrames (.thenThrow a :: F)).pushFrame (.java (pass0J P1.m a 0 [])))).setFrames (.thenThrow a :: F) = (H (W.setVm vm2)).setFrames (.thenThrow a :: F) := by
    rw [State.pushFrame, hH.setFrames, hH.setFrames, State.setFrames_setFrames, State.setFrames_setFrames]
  rw [hHI]
  exact xThen (hH.at_ hWv) hF a hrest
theorem xCtorS {p : Program} {e : Env} {below F mid : List Frame} {s₀ W : State} {m0 : MethodId} {c : Code} (hWat : At W m0 c below) (hF : F = mid ++ below) (hexec : p.tables.exec = Jvm.exec) {H : State → State} (hH : HeapOnly H) (P1 : PassC) (L1 : P1.LinksS e.platform s₀) (hW : s₀.WarmedH W.vm) (a str : Addr)
    (hroom : e.platform.stackFull (((W.setFrames (.thenThrow a :: F)).threads[(W.setFrames (.thenThrow a :: F)).cur]?).getD { frames := [] }) (W.setFrames (.thenThrow a :: F)).frames 2 = false)
    (hsup : ∀ vm1, s₀.WarmedH vm1 → At (((W.setVm vm1).setFrames (.thenThrow a :: F)).pushFrame (.java (passJ P1.m a (.ref str) 0 []))) P1.m P1.code below → ∃ vm2, s₀.WarmedH vm2 ∧ ∀ t' : State,
      Steps p.tables e below ((H (((W.setVm vm2).setFrames (.thenThrow a :: F)).pushFrame (.java (passJ P1.m a (.ref str) 0 [])))).setTop (passJ P1.m a (.ref str) 5 [])) t' →
      Steps p.tables e below (doInvoke e ((((W.setVm vm1).setFrames (.thenThrow a :: F)).pushFrame (.java (passJ P1.m a (.ref str) 0 []))).setTop (passJ P1.m a (.ref str) 2 [])) [] P1.sup #[.ref a, .ref str]).1 t') :
    ∃ vm', s₀.WarmedH vm' ∧ ∀ target, Steps p.tables e below ((H (W.setVm vm')).setFrames (.throwing a :: F)) target → Steps p.tables e below (doInvoke e (W.setFrames (.thenThrow a :: F)) [] P1.m #[.ref a, .ref str]).1 target := by
  have hF2 : (.thenThrow a :: F : List Frame) = (.thenThrow a :: mid) ++ below := by rw [hF]; rfl
  have hmW := hW.methodAt L1.method
  obtain ⟨hfN, hI, hfI⟩ := xIn hWat hF2 (passJ P1.m a (.ref str) 0 []) hmW L1.code (hW.plainAt L1.plain)
  obtain ⟨vm1, hW1, st1⟩ := Steps.invokeInitCold (tb := p.tables) (s₀ := s₀) (U := ((W.setFrames (.thenThrow a :: F)).pushFrame (.java (passJ P1.m a (.ref str) 0 [])))) (f := passJ P1.m a (.ref str) 2 [.ref str, .ref a]) (args := [.ref str]) (rest := []) (a := a) hI hexec L1.at2 hW L1.links L1.right L1.notHandle L1.cls L1.file L1.pool L1.supClass L1.supMethod L1.supName L1.supStatic L1.supAbstract L1.supFound L1.supParams.symm rfl
  obtain ⟨vm2, hW2, st2⟩ := hsup vm1 hW1 (hI.setVm (hW.alike.symm.trans hW1.alike))
  refine ⟨vm2, hW2, fun target hrest => ?_⟩
  rw [(doInvoke_java (s := (W.setFrames (.thenThrow a :: F))) (e := e) (acts := []) (args := #[.ref a, .ref str]) (meth := P1.meth) (code := P1.code) hmW L1.code L1.locks (by rw [L1.locals]; exact hroom)).1, L1.locals]
  show Steps p.tables e below ((W.setFrames (.thenThrow a :: F)).pushFrame (.java (passJ P1.m a (.ref str) 0 []))) target
  rw [← State.setTop_self (s := ((W.setFrames (.thenThrow a :: F)).pushFrame (.java (passJ P1.m a (.ref str) 0 [])))) (State.topJava?_of_frames hfI)]
  jvm_step hI [hexec, L1.at0, Value.isRef]
  jvm_step hI [hexec, L1.at1, Value.isRef]
  refine st1 target (st2 target ?_)
  have hWv : At (W.setVm vm2) m0 c below := hWat.setVm (hW.alike.symm.trans hW2.alike)
  obtain ⟨hfN2, hI2, hfI2⟩ := xIn hWv hF2 (passJ P1.m a (.ref str) 0 []) (hW2.methodAt L1.method) L1.code (hW2.plainAt (U := W.setVm vm2) L1.plain)
  have hB : At (H (((W.setVm vm2).setFrames (.thenThrow a :: F)).pushFrame (.java (passJ P1.m a (.ref str) 0 [])))) P1.m P1.code below := hH.at_ hI2
  jvm_step hB [hexec, L1.at5, Op.return_.wp_sem]
  intro acts2
  have hfH : (H (((W.setVm vm2).setFrames (.thenThrow a :: F)).pushFrame (.java (passJ P1.m a (.ref str) 0 [])))).frames = .java (passJ P1.m a (.ref str) 0 []) :: .thenThrow a :: F := by rw [hH.frames]; exact hfI2
  rw [ret_to (t := H (((W.setVm vm2).setFrames (.thenThrow a :: F)).pushFrame (.java (passJ P1.m a (.ref str) 0 [])))) (f := passJ P1.m a (.ref str) 5 []) (f₀ := passJ P1.m a (.ref str) 0 []) (below := .thenThrow a :: F) (fs := .thenThrow a :: F) (meth := P1.meth) hfH (by rw [hH.vm]; exact hW2.methodAt L1.method) L1.locks rfl rfl rfl acts2]
  have hHI : (H (((W.setVm vm2).setFrames (.thenThrow a :: F)).pushFrame (.java (passJ P1.m a (.ref str) 0 [])))).setFrames (.thenThrow a :: F) = (H (W.setVm vm2)).setFrames (.thenThrow a :: F) := by
    rw [State.pushFrame, hH.setFrames, hH.setFrames, State.setFrames_setFrames, State.setFrames_setFrames]
  rw [hHI]
  exact xThen (hH.at_ hWv) hF a hrest
end XO
