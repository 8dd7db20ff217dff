/-! THE ABSTRACT LAYER, 9: a call that lands in an interface's default method -/
section
theorem gBackD {l : Launch} {R : Room} {p : Program} {e : Env} {below : List Frame} {s : State} {sargs : Array Value} {y : MethodName} {len Wd : Nat} {rm : Room} {Pc : Array Value → State → Prop} {Qc : Array Value → State → Outcome → State → Prop} {mc ms : Nat} {free : Addr → Prop} {cc : ByteArray} {maxL : Nat} {ret : Option FieldType}
    (hy : plainName y.cls = true)
    (body : ∀ (s' : State) (mk : MethodId) (a : Array Value) (below' : List Frame) (meth' : Method) (c' : Code), s'.methodNamed? y = some mk → s'.vm.method? mk = some meth' → c'.code = cc → c'.maxLocals = maxL → meth'.sig.returnType = ret → meth'.locks = false → Pc a s' → W p l e rm s' mk a below' meth' c' s'.heap [] 0 0 (MQ below' Qc a s' mc ms free) (entryFrame mk a maxL))
    (hblind : FrameBlind Pc) (hrc : rm.cells = mc) (hrs : rm.slots = ms) (hframes : rm.frames + 1 ≤ R.frames) (hlocals : Wd + (maxL + 11) + rm.locals ≤ R.locals)
    (hcode : ∀ (a' : Array Value) (U : State), s.WarmedH U.vm → (Cond.code y cc maxL ret).before a' U = true) :
    Back l R p e below s sargs y len Wd (PreOf R mc ms Pc) (PostOf Qc mc ms free) := by
  intro m meth c A g ig mk a X hg hsize hdg hW hn hp
  obtain ⟨U, Ls, c0, s0⟩ := A
  obtain ⟨h4, h5, hPc⟩ := hp
  dsimp only [Pt.U, Pt.locs, Pt.cells, Pt.slots] at h4 h5 hPc X hn ⊢
  obtain ⟨methY, cY, hmY, hcY, hbY, hlY, hrY, hkY, -, -⟩ := Cond.code_spec hn (hcode a U X.warmed)
  have h : At U g.method c below := by rw [hg]; exact X.here
  have hroom := X.room_calling (g := g) (R' := rm) (args' := a) hsize hmY hcY hframes (by rw [hlY]; omega) (by rw [hrc]; exact h4) (by rw [hrs]; exact h5)
  have hf : (U.calling g mk a).frames = .invoking mk a :: (U.setTop g).frames := by rw [State.frames_setTop' g h.top]; exact State.frames_calling h.top g mk a
  have hcode' : (U.calling g mk a).code? g.method = some c := by
    have := h.code
    rw [State.code?_eq] at this ⊢
    simpa [State.calling, State.pushFrame, State.setFrames] using this
  have hrun : (U.calling g mk a).status = .running := h.running
  have hable : (U.calling g mk a).curStatus? = some .runnable := by simpa [State.calling] using h.runnable
  have halone : (U.calling g mk a).alone = true := by simpa [State.calling] using h.alone
  have hhears : (U.calling g mk a).hears mk (U.setTop g).frames = true := by
    have hg1 := State.frames_setTop' g h.top
    rw [hg1]
    simp [State.hears, hcode', hdg, Except.toOption]
  have hmY' : (U.calling g mk a).vm.method? mk = some methY := hmY
  have hn' : (U.calling g mk a).methodNamed? y = some mk := hn
  have hcur := State.cur_lt_of_frames hf
  have hf1 : ((U.calling g mk a).setFrames (.java (entryFrame mk a maxL) :: (U.setTop g).frames)).frames = .java (entryFrame mk a maxL) :: (U.setTop g).frames := State.frames_setFrames _ hcur
  have ht1 := State.topJava?_of_frames hf1
  have hplain : ((U.calling g mk a).setFrames (.java (entryFrame mk a maxL) :: (U.setTop g).frames)).plainMethod mk := State.plainMethod.of_named (s := U.calling g mk a) (plainFor_of_name hy) hn' hmY'
  have hAt : At ((U.calling g mk a).setFrames (.java (entryFrame mk a maxL) :: (U.setTop g).frames)) mk cY (U.setTop g).frames :=
    ⟨by rw [ht1]; rfl, ⟨[], by rw [hf1]; rfl⟩, hrun, by simpa using hable, by simpa using halone, by rw [State.code?_eq]; simp [State.setFrames, hmY', hcY], hplain⟩
  obtain ⟨tt, htt, -⟩ := State.frames_cons hf
  have Y : Stand p l e rm (U.calling g mk a) mk a (U.setTop g).frames methY cY ((U.calling g mk a).setFrames (.java (entryFrame mk a maxL) :: (U.setTop g).frames)) [] 0 0 :=
    ⟨X.admits, X.cas, X.clock, hf, hroom, hhears, hmY', hcY, hAt, by rw [hf1]; rfl, State.WarmedH.refl _, by rw [State.stackLimits_setFrames], by rw [State.stackBytes_setFrames], (State.sameButNew.refl _ htt).setFrames _ hcur⟩
  obtain ⟨t, a1, ou, b1, b2, hq, L, hfe, hL⟩ := body (U.calling g mk a) mk a (U.setTop g).frames methY cY hn' hmY' hbY hlY hrY hkY (hblind _ _ _ _ hPc) ((U.calling g mk a).setFrames (.java (entryFrame mk a maxL) :: (U.setTop g).frames)) rfl Y
  have hstep : (stepThread p.tables e (U.calling g mk a)).1 = ((U.calling g mk a).setFrames (.java (entryFrame mk a maxL) :: (U.setTop g).frames)).setTop (entryFrame mk a maxL) := by
    have hfull : e.platform.stackFull ((U.calling g mk a).setFrames (U.setTop g).frames).me ((U.calling g mk a).setFrames (U.setTop g).frames).frames cY.maxLocals = false := by
      obtain ⟨-, r1, -, r2⟩ := State.hasRoom_stack hroom
      rw [hf, List.length_cons] at r1
      rw [State.localsInUse_invoking hf hmY' hcY] at r2
      have hw := stackUse_le_stackWeight (U.setTop g).frames
      rw [State.frames_setFrames _ hcur]
      exact Platform.stackFull_eq_false (by rw [State.stackLimits_setFrames]; omega) (by rw [State.stackLimits_setFrames]; omega)
    rw [stepThread_invoking hf, (doInvoke_java (s := (U.calling g mk a).setFrames (U.setTop g).frames) (e := e) (meth := methY) (code := cY) hmY' hcY hkY hfull).1, State.setTop_self ht1]
    simp only [State.pushFrame, State.frames_setFrames _ hcur, State.setFrames_setFrames, hlY, entryFrame]
  obtain ⟨n, hnn, hww⟩ := Steps.head (tb := p.tables) (e := e) ⟨hrun, hable, halone⟩ ⟨[.invoking mk a], hf, by simp, by simp⟩ (hstep ▸ a1)
  obtain ⟨mid, hmid⟩ := h.above
  have hfr : (U.setTop g).frames = (.java g :: mid) ++ below := by rw [State.frames_setTop' g h.top, hmid]; rfl
  have hsteps : Steps p.tables e below (doInvoke e (U.setTop g) [] mk a).1 t := by
    have hgo : (U.calling g mk a).goesOn := ⟨hrun, hable, halone⟩
    obtain ⟨ta, hta⟩ : ∃ ta, (U.setTop g).threads[(U.setTop g).cur]? = some ta := by
      obtain ⟨ta, hta, -⟩ := State.frames_cons (State.frames_setTop' g h.top)
      exact ⟨ta, hta⟩
    have hst2 : (stepThread p.tables e (U.calling g mk a)).1 = (doInvoke e (U.setTop g) [] mk a).1 := by
      rw [stepThread_invoking hf]
      show (doInvoke e (((U.setTop g).pushFrame (.invoking mk a)).setFrames (U.setTop g).frames) [] mk a).1 = _
      rw [State.pushFrame, State.setFrames_setFrames, State.setFrames_self hta]
    cases n with
    | zero =>
      have e0 : U.calling g mk a = t := hnn
      exact absurd ⟨[.invoking mk a], hf, by simp, by simp⟩ (e0 ▸ b2).not_within
    | succ k =>
      rw [stepsAlone_succ _ hgo, hst2] at hnn
      refine ⟨k, hnn, fun j hj => ?_⟩
      have h9 : Within (stepsAlone p.tables e (j + 1) (U.calling g mk a)) (U.setTop g).frames := hww (j + 1) (by omega)
      rw [stepsAlone_succ _ hgo, hst2, hfr] at h9
      exact h9.weaken
  have hend := b2
  rw [State.frames_setTop' g h.top] at hend
  obtain ⟨⟨v, rfl⟩, hW₂, e2, q2, q3, q4, q5, q6⟩ := id hfe
  have e3 : t = ({ (U.calling g mk a).setFrames t.frames with heap := t.heap, slotsUsed := t.slotsUsed } : State).setVm t.vm := by
    have e4 : t = ({ t with vm := (U.calling g mk a).vm } : State).setVm t.vm := rfl
    rw [e2] at e4
    exact e4
  obtain ⟨c₂, i₂, len₂, hc₂, hd₂, hf₂⟩ := hend
  have hW' : U.WarmedH t.vm := hW₂
  have hcc : c₂ = c := by
    have h1 : t.code? g.method = U.code? g.method := by rw [State.code?_eq, State.code?_eq, hW'.alike.method?]
    exact Option.some.inj (hc₂.symm.trans (h1.trans h.code))
  subst hcc
  have hlen : len₂ = len := by rw [hdg] at hd₂; cases hd₂; rfl
  subst hlen
  obtain ⟨g₀, hg0⟩ := Option.isSome_iff_exists.mp h.top
  obtain ⟨r, hr⟩ := State.topJava?_eq_some.mp hg0
  have hs₂ : t = (({ U with heap := t.heap, slotsUsed := t.slotsUsed } : State).setVm t.vm).setTop { g with pc := g.pc + len₂, stack := v.toList ++ g.stack } := by
    have hr' : (({ U with heap := t.heap, slotsUsed := t.slotsUsed } : State).setVm t.vm).frames = .java g₀ :: r := hr
    refine e3.trans ?_
    rw [hf₂, State.calling_eq h.top, State.setFrames_setFrames, State.setTop_of_frames _ hr', hr]
    rfl
  have hsame : U.sameButNew ({ U with heap := t.heap, slotsUsed := t.slotsUsed } : State) L mc ms := by
    refine ⟨?_, q2, q3, q4, q5, q6⟩
    obtain ⟨ta, hta, -⟩ := State.frames_cons hr
    show ({ U with heap := t.heap, slotsUsed := t.slotsUsed } : State) = { U.setFrames U.frames with heap := t.heap, slotsUsed := t.slotsUsed }
    rw [State.setFrames_self hta]
  subst hg
  refine ⟨v, ⟨(({ U with heap := t.heap, slotsUsed := t.slotsUsed } : State).setVm t.vm), Ls ++ L, c0 + mc, s0 + ms⟩,
    ⟨X.admits, X.cas, X.clock, X.frames, X.room, X.hears, X.method, X.code, (X.here.setHeapUsed t.heap t.slotsUsed).setVm hW'.alike, X.tail, State.WarmedH.trans X.warmed hW', X.limits, X.bytes, X.same.trans (hsame.setVm s.vm)⟩,
    ⟨g, mk, t, L, rfl, rfl, hq, rfl, hL, rfl, rfl⟩, ?_⟩
  show Steps p.tables e below _ ((({ U with heap := t.heap, slotsUsed := t.slotsUsed } : State).setVm t.vm).setTop { g with pc := g.pc + len₂, stack := v.toList ++ g.stack })
  rw [← hs₂]
  exact hsteps
end
