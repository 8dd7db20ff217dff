/-! Exceptions that are caught, 10: throws whose making is told as a whole; a cast that fails -/
section XJ
def xMadeE (p : Program) (l : Launch) (e : Env) (R : Room) (s : State) (m : MethodId) (args : Array Value) (below : List Frame) (meth : Method) (c : Code) (T : State) (locs : List Loc) (cells slots : Nat) (g : JFrame) (start : State) (cls : String) (k n : Nat) : Prop :=
  ∃ (U : State) (L : List Loc), Stand p l e R s m args below meth c U (locs ++ L) (cells + k) (slots + n) ∧ (∀ q ∈ L, T.heap.size ≤ q.base) ∧
    (∀ target, Steps p.tables e below ((U.setTop g).pushFrame (.throwing (T.heap.size + (k - 1)))) target → Steps p.tables e below start target) ∧
    U.heap.size = T.heap.size + k ∧ (∀ q, q < T.heap.size → U.heap[q]? = T.heap[q]?) ∧ ∃ cell, U.heap[T.heap.size + (k - 1)]? = some cell ∧ s.vm.findClass cls = some cell.cls ∧ cell.vm = .none
variable {Γ : gC} {M : gI} {pc : Nat} {ls st : List gV} {v : gM} {h : gH} {t bc bs : Nat} {Q : gQ}
theorem Gx_throwE {cls : String} {k N hp bc' bs' : Nat} {st' : List gV} (hl : xLand M pc cls hp = true)
    (hall : ∀ (p : Program) (e : Env) (s : State) (m : MethodId) (args : Array Value) (below : List Frame) (meth : Method) (c : Code) (T : State) (locs : List Loc) (cells slots : Nat) (lsa : Array Slot), p.tables.exec = Jvm.exec → c.code = M.2.1 → c.maxLocals = M.2.2.1 → s.vm.findClass M.2.2.2.2.1 = some m.cls → (∀ w, xOk w = true → w.before args s = true) → gK Γ s → Stand p Γ.1 e M.2.2.2.2.2 s m args below meth c T locs cells slots → gR Γ v h t T.heap → gRs t st → (∀ x ∈ locs, gB Γ ≤ x.base) → (∀ (c : ClassId) (k : Class) (i : Nat) (f : Field) (a : Addr), s.fieldFound? Bundle.tN "UNASSIGNED_STACK" Bundle.steD = some (c, k, i, f) → k.statics = some a → a < gB Γ) → lsa.size = c.maxLocals → cells + k ≤ M.2.2.2.2.2.cells → slots + N ≤ M.2.2.2.2.2.slots →
      ∃ n, n ≤ N ∧ xMadeE p Γ.1 e M.2.2.2.2.2 s m args below meth c T locs cells slots (F0 m pc lsa (st'.map (gCv Γ))) (T.setTop (F0 m pc lsa (st.map (gCv Γ)))) cls k n)
    (hk : 1 ≤ k) (hb1 : bc' + k ≤ bc) (hb2 : N + bs' ≤ bs)
    (kk : Gx Γ M hp ls [(2, ((t + (k - 1) : Nat) : Int))] v h (t + k) bc' bs' Q) : Gx Γ M pc ls st v h t bc bs Q := by
  obtain ⟨hne, hcat, hf⟩ := xLand_ok hl
  intro p e R s m args below meth c Z Cx H locs cells slots lsa h1 h2 h3 h4 h5 h6 h7
  obtain ⟨hx, hb, hml, hown, hK, hbs, hRoom, hname, hX, hO⟩ := id Cx
  have hh := xHeap h1 h2 hbs
  have hws : ∀ w, xOk w = true → w.before args s = true := fun w hw => xHolds hK hh hw args
  intro T hT X
  subst hT
  subst hRoom
  obtain ⟨n, hn, U, L, XU, hL, hst, hz, ho, cell, hcell, hcls, hvm⟩ := hall p e s m args below meth c T locs cells slots lsa hx hb hml hown hws hK X h1 h7 h2.2.2 (xStB hK hh) (h5.1.trans hml.symm) (by omega) (by omega)
  have hB : gB Γ ≤ T.heap.size := by rw [h1.1]; omega
  obtain ⟨vm', XV, hcat2⟩ := xCatchAt XU (own := M.2.2.2.2.1) (tab := gTab M.2.2.2.2.2.slots) (fits := xFits cls) (pc := hp) (g := F0 m pc lsa (st'.map (gCv Γ))) rfl hown (hX hne) hcell (fun k hk => by rw [hvm] at hk; cases hk) (Vm.classAt_of_findClass hcls) (fun x hxm hxc => by
    have hq := List.all_eq_true.mp hcat x hxm
    rw [show xCv pc x = true from hxc] at hq
    simp only [Bool.not_true, Bool.false_or, Bool.and_eq_true, decide_eq_true_eq] at hq
    obtain ⟨q0, q1, q2⟩ := hq
    refine ⟨q0, xNm x.2.2.2, ?_⟩
    cases hfit : xFits cls x.2.2.2 with
    | true =>
      rw [hfit, cond_true] at q2
      obtain ⟨cB, e1, e2⟩ := xCast (hws _ q2) hcls
      exact ⟨cB, hws _ q1, e1, e2⟩
    | false =>
      rw [hfit, cond_false] at q2
      obtain ⟨cB, e1, e2⟩ := xNCast (hws _ q2) hcls
      exact ⟨cB, hws _ q1, e1, e2⟩) hf
  have hk2 := kk p e M.2.2.2.2.2 s m args below meth c Z Cx U.heap (locs ++ L) (cells + k) (slots + n) lsa (gR_more h1 hz ho) (gS_more h2 hB hz ho hL) (by omega) (by omega) h5 (gRs_mono (by omega) h6) ⟨⟨by omega, by omega⟩, trivial⟩
  obtain ⟨t2, a1, b1⟩ := hk2 (U.setVm vm') rfl XV
  have e9 : gCv Γ (2, ((t + (k - 1) : Nat) : Int)) = .ref (T.heap.size + (k - 1)) := by
    show gRv _ _ = _
    rw [gRv_ref (by omega), h1.1, Int.toNat_natCast, Nat.add_assoc]
  rw [List.map_cons, List.map_nil, e9] at a1
  exact ⟨t2, hst _ (hcat2 _ a1), b1⟩
/-- a cast that fails -/
theorem xCastNo {p : Program} {l : Launch} {e : Env} {R : Room} {s : State} {m : MethodId} {args : Array Value} {below : List Frame} {meth : Method} {c : Code} {T : State} {locs : List Loc} {cells slots : Nat} (X : Stand p l e R s m args below meth c T locs cells slots) (hexec : p.tables.exec = Jvm.exec)
    {own name : String} {index : Nat} (hown : s.vm.findClass own = some m.cls) (hlink : (Cond.classLink own index name).before args s = true)
    {a : Addr} {cell : Cell} {cT : ClassId} {ks : Class} (hcell : T.heap[a]? = some cell) (hobj : ∀ k, cell.vm ≠ .statics k) (hks : s.vm.classes[cell.cls]? = some ks)
    (hcT : s.vm.findClass name = some cT) (hasg : s.vm.assignable cell.cls cT = false)
    {g : JFrame} (hg : g.method = m) {rest : List Value} (hstack : g.stack = .ref a :: rest) (hdg : decode c.code g.pc = .ok (.checkcast index, 3)) :
    ∃ vm' ks' kt', Stand p l e R s m args below meth c (T.setVm vm') locs cells slots ∧ s.WarmedH vm' ∧ vm'.classes[cell.cls]? = some ks' ∧ vm'.classes[cT]? = some kt' ∧
      ∀ target, Steps p.tables e below (((T.setVm vm').setTop g).pushFrame (.throwNew "java/lang/ClassCastException" (some (Op.checkcast.message vm' ks' kt')) none)) target → Steps p.tables e below (T.setTop g) target := by
  have hpl : e.platform.magicAccessors = ({} : Platform).magicAccessors := by rw [X.admits.platform]
  obtain ⟨c', hc', hcl⟩ := Cond.classLink_spec hown hlink e.platform hpl
  cases hcT.symm.trans hc'
  obtain ⟨dk, _, _, kt, hd, _, _, _, _, hkt, _, hopen⟩ := hcl.here
  have hcl₀ := X.warmed.classLinks hcl
  have hW' : s.WarmedH (T.vm.noted m.cls index (.cls cT)) := X.warmed.noted hd hopen (State.rightAt_cls hcl)
  obtain ⟨ks', hks', -⟩ := hW'.alike.2.2 _ _ hks
  obtain ⟨kt', hkt', -⟩ := hW'.alike.2.2 _ _ hkt
  refine ⟨_, ks', kt', X.noted hW', hW', hks', hkt', fun target hrest => ?_⟩
  subst hg
  jvm_step X.here [hexec, hdg, Op.checkcast.wp_cold (e := e) (s := T) (f := g) X.here.top hstack (resolveClass_links e.toSetting hcl₀) hcl₀.ready,
    Op.checkcast.wp_ready (e := e) (s := T.setVm (T.vm.noted g.method.cls index (.cls cT))) (f := g) X.here.top hcl₀.ready hstack]
  refine ⟨cell, hcell, hobj, ks', hks', kt', hkt', ?_⟩
  rw [if_neg (by rw [hW'.alike.assignable, hasg]; decide)]
  exact hrest
end XJ
