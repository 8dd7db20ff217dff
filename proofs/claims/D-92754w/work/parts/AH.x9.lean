/-! Methods with handlers: their contracts, and calls of them -/
section XI
theorem xCallV {p : Program} {l : Launch} {e : Env} {R : Room} {s : State} {m : MethodId} {args : Array Value} {below : List Frame} {meth : Method} {c : Code} {T : State} {locs : List Loc} {cells slots : Nat} (X : Stand p l e R s m args below meth c T locs cells slots) (hexec : p.tables.exec = Jvm.exec) {own C : String} {index : Nat} {y : MethodName} {bytes : ByteArray} {maxL : Nat} {ret : Option FieldType} {hh : List (Nat × Nat × Nat × Nat)}
    (hown : s.vm.findClass own = some m.cls) (hlink : (Cond.methodLink own index y).before args s = true) (hinst : (Cond.instanceMethod y).before args s = true) (hsel : (Cond.selects C y y).before args s = true)
    (hcode : (Cond.codeWith y bytes maxL ret hh).before args s = true) (hy : y.cls ≠ "java/lang/invoke/MethodHandle" ∧ y.cls ≠ "java/lang/invoke/VarHandle")
    {W : Nat} {Pre : Pt → Array Value → Prop} {Post : Pt → Array Value → Option Value → Pt → Prop} (hK : Back l R p e below s args y 3 W Pre Post)
    {b : Addr} {cellB : Cell} (hcell : T.heap[b]? = some cellB) (hobj : cellB.vm.isStatics = false) (hcls : s.vm.findClass C = some cellB.cls)
    {g : JFrame} (hg : g.method = m) (hsize : g.locals.size = c.maxLocals) {argsL rest : List Value} (hlen : ∀ sig, parseMethodDescriptor y.desc = some sig → argsL.length = sig.parameters.length)
    (hstack : g.stack = argsL.reverse ++ .ref b :: rest) (hW : 2 * g.monitorRoom + (rest.map fun v => v.category).sum ≤ W) (hdg : decode c.code g.pc = .ok (.invokevirtual index, 3))
    (hpre : ∀ vm₁, s.WarmedH vm₁ → Pre ⟨T.setVm vm₁, locs, cells, slots⟩ (Value.ref b :: argsL).toArray) :
    ∃ (v : Option Value) (vm₁ : Vm) (B : Pt), s.WarmedH vm₁ ∧ Stand p l e R s m args below meth c B.U B.locs B.cells B.slots ∧ Post ⟨T.setVm vm₁, locs, cells, slots⟩ (Value.ref b :: argsL).toArray v B ∧
      ∀ target, Steps p.tables e below (B.U.setTop { g with pc := g.pc + 3, stack := v.toList ++ rest }) target → Steps p.tables e below (T.setTop g) target := by
  obtain ⟨mk, methM, hnamed, hmethM, hstM, habM⟩ := Cond.instanceMethod_spec hinst
  obtain ⟨m9, methM', cM, hn9, hmethM', -, -, -, -, -, -, hsigM⟩ := Cond.codeWith_spec hcode
  cases hnamed.symm.trans hn9
  cases hmethM.symm.trans hmethM'
  obtain ⟨c2, r2, m2, q1, q2, q3, q4, kP, hkP, hkPi⟩ := Cond.selects_spec hsel
  cases hcls.symm.trans q1
  cases (State.methodFound?_of_named hnamed hy).symm.trans q2
  cases hnamed.symm.trans q3
  have hselP : selectMethod e.platform s.vm cellB.cls mk = .method mk := by rw [Launch.admits_selectMethod X.admits]; exact q4
  obtain ⟨vm₁, X₁, hstep₁⟩ := X.invokevirtual hexec hown hlink hnamed hmethM hstM hkP hkPi hy (a := b) (cell := cellB) hcell
    (fun z h => by rw [h] at hobj; cases hobj) hselP hmethM habM hkP hkPi (g := g) hg (argsL := argsL) (rest := rest) (hlen _ hsigM) hstack hdg
  obtain ⟨v, B, X', hpost, hsteps⟩ := hK m meth c ⟨T.setVm vm₁, locs, cells, slots⟩ { g with stack := rest } (.invokevirtual index) mk (Value.ref b :: argsL).toArray X₁ hg hsize hdg hW (X₁.named hnamed) (hpre vm₁ X₁.warmed)
  exact ⟨v, vm₁, B, X₁.warmed, X', hpost, fun target h => hstep₁ _ fun acts => by rw [doInvoke_state]; exact hsteps.trans h⟩
variable {Γ : gC} {M : gI} {pc : Nat} {ls st : List gV} {v : gM} {h : gH} {t bc bs : Nat} {Q : gQ}
/-- a contract of a method with handlers -/
def CtrW (Γ : gC) (M : gI) (args : List gV) (v : gM) (h : gH) (t : Nat) (Q : gQ) : Prop :=
  Met Γ.1 M.1 (wsW_ M.1 M.2.1 M.2.2.1 M.2.2.2.1 (gTab M.2.2.2.2.2.slots)) M.2.2.2.2.2 (va_Pc (args.map (gCv Γ)) (fun U => gR Γ v h t U.heap ∧ gK Γ U ∧ gRs t args))
    (fun _ st oc u => (∃ (r : gV) (v' : gM) (h' : gH) (t' : Nat), oc = .returned (if r.1 = 9 then none else some (gCv Γ r)) ∧ (r.1 = 9 ↔ M.2.2.2.1 = none) ∧ Q r v' h' t' ∧ gRa t' r ∧ gR Γ v' h' t' u.heap) ∧ va_F (fun q => gB Γ ≤ q) st u) M.2.2.2.2.2.cells M.2.2.2.2.2.slots (fun q => gB Γ ≤ q)
theorem CtrW.ofG {args ls : List gV} (hy : plainName M.1.cls = true) (hown : M.2.2.2.2.1 = M.1.cls) (hk : args.all (fun a => decide (a.1 < 4)) = true) (hsz : (gLsz args).ble M.2.2.1 = true) (hls : gEnt args M.2.2.1 = ls) (k : Gx Γ M 0 ls [] v h t M.2.2.2.2.2.cells M.2.2.2.2.2.slots Q) : CtrW Γ M args v h t Q := by
  refine va_MetW (cc := M.2.1) (maxL := M.2.2.1) (ret := M.2.2.2.1) (hh := gTab M.2.2.2.2.2.slots) hy rfl ?_
  intro p e s m args0 below meth c s₁ B hml hv
  obtain ⟨m9, meth9, c9, hn9, w1, w2, -, -, w3, -⟩ := Cond.codeWith_spec (atoms_spec (ws := wsW_ M.1 M.2.1 M.2.2.1 M.2.2.2.1 (gTab M.2.2.2.2.2.slots)) B.pre _ List.mem_cons_self)
  have hcc : c9 = c := by
    cases B.named.symm.trans hn9
    cases B.method.symm.trans w1
    exact Option.some.inj (w2.symm.trans (Stand.of_body B).code)
  subst hcc
  obtain ⟨rfl, hR, hK, hrs⟩ := hv
  have hl := lv_entry (args.map (gCv Γ)) (n := M.2.2.1) (by rw [gLsz_len]; exact Nat.le_of_ble_eq_true hsz)
  rw [lg_entry_eq]
  generalize (lg_sl (args.map (gCv Γ)) ++ List.replicate (M.2.2.1 - (lg_sl (args.map (gCv Γ))).length) Slot.unset).toArray = lsa at hl ⊢
  have hbs : gB Γ ≤ s.heap.size := by rw [hR.1]; omega
  have hk4 : ∀ a ∈ args, a.1 < 4 := fun a ha => of_decide_eq_true (List.all_eq_true.mp hk a ha)
  subst hls
  exact k p e M.2.2.2.2.2 s m _ below meth c9 _ ⟨B.exec, B.bytes, hml, by rw [hown]; exact findClass_of_methodNamed B.named, hK, hbs, rfl, (name_of_methodNamed B.named B.method).1, fun _ => w3, gOut_of B.exec B.bytes B.returns B.notSynchronized⟩ s.heap [] 0 0 lsa hR va_S.rf (by omega) (by omega)
    ⟨hl.1, hl.2.1, fun q hq => hl.2.2 q (gEnt_lv args _ 0 q hk4 hq)⟩ (gEnt_rs args _ hrs) trivial
theorem Gx_callVW {M' : gI} {idx k n0 bc' bs' : Nat} {a n : Int} {As st0 : List gV} {C own : String} {T : u_T} {N : Nat} {tab : List (Nat × Nat × Nat × Nat)} (hst0 : As.reverse ++ (2, a) :: st = st0) (hn0 : As.length = n0) (d : decode M.2.1 pc = .ok (.invokevirtual idx, 3)) (ho : own = M.2.2.2.2.1) (hh : h a = (k, n)) (hk : gO k = true) (hr : gCl[gCi k]? = some (C, T, N)) (q1 : Cond.methodLink own idx M'.1 ∈ lw_all) (q2 : Cond.instanceMethod M'.1 ∈ lw_all) (q3 : Cond.selects C M'.1 M'.1 ∈ lw_all) (q4 : Cond.initialized C ∈ lw_all) (htab : gTab M'.2.2.2.2.2.slots = tab) (q5 : Cond.codeWith M'.1 M'.2.1 M'.2.2.1 M'.2.2.2.1 tab ∈ lw_all) (hd : M'.1.cls = C ∧ M'.1.cls ≠ "java/lang/invoke/MethodHandle" ∧ M'.1.cls ≠ "java/lang/invoke/VarHandle" ∧ (parseMethodDescriptor M'.1.desc).map (fun d => d.parameters.length) = some n0) (hrm : M'.2.2.2.2.2.frames + 1 ≤ M.2.2.2.2.2.frames ∧ 8 + (M'.2.2.1 + 11) + M'.2.2.2.2.2.locals ≤ M.2.2.2.2.2.locals) (hcs : (gCs st).ble 8 = true) (hb1 : M'.2.2.2.2.2.cells + bc' ≤ bc) (hb2 : M'.2.2.2.2.2.slots + bs' ≤ bs) (kk : CtrW Γ M' ((2, a) :: As) v h t (fun r v' h' t' => Gx Γ M (pc + 3) ls (if M'.2.2.2.1 = none then st else r :: st) v' h' t' bc' bs' Q)) : Gx Γ M pc ls st0 v h t bc bs Q := by
  subst htab
  intro p e R s m args below meth c Z Cx H locs cells slots lsa h1 h2 h3 h4 h5 h6 h7
  obtain ⟨hrA, hrB⟩ := gRs_app (by rw [← hst0] at h7; exact h7 : gRs t (As.reverse ++ (2, a) :: st))
  have hrAs := gRs_rev hrA
  have hrst := hrB.2
  have ha := gR_in h1 hh (by rintro rfl; revert hk; decide)
  have hA := h1.2.2.2 a ha.1 ha.2
  unfold gAt at hA
  rw [hh] at hA
  obtain ⟨r', e1, e2, -⟩ := hA.1 hk
  have : r' = (C, T, N) := Option.some.inj (e1.symm.trans hr)
  subst this
  obtain ⟨cell, z1, z2, z3, -⟩ := e2
  have hK := Cx.2.2.2.2.1
  have hts := hK.hts args
  have hcls := (hK.1.1 (gCi k) _ hr).2.1
  have hstk : st0.map (gCv Γ) = (As.map (gCv Γ)).reverse ++ .ref (gB Γ + a.toNat) :: st.map (gCv Γ) := by
    rw [← hst0, List.map_append, List.map_reverse, List.map_cons]
    show _ ++ gRv _ _ :: _ = _
    rw [gRv_ref ha.1]
  have hargs : ((2, a) :: As).map (gCv Γ) = Value.ref (gB Γ + a.toNat) :: As.map (gCv Γ) := by
    rw [List.map_cons]
    show gRv _ _ :: _ = _
    rw [gRv_ref ha.1]
  refine gCall_run (M' := M') (Q' := fun r v' h' t' => Gx Γ M (pc + 3) ls (if M'.2.2.2.1 = none then st else r :: st) v' h' t' bc' bs' Q) (rest := st.map (gCv Γ)) ?_ h2 (fun r v' h' t' H1 locs1 hk9 hq hra hR hz hS => ?_)
  · have hrm := hrm
    rw [← Cx.2.2.2.2.2.2.1] at hrm
    have hW : 2 * (F0 m pc lsa (st0.map (gCv Γ))).monitorRoom + ((st.map (gCv Γ)).map fun v => v.category).sum ≤ 8 := lv_room (by rw [gCs_sum]; exact Nat.le_of_ble_eq_true hcs)
    have hini : (Cond.initialized M'.1.cls).before args s = true := by rw [hd.1]; exact hts _ q4
    have hBk : Back Γ.1 R p e below s args M'.1 3 8 (PreOf R M'.2.2.2.2.2.cells M'.2.2.2.2.2.slots (va_Pc (((2, a) :: As).map (gCv Γ)) (fun U => gR Γ v h t U.heap ∧ gK Γ U ∧ gRs t ((2, a) :: As)))) (PostOf (fun _ st oc u => gPost Γ M' (fun r v' h' t' => Gx Γ M (pc + 3) ls (if M'.2.2.2.1 = none then st0.drop (n0 + 1) else r :: st0.drop (n0 + 1)) v' h' t' bc' bs' Q) st oc u) M'.2.2.2.2.2.cells M'.2.2.2.2.2.slots (fun q => gB Γ ≤ q)) := by
      have es : st0.drop (n0 + 1) = st := by
        rw [← hst0, ← hn0, ← List.length_reverse, List.drop_append, List.drop_eq_nil_of_le (by omega)]
        simp
      rw [es]
      exact va_backW (hh := gTab M'.2.2.2.2.2.slots) (bytes := M'.2.1) (maxL := M'.2.2.1) (ret := M'.2.2.2.1) kk gBlind rfl rfl hrm.1 hrm.2 (pay_in hts (lw_methW q5)) List.mem_cons_self (fun a' U hW => word_at hW (Or.inl (by first | rfl | simp [Cond.onTables, Cond.keeps, Cond.steady])) hini)
    have es : st0.drop (n0 + 1) = st := by
      rw [← hst0, ← hn0, ← List.length_reverse, List.drop_append, List.drop_eq_nil_of_le (by omega)]
      simp
    rw [es] at hBk
    intro T hT X
    obtain ⟨vv, vm₁, ⟨U', l2, c2, s2⟩, hW₁, X', ⟨g', mk, tt, L, e1, e2, hq, i1, hL, i2, i3⟩, stp⟩ := xCallV X Cx.1 (C := C) (bytes := M'.2.1) (maxL := M'.2.2.1) (ret := M'.2.2.2.1) (hh := gTab M'.2.2.2.2.2.slots) Cx.2.2.2.1 (by rw [← ho]; exact hts _ q1) (hts _ q2) (hts _ q3) (hts _ q5) ⟨hd.2.1, hd.2.2.1⟩ hBk (b := gB Γ + a.toNat) (cellB := cell) (by rw [hT]; exact z1) (by rw [z3]; rfl) (by rw [z2]; exact hcls) (g := F0 m pc lsa (st0.map (gCv Γ))) rfl (by show lsa.size = _; rw [Cx.2.2.1]; exact h5.1) (argsL := As.map (gCv Γ)) (rest := st.map (gCv Γ)) (fun sig hs => by
        have h9 := hd.2.2.2
        rw [hs] at h9
        rw [List.length_map, hn0]
        exact (Option.some.inj h9).symm) hstk hW (by rw [Cx.2.1]; exact d) (fun vm₁ hW₁ => ⟨by show cells + _ ≤ _; omega, by show slots + _ ≤ _; omega, by rw [hargs], by show gR Γ v h t T.heap; rw [hT]; exact h1, hK.moved hW₁, hrB.1, hrAs⟩)
    dsimp only [Pt.U, Pt.locs, Pt.cells, Pt.slots] at X' e1 e2 i1 i2 i3 stp
    subst i1; subst i2; subst i3
    exact ⟨vv, (T.setVm vm₁).calling g' mk (Value.ref (gB Γ + a.toNat) :: As.map (gCv Γ)).toArray, tt, U', L, hT, X', hL, e1, e2, hq, stp⟩
  · have ht : t ≤ t' := by have := hR.1; have := h1.1; omega
    have hk2 := hq p e R s m args below meth c Z Cx H1 locs1 (cells + M'.2.2.2.2.2.cells) (slots + M'.2.2.2.2.2.slots) lsa hR hS (by omega) (by omega) h5 (gRs_mono ht h6) ?_
    · by_cases hn : M'.2.2.2.1 = none
      · rw [if_pos (hk9.mpr hn)]
        rw [if_pos hn] at hk2
        exact hk2
      · rw [if_neg (fun z => hn (hk9.mp z))]
        rw [if_neg hn] at hk2
        exact hk2
    · split
      · exact gRs_mono ht hrst
      · first | exact ⟨hra, gRs_mono ht hrst⟩ | exact gRs_mono ht hrst
end XI
