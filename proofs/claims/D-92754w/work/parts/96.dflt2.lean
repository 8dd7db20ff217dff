/-! the default method of Pollen, called -/
def gLv : Nat → Cond → List Cond
  | 0, c => [c]
  | n + 1, c => match c with
    | .and a b => gLv n a ++ gLv n b
    | c => [c]
theorem gLv_ok {A : Array Value} {s : State} : ∀ (n : Nat) (c : Cond), c.before A s = true → ∀ w ∈ gLv n c, w.before A s = true
  | 0, c, h, w, hw => by
    have : w = c := List.mem_singleton.mp hw
    rw [this]; exact h
  | n + 1, c, h, w, hw => by
    unfold gLv at hw
    split at hw
    · rw [Cond.before_and, Bool.and_eq_true] at h
      rcases List.mem_append.mp hw with z | z
      · exact gLv_ok n _ h.1 w z
      · exact gLv_ok n _ h.2 w z
    · have e := List.mem_singleton.mp hw
      rw [e]; exact h
theorem gLand {A : Array Value} {u : State} {C : String} {x y : MethodName} (h : (Cond.landsInDefault C x y).before A u = true) : ∃ c r m, u.vm.findClass C = some c ∧ u.methodFound? x.cls x.name x.desc = some r ∧ u.methodNamed? y = some m ∧ selectMethod {} u.vm c r = .method m := by
  unfold Cond.before Cond.holds at h
  simp only [Cond.value, beq_iff_eq] at h
  cases h1 : u.vm.findClass C with
  | none => simp [h1] at h
  | some c =>
    cases h2 : u.methodFound? x.cls x.name x.desc with
    | none => simp [h1, h2] at h
    | some r =>
      cases h3 : u.methodNamed? y with
      | none => simp [h1, h2, h3] at h
      | some m =>
        simp only [h1, h2, h3] at h
        cases h4 : u.vm.method? r with
        | none => simp [h4] at h
        | some rm =>
          simp only [h4, Option.map_some, Option.some.injEq] at h
          cases h5 : selectMethod {} u.vm c r with
          | method m' =>
            simp only [h5, Bool.and_eq_true, decide_eq_true_eq] at h
            refine ⟨c, r, m, rfl, rfl, rfl, ?_⟩
            rw [h5, h.1.1.1.1]
          | _ => simp [h5] at h
section
variable {Γ : gC} {M : gI} {pc : Nat} {ls st : List gV} {v : gM} {h : gH} {t bc bs : Nat} {Q : gQ}
theorem gx_X10_sets {a : gV} {x1 x2 x3 : Int} (k1 : 0 < x1 → Q (0, 1) v h t) (k0 : ¬ 0 < x1 → Q (0, 0) v h t) : Gx Γ mX10_sets 0 [a, (0, x1), (0, x2), (0, x3)] [] v h t 0 0 Q := by
  refine Gx_iload_n (i := 1) dX10_sets_0 rfl rfl ?_
  refine Gx_if_le (tgt := 8) dX10_sets_1 (by decide) (fun c1 => ?_) (fun c1 => ?_)
  · refine Gx_iconst ⟨by decide, by decide⟩ dX10_sets_8 ?_
    refine Gx_ireturn dX10_sets_9 (Or.inl rfl) ?_
    first
    | exact k1 (by omega)
    | exact k0 (by omega)
  · refine Gx_iconst ⟨by decide, by decide⟩ dX10_sets_4 ?_
    refine Gx_goto (tgt := 9) dX10_sets_5 (by decide) ?_
    refine Gx_ireturn dX10_sets_9 (Or.inr rfl) ?_
    first
    | exact k1 (by omega)
    | exact k0 (by omega)
theorem Gx_dflt {C : String} {T : u_T} {N k : Nat} {a n x1 x2 x3 : Int} (d : decode M.2.1 pc = .ok (.invokeinterface 365 4, 5)) (ho : RX0 = M.2.2.2.2.1) (hh : h a = (k, n)) (hk : gO k = true) (hr : gCl[gCi k]? = some (C, T, N)) (f4 : Cond.unhidden C "sets" "(III)Z" ∈ lw_tbl) (f5 : Cond.castable C "AcornYears$Pollen" ∈ lw_tbl) (f6 : Cond.landsInDefault C yX10_sets yX10_sets ∈ gLv 12 narrow_1) (hrm : 1 ≤ M.2.2.2.2.2.frames ∧ 23 ≤ M.2.2.2.2.2.locals) (hcs : (gCs st).ble 8 = true) (k1 : 0 < x1 → Gx Γ M (pc + 5) ls ((0, 1) :: st) v h t bc bs Q) (k0 : ¬ 0 < x1 → Gx Γ M (pc + 5) ls ((0, 0) :: st) v h t bc bs Q) : Gx Γ M pc ls ((0, x3) :: (0, x2) :: (0, x1) :: (2, a) :: st) v h t bc bs Q := by
  intro p e R s m args below meth c Z Cx H locs cells slots lsa h1 h2 h3 h4 h5 h6 h7
  have hAs : gRs t [(2, a), (0, x1), (0, x2), (0, x3)] := ⟨h7.2.2.2.1, h7.2.2.1, h7.2.1, h7.1, trivial⟩
  obtain ⟨hxx, cell, z1, z2, z3⟩ := gOb_cell h1 hh hk hr
  have hK := Cx.2.2.2.2.1
  have hts := hK.hts args
  have hcls := (hK.1.1 (gCi k) _ hr).2
  obtain ⟨kB, hkB, -⟩ := hcls.2
  have hrm := hrm
  rw [← Cx.2.2.2.2.2.2.1] at hrm
  have hW : 2 * (F0 m pc lsa (((0, x3) :: (0, x2) :: (0, x1) :: (2, a) :: st).map (gCv Γ))).monitorRoom + ((st.map (gCv Γ)).map fun v => v.category).sum ≤ 8 := lv_room (by rw [gCs_sum]; exact Nat.le_of_ble_eq_true hcs)
  have hFw : va_Fw C yX10_sets yX10_sets s := va_Fw.moved ⟨by decide, by decide⟩ hK.2.2.2.1.alike (va_Fw.of (hK.2.1 _ q919) (hK.2.1 _ q918) (hK.2.1 _ q929) (hK.2.1 _ f4) (hK.2.1 _ f5))
  obtain ⟨r0, r, hn, hrm0, hstR, hsigR⟩ := Cond.declares_spec hFw.1
  obtain ⟨cL, kL, r1, hcL, hkL, hiL, hfoundL, hn1⟩ := Cond.interfaceMethod_spec hFw.2.1
  cases hn.symm.trans hn1
  have hr0cls : r0.cls = cL := Option.some.inj ((findClass_of_methodNamed hn).symm.trans hcL)
  obtain ⟨hnameR, hdescR⟩ := name_of_methodNamed hn hrm0
  obtain ⟨mk, methM, hnamed, hmethM, -, habM⟩ := Cond.instanceMethod_spec (hts _ q928)
  cases hnamed.symm.trans hn
  -- what the start says of the selection
  have hnar := hK.2.2.1
  rw [Cond.before_and, Bool.and_eq_true] at hnar
  obtain ⟨cu, ru, mu, u1, u2, u3, u4⟩ := gLand (gLv_ok 12 narrow_1 hnar.2 _ f6)
  obtain ⟨cL', kL', ru', -, -, -, u5, u6⟩ := Cond.interfaceMethod_spec (hK.2.1 _ q918)
  cases u2.symm.trans u5
  have hvm := hK.2.2.2.1.alike
  have u6' : s.methodNamed? yX10_sets = some ru := by
    have q : (Γ.2.1.setVm s.vm).methodNamed? yX10_sets = some ru := by rw [State.methodNamed?_setVm hvm]; exact u6
    exact q
  have u3' : s.methodNamed? yX10_sets = some mu := by
    have q : (Γ.2.1.setVm s.vm).methodNamed? yX10_sets = some mu := by rw [State.methodNamed?_setVm hvm]; exact u3
    exact q
  cases hn.symm.trans u6'
  cases hn.symm.trans u3'
  have hcu : cu = cell.cls := by
    have q : s.vm.findClass C = some cu := by rw [hvm.findClass]; exact u1
    rw [z2]
    exact Option.some.inj (q.symm.trans hcls.1)
  refine gCall_run5 (M' := mX10_sets) (Q' := fun rr v' h' t' => Gx Γ M (pc + 5) ls (rr :: st) v' h' t' bc bs Q) (rest := st.map (gCv Γ)) ?_ h2 (fun rr v' h' t' H1 locs1 hk9 hq hra hR hz hS => ?_)
  · intro T hT X
    have hbk : Back Γ.1 R p e below s args yX10_sets 5 8 (PreOf R 0 0 (va_Pc ([(2, a), (0, x1), (0, x2), (0, x3)].map (gCv Γ)) (fun U => gR Γ v h t U.heap ∧ gK Γ U ∧ gRs t [(2, a), (0, x1), (0, x2), (0, x3)]))) (PostOf (fun _ => gPost Γ mX10_sets (fun rr v' h' t' => Gx Γ M (pc + 5) ls (rr :: st) v' h' t' bc bs Q)) 0 0 (fun q => gB Γ ≤ q)) := by
      refine gBackD (rm := { frames := 0, cells := 0, slots := 0, locals := 0 }) (cc := cX10_sets) (maxL := 4) (ret := some .boolean) rfl ?_ gBlind rfl rfl (by show 0 + 1 ≤ _; omega) (by show 8 + (4 + 11) + 0 ≤ _; omega) (fun a' U hWm => word_at hWm (good_of_word (List.mem_filter.mp q930).2) (hts _ q930))
      intro s' mk' aa below' meth' c' g1 g2 g3 g4 g5 g6 g7
      obtain ⟨rfl, hR', hK', hrs'⟩ := g7
      have hl := lv_entry ([(2, a), (0, x1), (0, x2), (0, x3)].map (gCv Γ)) (n := 4) (by rw [gLsz_len]; exact Nat.le_of_ble_eq_true rfl)
      rw [lg_entry_eq]
      generalize (lg_sl ([(2, a), (0, x1), (0, x2), (0, x3)].map (gCv Γ)) ++ List.replicate (4 - (lg_sl ([(2, a), (0, x1), (0, x2), (0, x3)].map (gCv Γ))).length) Slot.unset).toArray = lsa' at hl ⊢
      have hbs : gB Γ ≤ s'.heap.size := by rw [hR'.1]; omega
      have hk4 : ∀ b ∈ ([(2, a), (0, x1), (0, x2), (0, x3)] : List gV), b.1 < 4 := by
        intro b hb
        simp only [List.mem_cons, List.not_mem_nil, or_false] at hb
        rcases hb with z | z | z | z <;> (rw [z]; first | exact (by decide : (2 : Nat) < 4) | exact (by decide : (0 : Nat) < 4))
      exact gx_X10_sets (a := (2, a)) (x1 := x1) (x2 := x2) (x3 := x3) k1 k0 p e _ s' mk' _ below' meth' c' _ ⟨Cx.1, g3, g4, findClass_of_methodNamed g1, hK', hbs, rfl, (name_of_methodNamed g1 g2).1, fun z => absurd rfl z, gOut_of Cx.1 g3 g5 g6⟩ s'.heap [] 0 0 lsa' hR' va_S.rf (by omega) (by omega)
        ⟨hl.1, hl.2.1, fun q hq => hl.2.2 q (gEnt_lv [(2, a), (0, x1), (0, x2), (0, x3)] 4 0 q hk4 hq)⟩ (gEnt_rs [(2, a), (0, x1), (0, x2), (0, x3)] 4 hrs') trivial
    obtain ⟨c3, t3, w1, w2, w3⟩ := Cond.castable_spec hFw.2.2.2.2
    cases hcls.1.symm.trans w1
    cases hcL.symm.trans w2
    have hselP : selectMethod e.platform s.vm cell.cls r0 = .method r0 := by
      rw [Launch.admits_selectMethod X.admits, hvm.selectMethod, ← hcu]
      exact u4
    have hpubM : hasFlag methM.accessFlags Acc.public_ = true := Cond.publicMethod_spec hn hmethM hFw.2.2.1
    have hway : ((cell.cls :: s.vm.superclasses cell.cls).any fun k => (declaredIn s.vm r.name r.desc k).any fun (_, z) => z.isPrivate || z.isStatic) = false := by
      rw [hnameR, hdescR, z2]; exact Cond.unhidden_spec hcls.1 hFw.2.2.2.1
    have hgs : (F0 m pc lsa (((0, x3) :: (0, x2) :: (0, x1) :: (2, a) :: st).map (gCv Γ))).stack = ([gCv Γ (0, x1), gCv Γ (0, x2), gCv Γ (0, x3)] : List Value).reverse ++ .ref (gB Γ + a.toNat) :: st.map (gCv Γ) := by
      show [gCv Γ (0, x3), gCv Γ (0, x2), gCv Γ (0, x1), gRv (gB Γ) a] ++ st.map (gCv Γ) = _
      rw [gRv_ref hxx.1]
      rfl
    obtain ⟨vm₁, X₁, hstep₁⟩ := X.invokeinterface Cx.1 Cx.2.2.2.1 (by rw [← ho]; exact hts _ q917) hn hrm0 hstR (by rw [hr0cls]; exact hkL) hiL ⟨by decide, by decide⟩ (a := gB Γ + a.toNat) (cell := cell) (kcell := kB) (by rw [hT]; exact z1)
      (fun z q => by rw [z3] at q; cases q) (by rw [z2]; exact hkB) (by rw [hr0cls, z2]; exact w3) hselP hmethM hway hpubM habM (g := F0 m pc lsa (((0, x3) :: (0, x2) :: (0, x1) :: (2, a) :: st).map (gCv Γ))) rfl (argsL := [gCv Γ (0, x1), gCv Γ (0, x2), gCv Γ (0, x3)]) (rest := st.map (gCv Γ)) (by have e9 : (parseMethodDescriptor yX10_sets.desc).map (fun d => d.parameters.length) = some 3 := (by decide +kernel); rw [hsigR] at e9; exact (Option.some.inj e9).symm) hgs (by rw [Cx.2.1]; exact d)
    have hargs : ([(2, a), (0, x1), (0, x2), (0, x3)] : List gV).map (gCv Γ) = Value.ref (gB Γ + a.toNat) :: [gCv Γ (0, x1), gCv Γ (0, x2), gCv Γ (0, x3)] := by
      show gRv _ _ :: _ = _
      rw [gRv_ref hxx.1]
      rfl
    obtain ⟨vv, ⟨U', l2, c2, s2⟩, X', ⟨g', mk2, t2, L, e1, e2, hq, y1, hL, y2, y3⟩, hsteps⟩ := hbk m meth c ⟨T.setVm vm₁, locs, cells, slots⟩ { F0 m pc lsa (((0, x3) :: (0, x2) :: (0, x1) :: (2, a) :: st).map (gCv Γ)) with stack := st.map (gCv Γ) } (.invokeinterface 365 4) r0 (Value.ref (gB Γ + a.toNat) :: [gCv Γ (0, x1), gCv Γ (0, x2), gCv Γ (0, x3)]).toArray X₁ rfl (by show lsa.size = _; rw [Cx.2.2.1]; exact h5.1) (by rw [Cx.2.1]; exact d) hW (X₁.named hn) ⟨by show cells + 0 ≤ _; omega, by show slots + 0 ≤ _; omega, by rw [← hargs], by show gR Γ v h t T.heap; rw [hT]; exact h1, hK.moved X₁.warmed, hAs⟩
    dsimp only [Pt.U, Pt.locs, Pt.cells, Pt.slots] at X' e1 e2 y1 y2 y3 hsteps
    subst y1; subst y2; subst y3
    exact ⟨vv, _, t2, U', L, hT, X', hL, e1, e2, hq, fun target hh9 => hstep₁ _ fun acts => by rw [doInvoke_state]; exact hsteps.trans hh9⟩
  · have ht : t ≤ t' := by have := hR.1; have := h1.1; omega
    have hk2 := hq p e R s m args below meth c Z Cx H1 locs1 cells slots lsa hR hS h3 h4 h5 (gRs_mono ht h6) ⟨hra, gRs_mono ht h7.2.2.2.2⟩
    rw [if_neg (fun z => by have := hk9.mp z; cases this)]
    exact hk2
end
