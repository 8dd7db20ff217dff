/-! THE ABSTRACT LAYER, 7: virtual calls of sorts, super, interfaces; Math; Object.<init>; references stored; sealing; casts -/
def yObjI : MethodName := ⟨"java/lang/Object", "<init>", "()V"⟩
section
variable {Γ : gC} {M : gI} {pc : Nat} {ls st : List gV} {v : gM} {h : gH} {t bc bs : Nat} {Q : gQ}

theorem lw_U {own owner C : String} {idx : Nat} {x y : MethodName} {b : ByteArray} {L : Nat} {r : Option FieldType} (g0 : Cond.methodLink own idx x ∈ lw_all) (g1 : Cond.sameMethod x.cls owner x.name x.desc ∈ lw_all) (g2 : Cond.selects C x y ∈ lw_all) (g3 : Cond.instanceMethod y ∈ lw_all) (g4 : Cond.initialized y.cls ∈ lw_all) (h9 : Cond.code y b L r ∈ lw_all) : GoodIn lw_all (va_wsU own idx C owner x y (ws_ y b L r)) := by
  refine lw_app ?_ (lw_meth h9)
  intro w hw
  simp only [List.mem_cons, List.not_mem_nil, or_false] at hw
  rcases hw with e | e | e | e | e
  · rw [e]; exact g0
  · rw [e]; exact g1
  · rw [e]; exact g2
  · rw [e]; exact g3
  · rw [e]; exact g4
theorem lw_O {own owner C : String} {idx : Nat} {x y : MethodName} {b : ByteArray} {L : Nat} {r : Option FieldType} (g0 : Cond.methodLink own idx x ∈ lw_all) (g1 : Cond.sameMethod x.cls owner x.name x.desc ∈ lw_all) (g2 : Cond.instanceMethod ⟨owner, x.name, x.desc⟩ ∈ lw_all) (g3 : Cond.selects C x y ∈ lw_all) (g4 : Cond.instanceMethod y ∈ lw_all) (g5 : Cond.initialized y.cls ∈ lw_all) (h9 : Cond.code y b L r ∈ lw_all) : GoodIn lw_all (va_wsO own idx C owner x y (ws_ y b L r)) := by
  refine lw_app ?_ (lw_meth h9)
  intro w hw
  simp only [List.mem_cons, List.not_mem_nil, or_false] at hw
  rcases hw with e | e | e | e | e | e
  · rw [e]; exact g0
  · rw [e]; exact g1
  · rw [e]; exact g2
  · rw [e]; exact g3
  · rw [e]; exact g4
  · rw [e]; exact g5
theorem lw_SU {own owner C : String} {idx : Nat} {x y : MethodName} {b : ByteArray} {L : Nat} {r : Option FieldType} (g0 : Cond.methodLink own idx y ∈ lw_all) (g1 : Cond.sameMethod y.cls y.cls y.name y.desc ∈ lw_all) (g2 : Cond.superclass own y.cls ∈ lw_all) (g3 : Cond.instanceMethod y ∈ lw_all) (g4 : Cond.initialized y.cls ∈ lw_all) (h9 : Cond.code y b L r ∈ lw_all) : GoodIn lw_all (va_wsSU own idx y (ws_ y b L r)) := by
  refine lw_app ?_ (lw_meth h9)
  intro w hw
  simp only [List.mem_cons, List.not_mem_nil, or_false] at hw
  rcases hw with e | e | e | e | e
  · rw [e]; exact g0
  · rw [e]; exact g1
  · rw [e]; exact g2
  · rw [e]; exact g3
  · rw [e]; exact g4
theorem lw_F {own owner C : String} {idx : Nat} {x y : MethodName} {b : ByteArray} {L : Nat} {r : Option FieldType} (g0 : Cond.methodLink own idx x ∈ lw_all) (g1 : Cond.selects C x y ∈ lw_all) (g2 : Cond.instanceMethod y ∈ lw_all) (g3 : Cond.initialized y.cls ∈ lw_all) (h9 : Cond.code y b L r ∈ lw_all) : GoodIn lw_all (va_wsF own idx C x y (ws_ y b L r)) := by
  refine lw_app ?_ (lw_meth h9)
  intro w hw
  simp only [List.mem_cons, List.not_mem_nil, or_false] at hw
  rcases hw with e | e | e | e
  · rw [e]; exact g0
  · rw [e]; exact g1
  · rw [e]; exact g2
  · rw [e]; exact g3
/-- an inherited method -/
theorem Gx_callU {M' : gI} {x : MethodName} {idx k n0 bc' bs' : Nat} {a n : Int} {As st0 : List gV} {C own owner : String} {T : u_T} {N : Nat} (hst0 : As.reverse ++ (2, a) :: st = st0) (hn0 : As.length = n0) (d : decode M.2.1 pc = .ok (.invokevirtual idx, 3)) (ho : own = M.2.2.2.2.1) (hh : h a = (k, n)) (hk : gO k = true) (hr : gCl[gCi k]? = some (C, T, N)) (q1 : Cond.methodLink own idx x ∈ lw_all) (q2 : Cond.sameMethod x.cls owner x.name x.desc ∈ lw_all) (q3 : Cond.selects C x M'.1 ∈ lw_all) (q4 : Cond.instanceMethod M'.1 ∈ lw_all) (q6 : Cond.initialized M'.1.cls ∈ lw_all) (q5 : Cond.code M'.1 M'.2.1 M'.2.2.1 M'.2.2.2.1 ∈ lw_all) (hyx : M'.1 = ⟨owner, x.name, x.desc⟩) (hd : owner ≠ "java/lang/invoke/MethodHandle" ∧ owner ≠ "java/lang/invoke/VarHandle" ∧ (parseMethodDescriptor x.desc).map (fun d => d.parameters.length) = some n0) (hrm : M'.2.2.2.2.2.frames + 1 ≤ M.2.2.2.2.2.frames ∧ 8 + (M'.2.2.1 + 11) + M'.2.2.2.2.2.locals ≤ M.2.2.2.2.2.locals) (hcs : (gCs st).ble 8 = true) (hb1 : M'.2.2.2.2.2.cells + bc' ≤ bc) (hb2 : M'.2.2.2.2.2.slots + bs' ≤ bs) (kk : Ctr Γ M' ((2, a) :: As) v h t (fun r v' h' t' => Gx Γ M (pc + 3) ls (if M'.2.2.2.1 = none then st else r :: st) v' h' t' bc' bs' Q)) : Gx Γ M pc ls st0 v h t bc bs Q := by
  intro p e R s m args below meth c Z Cx H locs cells slots lsa h1 h2 h3 h4 h5 h6 h7
  obtain ⟨hrA, hrB⟩ := gRs_app (by rw [← hst0] at h7; exact h7 : gRs t (As.reverse ++ (2, a) :: st))
  have hrAs := gRs_rev hrA
  have hrst := hrB.2
  have ha := gR_in h1 hh (by rintro rfl; revert hk; decide)
  have hA := h1.2.2.2 a ha.1 ha.2
  unfold gAt at hA
  rw [hh] at hA
  obtain ⟨r', e1, e2, -⟩ := hA.1 hk
  have : r' = (C, T, N) := Option.some.inj (e1.symm.trans hr)
  subst this
  obtain ⟨cell, z1, z2, z3, -⟩ := e2
  have hK := Cx.2.2.2.2.1
  have hts := hK.hts args
  have hcls := (hK.1.1 (gCi k) _ hr).2.1
  have hstk : st0.map (gCv Γ) = (As.map (gCv Γ)).reverse ++ .ref (gB Γ + a.toNat) :: st.map (gCv Γ) := by
    rw [← hst0, List.map_append, List.map_reverse, List.map_cons]
    show _ ++ gRv _ _ :: _ = _
    rw [gRv_ref ha.1]
  have hargs : ((2, a) :: As).map (gCv Γ) = Value.ref (gB Γ + a.toNat) :: As.map (gCv Γ) := by
    rw [List.map_cons]
    show gRv _ _ :: _ = _
    rw [gRv_ref ha.1]
  refine gCall_run (M' := M') (Q' := fun r v' h' t' => Gx Γ M (pc + 3) ls (if M'.2.2.2.1 = none then st else r :: st) v' h' t' bc' bs' Q) (rest := st.map (gCv Γ)) ?_ h2 (fun r v' h' t' H1 locs1 hk9 hq hra hR hz hS => ?_)
  · have hf : cells + M'.2.2.2.2.2.cells ≤ R.cells ∧ slots + M'.2.2.2.2.2.slots ≤ R.slots := ⟨by omega, by omega⟩
    have hrm := hrm
    rw [← Cx.2.2.2.2.2.2.1] at hrm
    have hW : 2 * (F0 m pc lsa (st0.map (gCv Γ))).monitorRoom + ((st.map (gCv Γ)).map fun v => v.category).sum ≤ 8 := lv_room (by rw [gCs_sum]; exact Nat.le_of_ble_eq_true hcs)
    exact va_runU (As := As.map (gCv Γ)) (rest := st.map (gCv Γ)) (b := gB Γ + a.toNat) ⟨Cx.1, Cx.2.1, Cx.2.2.1, Cx.2.2.2.1, hts⟩ kk (va_cwU n0 hts (by rw [← ho]; exact lw_U q1 q2 q3 q4 q6 q5) rfl rfl rfl hyx hd hrm) ⟨gBlind, ⟨cell, z1, by rw [z3]; rfl, by rw [z2]; exact hcls⟩, fun U hU hWm => ⟨by rw [hargs], by rw [hU]; exact h1, hK.moved hWm, hrB.1, hrAs⟩⟩ rfl (by rw [List.length_map]; exact hn0) (by show lsa.size = M.2.2.1; exact h5.1) hstk hW d hf
  · have ht : t ≤ t' := by have := hR.1; have := h1.1; omega
    have hk2 := hq p e R s m args below meth c Z Cx H1 locs1 (cells + M'.2.2.2.2.2.cells) (slots + M'.2.2.2.2.2.slots) lsa hR hS (by omega) (by omega) h5 (gRs_mono ht h6) ?_
    · by_cases hn : M'.2.2.2.1 = none
      · rw [if_pos (hk9.mpr hn)]
        rw [if_pos hn] at hk2
        exact hk2
      · rw [if_neg (fun z => hn (hk9.mp z))]
        rw [if_neg hn] at hk2
        exact hk2
    · split
      · exact gRs_mono ht hrst
      · first | exact ⟨hra, gRs_mono ht hrst⟩ | exact gRs_mono ht hrst
/-- an overriding method -/
theorem Gx_callO {b0 : ByteArray} {m0 : Nat} {r0 : Option FieldType} {M' : gI} {x : MethodName} {idx k n0 bc' bs' : Nat} {a n : Int} {As st0 : List gV} {C own owner : String} {T : u_T} {N : Nat} (hst0 : As.reverse ++ (2, a) :: st = st0) (hn0 : As.length = n0) (d : decode M.2.1 pc = .ok (.invokevirtual idx, 3)) (ho : own = M.2.2.2.2.1) (hh : h a = (k, n)) (hk : gO k = true) (hr : gCl[gCi k]? = some (C, T, N)) (q1 : Cond.methodLink own idx x ∈ lw_all) (q2 : Cond.sameMethod x.cls owner x.name x.desc ∈ lw_all) (q7 : Cond.instanceMethod ⟨owner, x.name, x.desc⟩ ∈ lw_all) (q3 : Cond.selects C x M'.1 ∈ lw_all) (q4 : Cond.instanceMethod M'.1 ∈ lw_all) (q6 : Cond.initialized M'.1.cls ∈ lw_all) (q5 : Cond.code M'.1 M'.2.1 M'.2.2.1 M'.2.2.2.1 ∈ lw_all) (q8 : Cond.code ⟨owner, x.name, x.desc⟩ b0 m0 r0 ∈ lw_all) (hd : owner ≠ "java/lang/invoke/MethodHandle" ∧ owner ≠ "java/lang/invoke/VarHandle" ∧ (parseMethodDescriptor x.desc).map (fun d => d.parameters.length) = some n0) (hrm : M'.2.2.2.2.2.frames + 1 ≤ M.2.2.2.2.2.frames ∧ 8 + (M'.2.2.1 + 11) + M'.2.2.2.2.2.locals ≤ M.2.2.2.2.2.locals) (hcs : (gCs st).ble 8 = true) (hb1 : M'.2.2.2.2.2.cells + bc' ≤ bc) (hb2 : M'.2.2.2.2.2.slots + bs' ≤ bs) (kk : Ctr Γ M' ((2, a) :: As) v h t (fun r v' h' t' => Gx Γ M (pc + 3) ls (if M'.2.2.2.1 = none then st else r :: st) v' h' t' bc' bs' Q)) : Gx Γ M pc ls st0 v h t bc bs Q := by
  intro p e R s m args below meth c Z Cx H locs cells slots lsa h1 h2 h3 h4 h5 h6 h7
  obtain ⟨hrA, hrB⟩ := gRs_app (by rw [← hst0] at h7; exact h7 : gRs t (As.reverse ++ (2, a) :: st))
  have hrAs := gRs_rev hrA
  have hrst := hrB.2
  have ha := gR_in h1 hh (by rintro rfl; revert hk; decide)
  have hA := h1.2.2.2 a ha.1 ha.2
  unfold gAt at hA
  rw [hh] at hA
  obtain ⟨r', e1, e2, -⟩ := hA.1 hk
  have : r' = (C, T, N) := Option.some.inj (e1.symm.trans hr)
  subst this
  obtain ⟨cell, z1, z2, z3, -⟩ := e2
  have hK := Cx.2.2.2.2.1
  have hts := hK.hts args
  have hcls := (hK.1.1 (gCi k) _ hr).2.1
  have hstk : st0.map (gCv Γ) = (As.map (gCv Γ)).reverse ++ .ref (gB Γ + a.toNat) :: st.map (gCv Γ) := by
    rw [← hst0, List.map_append, List.map_reverse, List.map_cons]
    show _ ++ gRv _ _ :: _ = _
    rw [gRv_ref ha.1]
  have hargs : ((2, a) :: As).map (gCv Γ) = Value.ref (gB Γ + a.toNat) :: As.map (gCv Γ) := by
    rw [List.map_cons]
    show gRv _ _ :: _ = _
    rw [gRv_ref ha.1]
  refine gCall_run (M' := M') (Q' := fun r v' h' t' => Gx Γ M (pc + 3) ls (if M'.2.2.2.1 = none then st else r :: st) v' h' t' bc' bs' Q) (rest := st.map (gCv Γ)) ?_ h2 (fun r v' h' t' H1 locs1 hk9 hq hra hR hz hS => ?_)
  · have hf : cells + M'.2.2.2.2.2.cells ≤ R.cells ∧ slots + M'.2.2.2.2.2.slots ≤ R.slots := ⟨by omega, by omega⟩
    have hrm := hrm
    rw [← Cx.2.2.2.2.2.2.1] at hrm
    have hW : 2 * (F0 m pc lsa (st0.map (gCv Γ))).monitorRoom + ((st.map (gCv Γ)).map fun v => v.category).sum ≤ 8 := lv_room (by rw [gCs_sum]; exact Nat.le_of_ble_eq_true hcs)
    exact va_runU (As := As.map (gCv Γ)) (rest := st.map (gCv Γ)) (b := gB Γ + a.toNat) ⟨Cx.1, Cx.2.1, Cx.2.2.1, Cx.2.2.2.1, hts⟩ kk (va_cwO n0 hts (by rw [← ho]; exact lw_O q1 q2 q7 q3 q4 q6 q5) rfl rfl rfl q8 hd hrm) ⟨gBlind, ⟨cell, z1, by rw [z3]; rfl, by rw [z2]; exact hcls⟩, fun U hU hWm => ⟨by rw [hargs], by rw [hU]; exact h1, hK.moved hWm, hrB.1, hrAs⟩⟩ rfl (by rw [List.length_map]; exact hn0) (by show lsa.size = M.2.2.1; exact h5.1) hstk hW d hf
  · have ht : t ≤ t' := by have := hR.1; have := h1.1; omega
    have hk2 := hq p e R s m args below meth c Z Cx H1 locs1 (cells + M'.2.2.2.2.2.cells) (slots + M'.2.2.2.2.2.slots) lsa hR hS (by omega) (by omega) h5 (gRs_mono ht h6) ?_
    · by_cases hn : M'.2.2.2.1 = none
      · rw [if_pos (hk9.mpr hn)]
        rw [if_pos hn] at hk2
        exact hk2
      · rw [if_neg (fun z => hn (hk9.mp z))]
        rw [if_neg hn] at hk2
        exact hk2
    · split
      · exact gRs_mono ht hrst
      · first | exact ⟨hra, gRs_mono ht hrst⟩ | exact gRs_mono ht hrst
/-- a superclass's method -/
theorem Gx_callSU {M' : gI} {idx k n0 bc' bs' : Nat} {a n : Int} {As st0 : List gV} {C own : String} {T : u_T} {N : Nat} (hst0 : As.reverse ++ (2, a) :: st = st0) (hn0 : As.length = n0) (d : decode M.2.1 pc = .ok (.invokespecial idx, 3)) (ho : own = M.2.2.2.2.1) (hh : h a = (k, n)) (hk : gO k = true) (hr : gCl[gCi k]? = some (C, T, N)) (q1 : Cond.methodLink own idx M'.1 ∈ lw_all) (q2 : Cond.sameMethod M'.1.cls M'.1.cls M'.1.name M'.1.desc ∈ lw_all) (q3 : Cond.superclass own M'.1.cls ∈ lw_all) (q4 : Cond.instanceMethod M'.1 ∈ lw_all) (q6 : Cond.initialized M'.1.cls ∈ lw_all) (q5 : Cond.code M'.1 M'.2.1 M'.2.2.1 M'.2.2.2.1 ∈ lw_all) (hd : M'.1.name ≠ "<init>" ∧ (parseMethodDescriptor M'.1.desc).map (fun d => d.parameters.length) = some n0) (hrm : M'.2.2.2.2.2.frames + 1 ≤ M.2.2.2.2.2.frames ∧ 8 + (M'.2.2.1 + 11) + M'.2.2.2.2.2.locals ≤ M.2.2.2.2.2.locals) (hcs : (gCs st).ble 8 = true) (hb1 : M'.2.2.2.2.2.cells + bc' ≤ bc) (hb2 : M'.2.2.2.2.2.slots + bs' ≤ bs) (kk : Ctr Γ M' ((2, a) :: As) v h t (fun r v' h' t' => Gx Γ M (pc + 3) ls (if M'.2.2.2.1 = none then st else r :: st) v' h' t' bc' bs' Q)) : Gx Γ M pc ls st0 v h t bc bs Q := by
  intro p e R s m args below meth c Z Cx H locs cells slots lsa h1 h2 h3 h4 h5 h6 h7
  obtain ⟨hrA, hrB⟩ := gRs_app (by rw [← hst0] at h7; exact h7 : gRs t (As.reverse ++ (2, a) :: st))
  have hrAs := gRs_rev hrA
  have hrst := hrB.2
  have ha := gR_in h1 hh (by rintro rfl; revert hk; decide)
  have hA := h1.2.2.2 a ha.1 ha.2
  unfold gAt at hA
  rw [hh] at hA
  obtain ⟨r', e1, e2, -⟩ := hA.1 hk
  have : r' = (C, T, N) := Option.some.inj (e1.symm.trans hr)
  subst this
  obtain ⟨cell, z1, z2, z3, -⟩ := e2
  have hK := Cx.2.2.2.2.1
  have hts := hK.hts args
  have hcls := (hK.1.1 (gCi k) _ hr).2.1
  have hstk : st0.map (gCv Γ) = (As.map (gCv Γ)).reverse ++ .ref (gB Γ + a.toNat) :: st.map (gCv Γ) := by
    rw [← hst0, List.map_append, List.map_reverse, List.map_cons]
    show _ ++ gRv _ _ :: _ = _
    rw [gRv_ref ha.1]
  have hargs : ((2, a) :: As).map (gCv Γ) = Value.ref (gB Γ + a.toNat) :: As.map (gCv Γ) := by
    rw [List.map_cons]
    show gRv _ _ :: _ = _
    rw [gRv_ref ha.1]
  refine gCall_run (M' := M') (Q' := fun r v' h' t' => Gx Γ M (pc + 3) ls (if M'.2.2.2.1 = none then st else r :: st) v' h' t' bc' bs' Q) (rest := st.map (gCv Γ)) ?_ h2 (fun r v' h' t' H1 locs1 hk9 hq hra hR hz hS => ?_)
  · have hf : cells + M'.2.2.2.2.2.cells ≤ R.cells ∧ slots + M'.2.2.2.2.2.slots ≤ R.slots := ⟨by omega, by omega⟩
    have hrm := hrm
    rw [← Cx.2.2.2.2.2.2.1] at hrm
    have hW : 2 * (F0 m pc lsa (st0.map (gCv Γ))).monitorRoom + ((st.map (gCv Γ)).map fun v => v.category).sum ≤ 8 := lv_room (by rw [gCs_sum]; exact Nat.le_of_ble_eq_true hcs)
    exact va_runSU (As := As.map (gCv Γ)) (rest := st.map (gCv Γ)) (b := gB Γ + a.toNat) (hK.1.1 (gCi k) _ hr).2 ⟨Cx.1, Cx.2.1, Cx.2.2.1, Cx.2.2.2.1, hts⟩ kk (va_cwSU n0 hts (by rw [← ho]; exact lw_SU (owner := own) (C := own) (x := M'.1) q1 q2 q3 q4 q6 q5) rfl rfl rfl hd hrm) ⟨gBlind, ⟨cell, z1, by rw [z3]; rfl, by rw [z2]; exact hcls⟩, fun U hU hWm => ⟨by rw [hargs], by rw [hU]; exact h1, hK.moved hWm, hrB.1, hrAs⟩⟩ rfl (by rw [List.length_map]; exact hn0) (by show lsa.size = M.2.2.1; exact h5.1) hstk hW d hf
  · have ht : t ≤ t' := by have := hR.1; have := h1.1; omega
    have hk2 := hq p e R s m args below meth c Z Cx H1 locs1 (cells + M'.2.2.2.2.2.cells) (slots + M'.2.2.2.2.2.slots) lsa hR hS (by omega) (by omega) h5 (gRs_mono ht h6) ?_
    · by_cases hn : M'.2.2.2.1 = none
      · rw [if_pos (hk9.mpr hn)]
        rw [if_pos hn] at hk2
        exact hk2
      · rw [if_neg (fun z => hn (hk9.mp z))]
        rw [if_neg hn] at hk2
        exact hk2
    · split
      · exact gRs_mono ht hrst
      · first | exact ⟨hra, gRs_mono ht hrst⟩ | exact gRs_mono ht hrst
theorem gCall_run5 {M' : gI} {Q' : gQ} {p : Program} {e : Env} {R : Room} {s : State} {m : MethodId} {args : Array Value} {below : List Frame} {meth : Method} {c : Code} {Z : State → Prop} {H : Heap} {locs : List Loc} {cells slots : Nat} {lsa : Array Slot} {st0 rest : List Value}
    (hr : va_Run5 p Γ.1 e R s m args below meth c H locs cells slots M'.2.2.2.2.2.cells M'.2.2.2.2.2.slots (F0 m pc lsa st0) rest (gPost Γ M' Q') (fun q => gB Γ ≤ q)) (hS : va_S (fun q => gB Γ ≤ q) s.heap H locs)
    (kk : ∀ (r : gV) (v' : gM) (h' : gH) (t' : Nat) (H1 : Heap) (locs1 : List Loc), (r.1 = 9 ↔ M'.2.2.2.1 = none) → Q' r v' h' t' → gRa t' r → gR Γ v' h' t' H1 → H.size ≤ H1.size → va_S (fun q => gB Γ ≤ q) s.heap H1 locs1 → W p Γ.1 e R s m args below meth c H1 locs1 (cells + M'.2.2.2.2.2.cells) (slots + M'.2.2.2.2.2.slots) Z (F0 m (pc + 5) lsa ((if r.1 = 9 then none else some (gCv Γ r)).toList ++ rest))) :
    W p Γ.1 e R s m args below meth c H locs cells slots Z (F0 m pc lsa st0) := by
  intro T hT X
  obtain ⟨v, st₀, t, T', L, h0, X', hL, e1, e2, ⟨⟨r, v', h', t', hv, hk, hq, hra, hR⟩, hz, hkp⟩, stp⟩ := hr T hT X
  have hv := Outcome.returned.inj hv
  subst hv
  rw [h0] at hz hkp
  obtain ⟨t2, a1, b1⟩ := kk r v' h' t' T'.heap (locs ++ L) hk hq hra (by rw [e1]; exact hR) (by rw [e1]; exact hz)
    ⟨Nat.le_trans hS.1 (by rw [e1]; exact hz), fun q h1 h2 => by rw [e1, hkp q (Nat.lt_of_lt_of_le h1 hS.1) h2]; exact hS.2.1 q h1 h2, fun q hq => by
      rcases List.mem_append.mp hq with h | h
      · exact hS.2.2 q h
      · exact hL q h⟩ T' rfl X'
  exact ⟨t2, stp t2 a1, b1⟩
/-- an interface's method -/
theorem Gx_callF {cnt : Nat} {M' : gI} {x : MethodName} {idx k n0 bc' bs' : Nat} {a n : Int} {As st0 : List gV} {C own : String} {T : u_T} {N : Nat} (hst0 : As.reverse ++ (2, a) :: st = st0) (hn0 : As.length = n0) (d : decode M.2.1 pc = .ok (.invokeinterface idx cnt, 5)) (ho : own = M.2.2.2.2.1) (hh : h a = (k, n)) (hk : gO k = true) (hr : gCl[gCi k]? = some (C, T, N)) (q1 : Cond.methodLink own idx x ∈ lw_all) (q3 : Cond.selects C x M'.1 ∈ lw_all) (q4 : Cond.instanceMethod M'.1 ∈ lw_all) (q6 : Cond.initialized M'.1.cls ∈ lw_all) (q5 : Cond.code M'.1 M'.2.1 M'.2.2.1 M'.2.2.2.1 ∈ lw_all) (f1 : Cond.declares x ∈ lw_tbl) (f2 : Cond.interfaceMethod x.cls x.cls x.name x.desc ∈ lw_tbl) (f3 : Cond.publicMethod M'.1 ∈ lw_tbl) (f4 : Cond.unhidden C x.name x.desc ∈ lw_tbl) (f5 : Cond.castable C x.cls ∈ lw_tbl) (hd : x.cls ≠ "java/lang/invoke/MethodHandle" ∧ x.cls ≠ "java/lang/invoke/VarHandle" ∧ (parseMethodDescriptor x.desc).map (fun d => d.parameters.length) = some n0) (hrm : M'.2.2.2.2.2.frames + 1 ≤ M.2.2.2.2.2.frames ∧ 8 + (M'.2.2.1 + 11) + M'.2.2.2.2.2.locals ≤ M.2.2.2.2.2.locals) (hcs : (gCs st).ble 8 = true) (hb1 : M'.2.2.2.2.2.cells + bc' ≤ bc) (hb2 : M'.2.2.2.2.2.slots + bs' ≤ bs) (kk : Ctr Γ M' ((2, a) :: As) v h t (fun r v' h' t' => Gx Γ M (pc + 5) ls (if M'.2.2.2.1 = none then st else r :: st) v' h' t' bc' bs' Q)) : Gx Γ M pc ls st0 v h t bc bs Q := by
  intro p e R s m args below meth c Z Cx H locs cells slots lsa h1 h2 h3 h4 h5 h6 h7
  obtain ⟨hrA, hrB⟩ := gRs_app (by rw [← hst0] at h7; exact h7 : gRs t (As.reverse ++ (2, a) :: st))
  have hrAs := gRs_rev hrA
  have hrst := hrB.2
  have ha := gR_in h1 hh (by rintro rfl; revert hk; decide)
  have hA := h1.2.2.2 a ha.1 ha.2
  unfold gAt at hA
  rw [hh] at hA
  obtain ⟨r', e1, e2, -⟩ := hA.1 hk
  have : r' = (C, T, N) := Option.some.inj (e1.symm.trans hr)
  subst this
  obtain ⟨cell, z1, z2, z3, -⟩ := e2
  have hK := Cx.2.2.2.2.1
  have hts := hK.hts args
  have hcls := (hK.1.1 (gCi k) _ hr).2.1
  have hstk : st0.map (gCv Γ) = (As.map (gCv Γ)).reverse ++ .ref (gB Γ + a.toNat) :: st.map (gCv Γ) := by
    rw [← hst0, List.map_append, List.map_reverse, List.map_cons]
    show _ ++ gRv _ _ :: _ = _
    rw [gRv_ref ha.1]
  have hargs : ((2, a) :: As).map (gCv Γ) = Value.ref (gB Γ + a.toNat) :: As.map (gCv Γ) := by
    rw [List.map_cons]
    show gRv _ _ :: _ = _
    rw [gRv_ref ha.1]
  refine gCall_run5 (M' := M') (Q' := fun r v' h' t' => Gx Γ M (pc + 5) ls (if M'.2.2.2.1 = none then st else r :: st) v' h' t' bc' bs' Q) (rest := st.map (gCv Γ)) ?_ h2 (fun r v' h' t' H1 locs1 hk9 hq hra hR hz hS => ?_)
  · have hf : cells + M'.2.2.2.2.2.cells ≤ R.cells ∧ slots + M'.2.2.2.2.2.slots ≤ R.slots := ⟨by omega, by omega⟩
    have hrm := hrm
    rw [← Cx.2.2.2.2.2.2.1] at hrm
    have hW : 2 * (F0 m pc lsa (st0.map (gCv Γ))).monitorRoom + ((st.map (gCv Γ)).map fun v => v.category).sum ≤ 8 := lv_room (by rw [gCs_sum]; exact Nat.le_of_ble_eq_true hcs)
    exact va_runF (As := As.map (gCv Γ)) (rest := st.map (gCv Γ)) (b := gB Γ + a.toNat) (hK.1.1 (gCi k) _ hr).2 ⟨Cx.1, Cx.2.1, Cx.2.2.1, Cx.2.2.2.1, hts⟩ kk (va_cwF n0 hts (by rw [← ho]; exact lw_F (owner := own) q1 q3 q4 q6 q5) rfl rfl rfl (va_Fw.moved ⟨hd.1, hd.2.1⟩ hK.2.2.2.1.alike (va_Fw.of (hK.2.1 _ f1) (hK.2.1 _ f2) (hK.2.1 _ f3) (hK.2.1 _ f4) (hK.2.1 _ f5))) hd hrm) ⟨gBlind, ⟨cell, z1, by rw [z3]; rfl, by rw [z2]; exact hcls⟩, fun U hU hWm => ⟨by rw [hargs], by rw [hU]; exact h1, hK.moved hWm, hrB.1, hrAs⟩⟩ rfl (by rw [List.length_map]; exact hn0) (by show lsa.size = M.2.2.1; exact h5.1) hstk hW d hf
  · have ht : t ≤ t' := by have := hR.1; have := h1.1; omega
    have hk2 := hq p e R s m args below meth c Z Cx H1 locs1 (cells + M'.2.2.2.2.2.cells) (slots + M'.2.2.2.2.2.slots) lsa hR hS (by omega) (by omega) h5 (gRs_mono ht h6) ?_
    · by_cases hn : M'.2.2.2.1 = none
      · rw [if_pos (hk9.mpr hn)]
        rw [if_pos hn] at hk2
        exact hk2
      · rw [if_neg (fun z => hn (hk9.mp z))]
        rw [if_neg hn] at hk2
        exact hk2
    · split
      · exact gRs_mono ht hrst
      · first | exact ⟨hra, gRs_mono ht hrst⟩ | exact gRs_mono ht hrst
/-- Object's constructor -/
theorem Gx_objI {idx k : Nat} {a n : Int} {own : String} (d : decode M.2.1 pc = .ok (.invokespecial idx, 3)) (ho : own = M.2.2.2.2.1) (hh : h a = (k, n)) (hk : k ≠ 99) (q1 : Cond.methodLink own idx yObjI ∈ lw_all) (q2 : Cond.instanceMethod yObjI ∈ lw_all) (q3 : Cond.code yObjI ⟨#[0xb1]⟩ 1 none ∈ lw_all) (hrm : 1 ≤ M.2.2.2.2.2.frames ∧ 20 ≤ M.2.2.2.2.2.locals) (hcs : (gCs st).ble 8 = true) (kk : Gx Γ M (pc + 3) ls st v h t bc bs Q) : Gx Γ M pc ls ((2, a) :: st) v h t bc bs Q := by
  intro p e R s m args below meth c Z Cx H locs cells slots lsa h1 h2 h3 h4 h5 h6 h7
  have ha := gR_in h1 hh hk
  have hK := Cx.2.2.2.2.1
  have hts := hK.hts args
  have hrm := hrm
  rw [← Cx.2.2.2.2.2.2.1] at hrm
  have hW : 2 * (F0 m pc lsa (((2, a) :: st).map (gCv Γ))).monitorRoom + ((st.map (gCv Γ)).map fun v => v.category).sum ≤ 8 := lv_room (by rw [gCs_sum]; exact Nat.le_of_ble_eq_true hcs)
  have hk2 := kk p e R s m args below meth c Z Cx H locs cells slots lsa h1 h2 h3 h4 h5 h6 h7.2
  refine W.objInit (a := gB Γ + a.toNat) (rest := st.map (gCv Γ)) Cx.1 Cx.2.1 Cx.2.2.2.1 (by rw [← ho]; exact hts _ q1) (hts _ q2) (hts _ q3) rfl (by show lsa.size = _; rw [Cx.2.2.1]; exact h5.1) ?_ d hrm.1 (by omega) hk2
  show gRv _ _ :: _ = _
  rw [gRv_ref ha.1]
/-- the own arrays of an object as constants -/
theorem Gx_seal {a n : Int} {k k' : Nat} (hh : h a = (k, n)) (hk : k < 9) (hk' : k' = k + 20) (hk3 : k < 3) (hf : ∀ (f : Nat) (x : Int), gOff k' f = some x → v a f = a + x) (kk : Gx Γ M pc ls st v (gUpH h a (k', n)) t bc bs Q) : Gx Γ M pc ls st v h t bc bs Q := by
  intro p e R s m args below meth c Z Cx H locs cells slots lsa h1 h2 h3 h4 h5 h6 h7
  have ha := gR_in h1 hh (by show k ≠ 99; omega)
  refine kk p e R s m args below meth c Z Cx H locs cells slots lsa ⟨h1.1, h1.2.1, fun b hb => ?_, fun b b0 b1 => ?_⟩ h2 h3 h4 h5 h6 h7
  · rw [gUpH_ne (by omega)]; exact h1.2.2.1 b hb
  · by_cases e9 : b = a
    · rw [e9]
      have hA := h1.2.2.2 a ha.1 ha.2
      unfold gAt at hA ⊢
      rw [hh] at hA
      rw [gUpH_at]
      have hoff : ∀ f : Nat, gOff k f = none := by
        intro f
        rcases (by omega : k = 0 ∨ k = 1 ∨ k = 2) with z | z | z <;> rw [z] <;> rfl
      have hff : ∀ f : Nat, gFv k' v a f = gFv k v a f := by
        intro f
        unfold gFv
        rw [hoff f]
        cases hz : gOff k' f with
        | none => rfl
        | some x => exact (hf f x hz).symm
      have hci : gCi k' = gCi k := by
        rcases (by omega : k = 0 ∨ k = 1 ∨ k = 2) with z | z | z <;> rw [hk', z] <;> rfl
      have hgo : gO k = true := by
        rcases (by omega : k = 0 ∨ k = 1 ∨ k = 2) with z | z | z <;> rw [z] <;> rfl
      obtain ⟨r', e1, e2, e3⟩ := hA.1 hgo
      refine ⟨fun _ => ⟨r', ?_, ?_, fun f hf => ?_⟩, fun z1 z2 => ?_⟩
      · dsimp only; rw [hci]; exact e1
      · dsimp only
        rw [hci]
        exact e2.to (fun f _ => by rw [hff])
      · dsimp only
        rw [hci, hff]
        exact e3 f hf
      · exfalso
        dsimp only at z1 z2
        omega
    · exact gAt_kept (fun j => rfl) (gUpH_ne e9) (Nat.le_refl _) rfl (h1.2.2.2 b b0 b1)
theorem gAastN0 {p : Program} {l : Launch} {e : Env} {R : Room} {s : State} {m : MethodId} {args : Array Value} {below : List Frame} {meth : Method} {c : Code} {locs : List Loc} {cells slots : Nat} {T : State} (X : Stand p l e R s m args below meth c T locs cells slots) (hexec : p.tables.exec = Jvm.exec) {a : Addr} {cell : Cell} {ty : FieldType} {j : Int32} (hcell : T.heap[a]? = some cell) (harr : s.isArrayOf cell (.array ty)) (hknown : cell.vm ≠ .unknown)
    (hin : ¬ (j < 0 ∨ cell.slots.size ≤ j.toNatClampNeg))
    {g : JFrame} (hg : g.method = m) {rest : List Value} (hstack : g.stack = .null :: .int j :: .ref a :: rest) (hdg : decode c.code g.pc = .ok (.aastore, 1)) :
    Stand p l e R s m args below meth c (T.setCell a (cell.setSlot j.toNatClampNeg .null)) (locs ++ [⟨a, j.toNatClampNeg⟩]) cells slots ∧
      ∀ target, Steps p.tables e below ((T.setCell a (cell.setSlot j.toNatClampNeg .null)).setTop { g with pc := g.pc + 1, stack := rest }) target → Steps p.tables e below (T.setTop g) target := by
  have hT := State.isArrayOf_alike X.warmed.alike harr
  have hfit : T.fitsSlot cell.cls cell.vm j.toNatClampNeg .null = true := by
    obtain ⟨hobj, k, hk, comp, hkind⟩ := hT
    cases hvm : cell.vm <;> first | exact absurd hvm (hobj _) | simp [State.fitsSlot, State.slotType?, hk, hkind, fits]
  refine ⟨X.stored hcell _ _, fun target hrest => ?_⟩
  subst hg
  jvm_step X.here [hexec, hdg]
  refine aastore.wp_of_null (c := cell) (t := .array ty) X.here.top hstack hcell hT hin hknown (Nat.not_le.mp fun q => hin (Or.inr q)) hfit ?_
  intro acts
  rw [afterInstr_ok]
  exact hrest
/-- null into int[][] -/
theorem Gx_aastN15 {a i n : Int} (d : decode M.2.1 pc = .ok (.aastore, 1)) (hh : h a = (15, n)) (hi : 0 ≤ i ∧ i < n) (kk : Gx Γ M (pc + 1) ls st (gUp v a i (-1)) h t bc bs Q) : Gx Γ M pc ls ((2, -1) :: (0, i) :: (2, a) :: st) v h t bc bs Q := by
  intro p e R s m args below meth c Z Cx H locs cells slots lsa h1 h2 h3 h4 h5 h6 h7
  obtain ⟨ha, hA⟩ := gR_arr h1 hh (by omega) (by omega)
  have hK := Cx.2.2.2.2.1
  obtain ⟨hT, -⟩ := gTys_at (k := 15) hK (by omega) (by omega)
  show W _ _ _ _ _ _ _ _ _ _ _ _ _ _ _ (F0 m pc lsa (.null :: .int (Int32.ofInt i) :: gRv (gB Γ) a :: st.map (gCv Γ)))
  rw [gRv_ref ha.1]
  intro T hT0 X
  have hin := in32 h7.2.1 hi
  have hTc : T.heap[gB Γ + a.toNat]? = some (arrV (Γ.2.2.2.1 15) n.toNat (fun j => gCt (gB Γ) (gEt 15) (v a j))) := by rw [hT0]; exact hA.1
  obtain ⟨X', stp⟩ := gAastN0 (ty := .int) (j := Int32.ofInt i) (rest := st.map (gCv Γ)) (g := F0 m pc lsa (.null :: .int (Int32.ofInt i) :: .ref (gB Γ + a.toNat) :: st.map (gCv Γ))) X Cx.1 hTc (hT _ _) (fun z => by cases z) (by rw [arrV_size]; exact hin) rfl rfl (by rw [Cx.2.1]; exact d)
  have hlt : gB Γ + a.toNat < T.heap.size := (Array.getElem?_eq_some_iff.mp hTc).1
  generalize hT2 : T.setCell (gB Γ + a.toNat) ((arrV (Γ.2.2.2.1 15) n.toNat (fun j => gCt (gB Γ) (gEt 15) (v a j))).setSlot (Int32.ofInt i).toNatClampNeg .null) = T2 at X' stp
  have z1 : T2.heap[gB Γ + a.toNat]? = some ((arrV (Γ.2.2.2.1 15) n.toNat (fun j => gCt (gB Γ) (gEt 15) (v a j))).setSlot i.toNat .null) := by rw [← hT2, heapAt_setCell_self _ hlt, clamp32 h7.2.1]
  have z2 : T2.heap.size = H.size := by rw [← hT2, size_setCell, hT0]
  have z3 : ∀ q, q ≠ gB Γ + a.toNat → T2.heap[q]? = H[q]? := fun q hq => by rw [← hT2, heapAt_setCell_ne _ (Ne.symm hq), hT0]
  have hR := gR_set (v' := gUp v a i (-1)) h1 ha z2 z3 (fun b j hb => gUp_ne hb) (gAr_set hh (by omega) (by omega) hA hi (x := -1) ⟨by omega, by omega⟩ rfl z1)
  obtain ⟨t', a1, b1⟩ := kk p e R s m args below meth c Z Cx T2.heap _ cells slots lsa hR (h2.put z2 z3 (by show gB Γ ≤ _; omega)) h3 h4 h5 h6 h7.2.2.2 T2 rfl X'
  exact ⟨t', stp t' a1, b1⟩
/-- a reference into an array of references -/
theorem gAast {k : Nat} {a i n x : Int} {kA kC kcomp : Class} {comp : ClassId} {cellx : Cell} {p : Program} {e : Env} {R : Room} {s : State} {m : MethodId} {args : Array Value} {below : List Frame} {meth : Method} {c : Code} {Z : State → Prop} (Cx : Cxt Γ M Q p e R s m args below meth c Z) {H : Heap} {locs : List Loc} {cells slots : Nat} {lsa : Array Slot} (h1 : gR Γ v h t H) (h2 : va_S (fun q => gB Γ ≤ q) s.heap H locs) (h3 : cells + bc ≤ R.cells) (h4 : slots + bs ≤ R.slots) (h5 : lv_has lsa M.2.2.1 (gLs Γ 0 ls)) (h6 : gRs t ls) (h7 : gRs t ((2, x) :: (0, i) :: (2, a) :: st)) (d : decode M.2.1 pc = .ok (.aastore, 1)) (hk : k = 15 ∨ k = 16 ∨ k = 17 ∨ k = 18) (hh : h a = (k, n)) (hi : 0 ≤ i ∧ i < n) (hx0 : 0 ≤ x) (hkA : s.vm.classes[Γ.2.2.2.1 k]? = some kA) (hkind : kA.kind = .array comp (gEt k)) (hkcomp : s.vm.classes[comp]? = some kcomp) (hcx : H[gB Γ + x.toNat]? = some cellx) (hvm : cellx.vm = .none) (hkx : s.vm.classes[cellx.cls]? = some kC) (hasg : s.vm.assignable cellx.cls comp = true) (kk : Gx Γ M (pc + 1) ls st (gUp v a i x) h t bc bs Q) : W p Γ.1 e R s m args below meth c H locs cells slots Z (F0 m pc lsa (((2, x) :: (0, i) :: (2, a) :: st).map (gCv Γ))) := by
  obtain ⟨ha, hA⟩ := gR_arr h1 hh (by omega) (by omega)
  have hxt : gRt t (gEt k) x := by rcases hk with z | z | z | z <;> rw [z] <;> exact h7.1
  have hv : Value.ref (gB Γ + x.toNat) = gCt (gB Γ) (gEt k) x := by rcases hk with z | z | z | z <;> rw [z] <;> exact (gRv_ref hx0).symm
  have href : (gEt k).isReference = true := by rcases hk with z | z | z | z <;> rw [z] <;> rfl
  show W _ _ _ _ _ _ _ _ _ _ _ _ _ _ _ (F0 m pc lsa (gRv (gB Γ) x :: .int (Int32.ofInt i) :: gRv (gB Γ) a :: st.map (gCv Γ)))
  rw [gRv_ref ha.1, gRv_ref hx0]
  have hin := in32 h7.2.1 hi
  refine W.aast Cx.1 Cx.2.1 hA.1 (fun q z => by cases z) (fun z => by cases z) hkA hkind href hkcomp ⟨fun z => hin (Or.inl z), by rw [arrV_size]; exact Nat.not_le.mp fun z => hin (Or.inr z)⟩ hcx (fun q z => by rw [hvm] at z; cases z) hkx hasg rfl rfl d fun H' z1 z2 z3 => ?_
  rw [clamp32 h7.2.1] at z1
  have hR := gR_set (v' := gUp v a i x) h1 ha z2 z3 (fun b j hb => gUp_ne hb) (gAr_set hh (by omega) (by omega) hA hi hxt hv z1)
  exact kk p e R s m args below meth c Z Cx H' _ cells slots lsa hR (h2.put z2 z3 (by show gB Γ ≤ _; omega)) h3 h4 h5 h6 h7.2.2.2

theorem Gx_aast15 {a i n x n' : Int} (d : decode M.2.1 pc = .ok (.aastore, 1)) (q : Cond.arrayOver (gEt 15) ∈ lw_tbl) (hh : h a = (15, n)) (hi : 0 ≤ i ∧ i < n) (hx : h x = (10, n')) (kk : Gx Γ M (pc + 1) ls st (gUp v a i x) h t bc bs Q) : Gx Γ M pc ls ((2, x) :: (0, i) :: (2, a) :: st) v h t bc bs Q := by
  intro p e R s m args below meth c Z Cx H locs cells slots lsa h1 h2 h3 h4 h5 h6 h7
  have hK := Cx.2.2.2.2.1
  obtain ⟨hxx, hAx⟩ := gR_arr h1 hx (by omega) (by omega)
  obtain ⟨-, hRA⟩ := gTys_at (k := 15) hK (by omega) (by omega)
  obtain ⟨-, hRB⟩ := gTys_at (k := 10) hK (by omega) (by omega)
  obtain ⟨comp, cA, kA, f1, f2, f3, f4, f5⟩ := arrayOverA_spec (gAOA (B := args) hK.2.2.2.1.alike (hK.2.1 _ q))
  have e1 : cA = Γ.2.2.2.1 15 := Option.some.inj (f5.symm.trans hRA)
  have e2 : comp = Γ.2.2.2.1 10 := Option.some.inj (f1.symm.trans hRB)
  obtain ⟨kc, hkc, -⟩ := Vm.findClass_spec f1
  refine gAast (k := 15) Cx h1 h2 h3 h4 h5 h6 h7 d (by omega) hh hi hxx.1 (by rw [← e1]; exact f3) f4 hkc hAx.1 rfl (by show s.vm.classes[Γ.2.2.2.1 10]? = _; rw [← e2]; exact hkc) (by show s.vm.assignable (Γ.2.2.2.1 10) comp = true; rw [e2]; exact va_asg _ _) kk

theorem Gx_aast16 {a i n x n' : Int} (d : decode M.2.1 pc = .ok (.aastore, 1)) (q : Cond.arrayOver (gEt 16) ∈ lw_tbl) (hh : h a = (16, n)) (hi : 0 ≤ i ∧ i < n) (hx : h x = (11, n')) (kk : Gx Γ M (pc + 1) ls st (gUp v a i x) h t bc bs Q) : Gx Γ M pc ls ((2, x) :: (0, i) :: (2, a) :: st) v h t bc bs Q := by
  intro p e R s m args below meth c Z Cx H locs cells slots lsa h1 h2 h3 h4 h5 h6 h7
  have hK := Cx.2.2.2.2.1
  obtain ⟨hxx, hAx⟩ := gR_arr h1 hx (by omega) (by omega)
  obtain ⟨-, hRA⟩ := gTys_at (k := 16) hK (by omega) (by omega)
  obtain ⟨-, hRB⟩ := gTys_at (k := 11) hK (by omega) (by omega)
  obtain ⟨comp, cA, kA, f1, f2, f3, f4, f5⟩ := arrayOverA_spec (gAOA (B := args) hK.2.2.2.1.alike (hK.2.1 _ q))
  have e1 : cA = Γ.2.2.2.1 16 := Option.some.inj (f5.symm.trans hRA)
  have e2 : comp = Γ.2.2.2.1 11 := Option.some.inj (f1.symm.trans hRB)
  obtain ⟨kc, hkc, -⟩ := Vm.findClass_spec f1
  refine gAast (k := 16) Cx h1 h2 h3 h4 h5 h6 h7 d (by omega) hh hi hxx.1 (by rw [← e1]; exact f3) f4 hkc hAx.1 rfl (by show s.vm.classes[Γ.2.2.2.1 11]? = _; rw [← e2]; exact hkc) (by show s.vm.assignable (Γ.2.2.2.1 11) comp = true; rw [e2]; exact va_asg _ _) kk

theorem gOb_cell {a n : Int} {k : Nat} {H : Heap} {C : String} {T : u_T} {N : Nat} (h1 : gR Γ v h t H) (hh : h a = (k, n)) (hk : gO k = true) (hr : gCl[gCi k]? = some (C, T, N)) : (0 ≤ a ∧ a < t) ∧ ∃ cell : Cell, H[gB Γ + a.toNat]? = some cell ∧ cell.cls = Γ.2.2.1.1 (gCi k) ∧ cell.vm = .none := by
  have ha := gR_in h1 hh (by rintro rfl; revert hk; decide)
  have hA := h1.2.2.2 a ha.1 ha.2
  unfold gAt at hA
  rw [hh] at hA
  obtain ⟨r', e1, e2, -⟩ := hA.1 hk
  have : r' = (C, T, N) := Option.some.inj (e1.symm.trans hr)
  subst this
  obtain ⟨cell, z1, z2, z3, -⟩ := e2
  exact ⟨ha, cell, z1, z2, z3⟩
theorem Gx_aast17 {a i n x n' : Int} {k' : Nat} {C : String} {T : u_T} {N : Nat} (d : decode M.2.1 pc = .ok (.aastore, 1)) (hh : h a = (17, n)) (hi : 0 ≤ i ∧ i < n) (hx : h x = (k', n')) (hk : gO k' = true) (hr : gCl[gCi k']? = some (C, T, N)) (q : Cond.castable C "AcornYears$Sort" ∈ lw_tbl) (kk : Gx Γ M (pc + 1) ls st (gUp v a i x) h t bc bs Q) : Gx Γ M pc ls ((2, x) :: (0, i) :: (2, a) :: st) v h t bc bs Q := by
  intro p e R s m args below meth c Z Cx H locs cells slots lsa h1 h2 h3 h4 h5 h6 h7
  have hK := Cx.2.2.2.2.1
  obtain ⟨hxx, cell, z1, z2, z3⟩ := gOb_cell h1 hx hk hr
  obtain ⟨-, kA, comp, k1, k2, k3, -⟩ := gTys_at (k := 17) hK (by omega) (by omega)
  have hcls := (hK.1.1 (gCi k') _ hr).2
  obtain ⟨kE, hkE, -⟩ := Vm.findClass_spec k3
  obtain ⟨c0, t1, f1, f2, f3⟩ := Cond.castable_spec (va_Nw.use (A := args) rfl (va_Nw.warmC hK.2.2.2.1 (va_Nw.of rfl (hK.2.1 _ q))))
  cases hcls.1.symm.trans f1
  cases k3.symm.trans f2
  obtain ⟨kC, hkC, -⟩ := hcls.2
  refine gAast (k := 17) Cx h1 h2 h3 h4 h5 h6 h7 d (by omega) hh hi hxx.1 k1 k2 hkE z1 z3 (by rw [z2]; exact hkC) (by rw [z2]; exact f3) kk
theorem Gx_aast18 {a i n x n' : Int} (d : decode M.2.1 pc = .ok (.aastore, 1)) (hh : h a = (18, n)) (hi : 0 ≤ i ∧ i < n) (hx : h x = (8, n')) (kk : Gx Γ M (pc + 1) ls st (gUp v a i x) h t bc bs Q) : Gx Γ M pc ls ((2, x) :: (0, i) :: (2, a) :: st) v h t bc bs Q := by
  intro p e R s m args below meth c Z Cx H locs cells slots lsa h1 h2 h3 h4 h5 h6 h7
  have hK := Cx.2.2.2.2.1
  obtain ⟨hxx, cell, z1, z2, z3⟩ := gOb_cell (C := RX9) (T := TX9) (N := 3) h1 hx rfl rfl
  obtain ⟨-, kA, comp, k1, k2, k3, -⟩ := gTys_at (k := 18) hK (by omega) (by omega)
  have hcls := (hK.1.1 (gCi 8) _ (rfl : gCl[gCi 8]? = some (RX9, TX9, 3))).2
  have hcomp : comp = Γ.2.2.1.1 (gCi 8) := Option.some.inj (k3.symm.trans hcls.1)
  obtain ⟨kC, hkC, -⟩ := hcls.2
  refine gAast (k := 18) Cx h1 h2 h3 h4 h5 h6 h7 d (by omega) hh hi hxx.1 k1 k2 (by rw [hcomp]; exact hkC) z1 z3 (by rw [z2]; exact hkC) (by rw [z2, hcomp]; exact va_asg _ _) kk
/-- a cast that holds -/
theorem Gx_castY {a n : Int} {idx k : Nat} {C nm own : String} {T : u_T} {N : Nat} (d : decode M.2.1 pc = .ok (.checkcast idx, 3)) (ho : own = M.2.2.2.2.1) (hh : h a = (k, n)) (hk : gO k = true) (hr : gCl[gCi k]? = some (C, T, N)) (q1 : Cond.classLink own idx nm ∈ lw_all) (hc : C = nm ∨ Cond.castable C nm ∈ lw_tbl) (kk : Gx Γ M (pc + 3) ls ((2, a) :: st) v h t bc bs Q) : Gx Γ M pc ls ((2, a) :: st) v h t bc bs Q := by
  intro p e R s m args below meth c Z Cx H locs cells slots lsa h1 h2 h3 h4 h5 h6 h7
  have hK := Cx.2.2.2.2.1
  have hts := hK.hts args
  obtain ⟨hxx, cell, z1, z2, z3⟩ := gOb_cell h1 hh hk hr
  have hcls := (hK.1.1 (gCi k) _ hr).2
  have hk2 := kk p e R s m args below meth c Z Cx H locs cells slots lsa h1 h2 h3 h4 h5 h6 h7
  rw [List.map_cons] at hk2
  rw [List.map_cons]
  have e9 : gCv Γ (2, a) = .ref (gB Γ + a.toNat) := gRv_ref hxx.1
  rw [e9] at hk2 ⊢
  rcases hc with z | z
  · exact va_castE Cx.1 Cx.2.1 Cx.2.2.2.1 (by rw [← ho]; exact hts _ q1) ⟨cell, z1, by rw [z3]; rfl, by rw [z2, ← z]; exact hcls.1⟩ d hk2
  · exact va_castY Cx.1 Cx.2.1 Cx.2.2.2.1 (by rw [← ho]; exact hts _ q1) (va_Nw.warmC hK.2.2.2.1 (va_Nw.of rfl (hK.2.1 _ z))) ⟨cell, z1, by rw [z3]; rfl, by rw [z2]; exact hcls.1⟩ d hk2

end
