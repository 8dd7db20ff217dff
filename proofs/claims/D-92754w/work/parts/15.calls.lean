/-! THE ABSTRACT LAYER, 6: a contract out of the judgement at pc 0; calls -/
/-- the locals at a method's entry -/
def gEnt : List gV → Nat → List gV
  | [], n => List.replicate n (9, 0)
  | _ :: _, 0 => []
  | (1, x) :: l, n + 1 => (1, x) :: (9, 0) :: gEnt l (n - 1)
  | (k, x) :: l, n + 1 => (k, x) :: gEnt l n
def gCs : List gV → Nat
  | [] => 0
  | a :: l => (if a.1 = 1 then 2 else 1) + gCs l
section
variable {Γ : gC} {M : gI} {pc : Nat} {ls st : List gV} {v : gM} {h : gH} {t bc bs : Nat} {Q : gQ}
theorem gCs_sum (l : List gV) : ((l.map (gCv Γ)).map fun v => v.category).sum = gCs l := by
  induction l with
  | nil => rfl
  | cons a l ih =>
    simp only [List.map_cons, List.sum_cons, gCs, ih, gCv_cat]
theorem gEnt_lv : ∀ (l : List gV) (n i : Nat) (q : Nat × Value), (∀ a ∈ l, a.1 < 4) → q ∈ gLs Γ i (gEnt l n) → q ∈ lv_args i (l.map (gCv Γ))
  | [], n, i, q, _, hq => by
    exfalso
    unfold gEnt at hq
    obtain ⟨j, a, h1, h2, -⟩ := gLs_lo hq
    rw [List.getElem?_replicate] at h1
    split at h1
    · cases h1; revert h2; decide
    · cases h1
  | a :: l, 0, i, q, _, hq => by simp [gEnt, gLs] at hq
  | (1, x) :: l, n + 1, i, q, hl, hq => by
    simp only [gEnt, gLs] at hq
    simp only [List.map_cons, lv_args]
    rw [if_pos (by decide), if_neg (by decide)] at hq
    rcases List.mem_cons.mp hq with h1 | h1
    · rw [h1]; exact List.mem_cons_self
    · refine List.mem_cons_of_mem _ ?_
      rw [if_pos (show (gCv Γ (1, x)).category = 2 from rfl)]
      exact gEnt_lv l _ _ q (fun a ha => hl a (List.mem_cons_of_mem _ ha)) h1
  | (0, x) :: l, n + 1, i, q, hl, hq => by
    simp only [gEnt, gLs] at hq
    simp only [List.map_cons, lv_args]
    rw [if_pos (by decide)] at hq
    rcases List.mem_cons.mp hq with h1 | h1
    · rw [h1]; exact List.mem_cons_self
    · refine List.mem_cons_of_mem _ ?_
      rw [if_neg (show ¬ (gCv Γ (0, x)).category = 2 from (by decide : ¬ (1 : Nat) = 2))]
      exact gEnt_lv l _ _ q (fun a ha => hl a (List.mem_cons_of_mem _ ha)) h1
  | (k + 2, x) :: l, n + 1, i, q, hl, hq => by
    have hk : k + 2 < 4 := hl (k + 2, x) List.mem_cons_self
    simp only [gEnt, gLs] at hq
    simp only [List.map_cons, lv_args]
    rw [if_pos hk] at hq
    rcases List.mem_cons.mp hq with h1 | h1
    · rw [h1]; exact List.mem_cons_self
    · refine List.mem_cons_of_mem _ ?_
      rw [if_neg (by rw [gCv_cat, if_neg (by omega)]; decide)]
      exact gEnt_lv l _ _ q (fun a ha => hl a (List.mem_cons_of_mem _ ha)) h1
theorem gEnt_rs : ∀ (l : List gV) (n : Nat), gRs t l → gRs t (gEnt l n)
  | [], n, _ => by
    unfold gEnt
    induction n with
    | zero => trivial
    | succ n ih => exact ⟨trivial, ih⟩
  | _ :: _, 0, _ => trivial
  | (1, x) :: l, n + 1, hr => ⟨hr.1, trivial, gEnt_rs l _ hr.2⟩
  | (0, x) :: l, n + 1, hr => ⟨hr.1, gEnt_rs l _ hr.2⟩
  | (k + 2, x) :: l, n + 1, hr => ⟨hr.1, gEnt_rs l _ hr.2⟩
def gLsz : List gV → Nat
  | [] => 0
  | a :: l => (if a.1 = 1 then 2 else 1) + gLsz l
theorem gLsz_len (l : List gV) : (lg_sl (l.map (gCv Γ))).length = gLsz l := by
  induction l with
  | nil => rfl
  | cons a l ih =>
    unfold lg_sl at ih ⊢
    simp only [List.map_cons, List.flatMap_cons, List.length_append, ih, gLsz, gCv_cat]
    by_cases ha : a.1 = 1 <;> simp [ha]
/-- the ways out of a method that is called -/
theorem gOut_of {p : Program} {e : Env} {s : State} {m : MethodId} {args : Array Value} {below : List Frame} {meth : Method} {c : Code} (hx : p.tables.exec = Jvm.exec) (hb : c.code = M.2.1) (hr : meth.sig.returnType = M.2.2.2.1) (hlocks : meth.locks = false) :
    gOut Γ M Q p e M.2.2.2.2.2 s m args below meth c (MQ below (fun _ st oc u => (∃ (r : gV) (v' : gM) (h' : gH) (t' : Nat), oc = .returned (if r.1 = 9 then none else some (gCv Γ r)) ∧ (r.1 = 9 ↔ M.2.2.2.1 = none) ∧ Q r v' h' t' ∧ gRa t' r ∧ gR Γ v' h' t' u.heap) ∧ va_F (fun q => gB Γ ≤ q) st u) args s M.2.2.2.2.2.cells M.2.2.2.2.2.slots (fun q => gB Γ ≤ q)) := by
  intro r v h t pc lsa H locs cells slots hq hra hR hS hc hs
  obtain ⟨k, x⟩ := r
  refine ⟨fun h0 hf hd => ?_, fun h0 hf hd => ?_, fun h0 hf hd => ?_, fun h0 hf hd => ?_⟩
  · have h0 : k = 0 := h0
    subst h0
    refine W.widen hc hs ?_
    have key : ∃ ty, M.2.2.2.1 = some ty ∧ narrow ty (.int (Int32.ofInt x)) = .int (Int32.ofInt x) := by
      revert hf
      unfold gFit
      split
      · intro _; exact ⟨_, by assumption, rfl⟩
      · intro hf
        refine ⟨_, by assumption, ?_⟩
        have hf : x = 0 ∨ x = 1 := hf
        rcases hf with rfl | rfl <;> rfl
      · intro hf; exact hf.elim
    obtain ⟨ty, k1, k2⟩ := key
    exact W.zret (ty := ty) hx hb (hr.trans k1) k2 (fun u hu hW => ⟨⟨(0, x), v, h, t, rfl, ⟨fun z => (by cases z), fun z => (by rw [k1] at z; cases z)⟩, hq, hra, by rw [hu]; exact hR⟩, hS.F hu⟩) hS.2.2 hd hlocks
  · have h0 : k = 1 := h0
    subst h0
    refine W.widen hc hs ?_
    exact W.lret hx hb (hr.trans hf) (fun u hu hW => ⟨⟨(1, x), v, h, t, rfl, ⟨fun z => (by cases z), fun z => (by rw [hf] at z; cases z)⟩, hq, hra, by rw [hu]; exact hR⟩, hS.F hu⟩) hS.2.2 hd hlocks
  · have h0 : k = 2 := h0
    subst h0
    refine W.widen hc hs ?_
    obtain ⟨n, hf⟩ := hf
    have hv : gCv Γ (2, x) = .null ∨ ∃ a, gCv Γ (2, x) = .ref a := by
      show gRv _ _ = _ ∨ ∃ a, gRv _ _ = _
      unfold gRv
      split
      · exact Or.inl rfl
      · exact Or.inr ⟨_, rfl⟩
    exact W.aret hx hb (hr.trans hf) (Or.inl ⟨n, rfl⟩) hv (fun u hu hW => ⟨⟨(2, x), v, h, t, rfl, ⟨fun z => (by cases z), fun z => (by rw [hf] at z; cases z)⟩, hq, hra, by rw [hu]; exact hR⟩, hS.F hu⟩) hS.2.2 hd hlocks
  · have h0 : k = 9 := h0
    subst h0
    refine W.widen hc hs ?_
    exact W.vret hx hb (hr.trans hf) (fun u hu hW => ⟨⟨(9, x), v, h, t, rfl, ⟨fun _ => hf, fun _ => rfl⟩, hq, hra, by rw [hu]; exact hR⟩, hS.F hu⟩) hS.2.2 hd hlocks
theorem Ctr.ofG {args ls : List gV} (hy : plainName M.1.cls = true) (hown : M.2.2.2.2.1 = M.1.cls) (hk : args.all (fun a => decide (a.1 < 4)) = true) (hsz : ((gLsz args).ble M.2.2.1 && (gTab M.2.2.2.2.2.slots).isEmpty) = true) (hls : gEnt args M.2.2.1 = ls) (k : Gx Γ M 0 ls [] v h t M.2.2.2.2.2.cells M.2.2.2.2.2.slots Q) : Ctr Γ M args v h t Q := by
  refine Met.ofW (cc := M.2.1) (maxL := M.2.2.1) (ret := M.2.2.2.1) hy rfl ?_
  intro p e s m args0 below meth c s₁ B hml hv
  obtain ⟨rfl, hR, hK, hrs⟩ := hv
  have hl := lv_entry (args.map (gCv Γ)) (n := M.2.2.1) (by rw [gLsz_len]; exact Nat.le_of_ble_eq_true (Bool.and_eq_true_iff.mp hsz).1)
  rw [lg_entry_eq]
  generalize (lg_sl (args.map (gCv Γ)) ++ List.replicate (M.2.2.1 - (lg_sl (args.map (gCv Γ))).length) Slot.unset).toArray = lsa at hl ⊢
  have hbs : gB Γ ≤ s.heap.size := by rw [hR.1]; omega
  have hk4 : ∀ a ∈ args, a.1 < 4 := fun a ha => of_decide_eq_true (List.all_eq_true.mp hk a ha)
  subst hls
  exact k p e M.2.2.2.2.2 s m _ below meth c _ ⟨B.exec, B.bytes, hml, by rw [hown]; exact findClass_of_methodNamed B.named, hK, hbs, rfl, (name_of_methodNamed B.named B.method).1, fun z => absurd (List.isEmpty_iff.mp (Bool.and_eq_true_iff.mp hsz).2) z, gOut_of B.exec B.bytes B.returns B.notSynchronized⟩ s.heap [] 0 0 lsa hR va_S.rf (by omega) (by omega)
    ⟨hl.1, hl.2.1, fun q hq => hl.2.2 q (gEnt_lv args _ 0 q hk4 hq)⟩ (gEnt_rs args _ hrs) trivial
/-- what a call is: the run of the kit with the contract's end -/
abbrev gPost (Γ : gC) (M' : gI) (Q' : gQ) : State → Outcome → State → Prop := fun st oc u => (∃ (r : gV) (v' : gM) (h' : gH) (t' : Nat), oc = .returned (if r.1 = 9 then none else some (gCv Γ r)) ∧ (r.1 = 9 ↔ M'.2.2.2.1 = none) ∧ Q' r v' h' t' ∧ gRa t' r ∧ gR Γ v' h' t' u.heap) ∧ va_F (fun q => gB Γ ≤ q) st u
theorem gCall_run {M' : gI} {Q' : gQ} {p : Program} {e : Env} {R : Room} {s : State} {m : MethodId} {args : Array Value} {below : List Frame} {meth : Method} {c : Code} {Z : State → Prop} {H : Heap} {locs : List Loc} {cells slots : Nat} {lsa : Array Slot} {st0 rest : List Value}
    (hr : va_Run p Γ.1 e R s m args below meth c H locs cells slots M'.2.2.2.2.2.cells M'.2.2.2.2.2.slots (F0 m pc lsa st0) rest (gPost Γ M' Q') (fun q => gB Γ ≤ q)) (hS : va_S (fun q => gB Γ ≤ q) s.heap H locs)
    (kk : ∀ (r : gV) (v' : gM) (h' : gH) (t' : Nat) (H1 : Heap) (locs1 : List Loc), (r.1 = 9 ↔ M'.2.2.2.1 = none) → Q' r v' h' t' → gRa t' r → gR Γ v' h' t' H1 → H.size ≤ H1.size → va_S (fun q => gB Γ ≤ q) s.heap H1 locs1 → W p Γ.1 e R s m args below meth c H1 locs1 (cells + M'.2.2.2.2.2.cells) (slots + M'.2.2.2.2.2.slots) Z (F0 m (pc + 3) lsa ((if r.1 = 9 then none else some (gCv Γ r)).toList ++ rest))) :
    W p Γ.1 e R s m args below meth c H locs cells slots Z (F0 m pc lsa st0) := by
  intro T hT X
  obtain ⟨v, st₀, t, T', L, h0, X', hL, e1, e2, ⟨⟨r, v', h', t', hv, hk, hq, hra, hR⟩, hz, hkp⟩, stp⟩ := hr T hT X
  have hv := Outcome.returned.inj hv
  subst hv
  rw [h0] at hz hkp
  obtain ⟨t2, a1, b1⟩ := kk r v' h' t' T'.heap (locs ++ L) hk hq hra (by rw [e1]; exact hR) (by rw [e1]; exact hz)
    ⟨Nat.le_trans hS.1 (by rw [e1]; exact hz), fun q h1 h2 => by rw [e1, hkp q (Nat.lt_of_lt_of_le h1 hS.1) h2]; exact hS.2.1 q h1 h2, fun q hq => by
      rcases List.mem_append.mp hq with h | h
      · exact hS.2.2 q h
      · exact hL q h⟩ T' rfl X'
  exact ⟨t2, stp t2 a1, b1⟩
theorem gBlind {args : List gV} : FrameBlind (va_Pc (args.map (gCv Γ)) (fun U => gR Γ v h t U.heap ∧ gK Γ U ∧ gRs t args)) := by
  intro a U g mk hq
  obtain ⟨h1, h2, h3, h4⟩ := hq
  exact ⟨h1, h2, h3.moved (U := U.calling g mk a) (State.WarmedH.refl U), h4⟩
theorem gRs_app : ∀ {l1 l2 : List gV}, gRs t (l1 ++ l2) → gRs t l1 ∧ gRs t l2
  | [], _, h => ⟨trivial, h⟩
  | _ :: _, _, h => ⟨⟨h.1, (gRs_app h.2).1⟩, (gRs_app h.2).2⟩
theorem gRs_mk : ∀ {l1 l2 : List gV}, gRs t l1 → gRs t l2 → gRs t (l1 ++ l2)
  | [], _, _, h => h
  | _ :: _, _, h1, h2 => ⟨h1.1, gRs_mk h1.2 h2⟩
theorem gRs_rev : ∀ {l : List gV}, gRs t l.reverse → gRs t l
  | [], _ => trivial
  | a :: l, h => by
    rw [List.reverse_cons] at h
    obtain ⟨h1, h2⟩ := gRs_app h
    exact ⟨h2.1, gRs_rev h1⟩
/-- CALL RULES -/
theorem Gx_callV {M' : gI} {idx k n0 bc' bs' : Nat} {a n : Int} {As st0 : List gV} {C own : String} {T : u_T} {N : Nat} (hst0 : As.reverse ++ (2, a) :: st = st0) (hn0 : As.length = n0) (d : decode M.2.1 pc = .ok (.invokevirtual idx, 3)) (ho : own = M.2.2.2.2.1) (hh : h a = (k, n)) (hk : gO k = true) (hr : gCl[gCi k]? = some (C, T, N)) (q1 : Cond.methodLink own idx M'.1 ∈ lw_all) (q2 : Cond.instanceMethod M'.1 ∈ lw_all) (q3 : Cond.selects C M'.1 M'.1 ∈ lw_all) (q4 : Cond.initialized C ∈ lw_all) (q5 : Cond.code M'.1 M'.2.1 M'.2.2.1 M'.2.2.2.1 ∈ lw_all) (hd : M'.1.cls = C ∧ M'.1.cls ≠ "java/lang/invoke/MethodHandle" ∧ M'.1.cls ≠ "java/lang/invoke/VarHandle" ∧ (parseMethodDescriptor M'.1.desc).map (fun d => d.parameters.length) = some n0) (hrm : M'.2.2.2.2.2.frames + 1 ≤ M.2.2.2.2.2.frames ∧ 8 + (M'.2.2.1 + 11) + M'.2.2.2.2.2.locals ≤ M.2.2.2.2.2.locals) (hcs : (gCs st).ble 8 = true) (hb1 : M'.2.2.2.2.2.cells + bc' ≤ bc) (hb2 : M'.2.2.2.2.2.slots + bs' ≤ bs) (kk : Ctr Γ M' ((2, a) :: As) v h t (fun r v' h' t' => Gx Γ M (pc + 3) ls (if M'.2.2.2.1 = none then st else r :: st) v' h' t' bc' bs' Q)) : Gx Γ M pc ls st0 v h t bc bs Q := by
  intro p e R s m args below meth c Z Cx H locs cells slots lsa h1 h2 h3 h4 h5 h6 h7
  obtain ⟨hrA, hrB⟩ := gRs_app (by rw [← hst0] at h7; exact h7 : gRs t (As.reverse ++ (2, a) :: st))
  have hrAs := gRs_rev hrA
  have hrst := hrB.2
  have ha := gR_in h1 hh (by rintro rfl; revert hk; decide)
  have hA := h1.2.2.2 a ha.1 ha.2
  unfold gAt at hA
  rw [hh] at hA
  obtain ⟨r', e1, e2, -⟩ := hA.1 hk
  have : r' = (C, T, N) := Option.some.inj (e1.symm.trans hr)
  subst this
  obtain ⟨cell, z1, z2, z3, -⟩ := e2
  have hK := Cx.2.2.2.2.1
  have hts := hK.hts args
  have hcls := (hK.1.1 (gCi k) _ hr).2.1
  have hstk : st0.map (gCv Γ) = (As.map (gCv Γ)).reverse ++ .ref (gB Γ + a.toNat) :: st.map (gCv Γ) := by
    rw [← hst0, List.map_append, List.map_reverse, List.map_cons]
    show _ ++ gRv _ _ :: _ = _
    rw [gRv_ref ha.1]
  have hargs : ((2, a) :: As).map (gCv Γ) = Value.ref (gB Γ + a.toNat) :: As.map (gCv Γ) := by
    rw [List.map_cons]
    show gRv _ _ :: _ = _
    rw [gRv_ref ha.1]
  refine gCall_run (M' := M') (Q' := fun r v' h' t' => Gx Γ M (pc + 3) ls (if M'.2.2.2.1 = none then st else r :: st) v' h' t' bc' bs' Q) (rest := st.map (gCv Γ)) ?_ h2 (fun r v' h' t' H1 locs1 hk9 hq hra hR hz hS => ?_)
  · have hf : cells + M'.2.2.2.2.2.cells ≤ R.cells ∧ slots + M'.2.2.2.2.2.slots ≤ R.slots := ⟨by omega, by omega⟩
    have hrm := hrm
    rw [← Cx.2.2.2.2.2.2.1] at hrm
    have hW : 2 * (F0 m pc lsa (st0.map (gCv Γ))).monitorRoom + ((st.map (gCv Γ)).map fun v => v.category).sum ≤ 8 := lv_room (by rw [gCs_sum]; exact Nat.le_of_ble_eq_true hcs)
    exact va_runV (As := As.map (gCv Γ)) (rest := st.map (gCv Γ)) (b := gB Γ + a.toNat) ⟨Cx.1, Cx.2.1, Cx.2.2.1, Cx.2.2.2.1, hts⟩ kk (cwV n0 hts (by rw [← ho]; exact lw_V q1 q2 q3 q4 q5) rfl rfl rfl hd hrm) ⟨gBlind, ⟨cell, z1, by rw [z3]; rfl, by rw [z2]; exact hcls⟩, fun U hU hWm => ⟨by rw [hargs], by rw [hU]; exact h1, hK.moved hWm, hrB.1, hrAs⟩⟩ rfl (by rw [List.length_map]; exact hn0) (by show lsa.size = M.2.2.1; exact h5.1) hstk hW d hf
  · have ht : t ≤ t' := by have := hR.1; have := h1.1; omega
    have hk2 := hq p e R s m args below meth c Z Cx H1 locs1 (cells + M'.2.2.2.2.2.cells) (slots + M'.2.2.2.2.2.slots) lsa hR hS (by omega) (by omega) h5 (gRs_mono ht h6) ?_
    · by_cases hn : M'.2.2.2.1 = none
      · rw [if_pos (hk9.mpr hn)]
        rw [if_pos hn] at hk2
        exact hk2
      · rw [if_neg (fun z => hn (hk9.mp z))]
        rw [if_neg hn] at hk2
        exact hk2
    · split
      · exact gRs_mono ht hrst
      · first | exact ⟨hra, gRs_mono ht hrst⟩ | exact gRs_mono ht hrst
theorem Gx_callI {M' : gI} {idx k n0 bc' bs' : Nat} {a n : Int} {As st0 : List gV} {C own : String} {T : u_T} {N : Nat} (hst0 : As.reverse ++ (2, a) :: st = st0) (hn0 : As.length = n0) (d : decode M.2.1 pc = .ok (.invokespecial idx, 3)) (ho : own = M.2.2.2.2.1) (hh : h a = (k, n)) (hk : gO k = true) (hr : gCl[gCi k]? = some (C, T, N)) (hret : M'.2.2.2.1 = none) (q1 : Cond.methodLink own idx M'.1 ∈ lw_all) (q2 : Cond.instanceMethod M'.1 ∈ lw_all) (q4 : Cond.initialized M'.1.cls ∈ lw_all) (q5 : Cond.code M'.1 M'.2.1 M'.2.2.1 M'.2.2.2.1 ∈ lw_all) (hy : M'.1.name = "<init>") (hd : M'.1.cls ≠ "java/lang/invoke/MethodHandle" ∧ M'.1.cls ≠ "java/lang/invoke/VarHandle" ∧ (parseMethodDescriptor M'.1.desc).map (fun d => d.parameters.length) = some n0) (hrm : M'.2.2.2.2.2.frames + 1 ≤ M.2.2.2.2.2.frames ∧ 8 + (M'.2.2.1 + 11) + M'.2.2.2.2.2.locals ≤ M.2.2.2.2.2.locals) (hcs : (gCs st).ble 8 = true) (hb1 : M'.2.2.2.2.2.cells + bc' ≤ bc) (hb2 : M'.2.2.2.2.2.slots + bs' ≤ bs) (kk : Ctr Γ M' ((2, a) :: As) v h t (fun r v' h' t' => Gx Γ M (pc + 3) ls (if M'.2.2.2.1 = none then st else r :: st) v' h' t' bc' bs' Q)) : Gx Γ M pc ls st0 v h t bc bs Q := by
  intro p e R s m args below meth c Z Cx H locs cells slots lsa h1 h2 h3 h4 h5 h6 h7
  obtain ⟨hrA, hrB⟩ := gRs_app (by rw [← hst0] at h7; exact h7 : gRs t (As.reverse ++ (2, a) :: st))
  have hrAs := gRs_rev hrA
  have hrst := hrB.2
  have ha := gR_in h1 hh (by rintro rfl; revert hk; decide)
  have hA := h1.2.2.2 a ha.1 ha.2
  unfold gAt at hA
  rw [hh] at hA
  obtain ⟨r', e1, e2, -⟩ := hA.1 hk
  have : r' = (C, T, N) := Option.some.inj (e1.symm.trans hr)
  subst this
  obtain ⟨cell, z1, z2, z3, -⟩ := e2
  have hK := Cx.2.2.2.2.1
  have hts := hK.hts args
  have hcls := (hK.1.1 (gCi k) _ hr).2.1
  have hstk : st0.map (gCv Γ) = (As.map (gCv Γ)).reverse ++ .ref (gB Γ + a.toNat) :: st.map (gCv Γ) := by
    rw [← hst0, List.map_append, List.map_reverse, List.map_cons]
    show _ ++ gRv _ _ :: _ = _
    rw [gRv_ref ha.1]
  have hargs : ((2, a) :: As).map (gCv Γ) = Value.ref (gB Γ + a.toNat) :: As.map (gCv Γ) := by
    rw [List.map_cons]
    show gRv _ _ :: _ = _
    rw [gRv_ref ha.1]
  refine gCall_run (M' := M') (Q' := fun r v' h' t' => Gx Γ M (pc + 3) ls (if M'.2.2.2.1 = none then st else r :: st) v' h' t' bc' bs' Q) (rest := st.map (gCv Γ)) ?_ h2 (fun r v' h' t' H1 locs1 hk9 hq hra hR hz hS => ?_)
  · have hf : cells + M'.2.2.2.2.2.cells ≤ R.cells ∧ slots + M'.2.2.2.2.2.slots ≤ R.slots := ⟨by omega, by omega⟩
    have hrm := hrm
    rw [← Cx.2.2.2.2.2.2.1] at hrm
    have hW : 2 * (F0 m pc lsa (st0.map (gCv Γ))).monitorRoom + ((st.map (gCv Γ)).map fun v => v.category).sum ≤ 8 := lv_room (by rw [gCs_sum]; exact Nat.le_of_ble_eq_true hcs)
    exact va_runI (As := As.map (gCv Γ)) (rest := st.map (gCv Γ)) (b := gB Γ + a.toNat) ⟨Cx.1, Cx.2.1, Cx.2.2.1, Cx.2.2.2.1, hts⟩ kk (cwI n0 hts (lw_meth q5) (by rw [hret]) rfl rfl (hts _ q4) (by rw [← ho]; exact hts _ q1) (hts _ q2) hy hd hrm) ⟨gBlind, fun U hU hWm => ⟨by rw [hargs], by rw [hU]; exact h1, hK.moved hWm, hrB.1, hrAs⟩⟩ rfl (by rw [List.length_map]; exact hn0) (by show lsa.size = M.2.2.1; exact h5.1) hstk hW d hf
  · have ht : t ≤ t' := by have := hR.1; have := h1.1; omega
    have hk2 := hq p e R s m args below meth c Z Cx H1 locs1 (cells + M'.2.2.2.2.2.cells) (slots + M'.2.2.2.2.2.slots) lsa hR hS (by omega) (by omega) h5 (gRs_mono ht h6) ?_
    · by_cases hn : M'.2.2.2.1 = none
      · rw [if_pos (hk9.mpr hn)]
        rw [if_pos hn] at hk2
        exact hk2
      · rw [if_neg (fun z => hn (hk9.mp z))]
        rw [if_neg hn] at hk2
        exact hk2
    · split
      · exact gRs_mono ht hrst
      · first | exact ⟨hra, gRs_mono ht hrst⟩ | exact gRs_mono ht hrst
theorem Gx_callIN {M' : gI} {idx k n0 bc' bs' : Nat} {a n : Int} {As st0 : List gV} {C own host : String} {T : u_T} {N : Nat} (hst0 : As.reverse ++ (2, a) :: st = st0) (hn0 : As.length = n0) (d : decode M.2.1 pc = .ok (.invokespecial idx, 3)) (ho : own = M.2.2.2.2.1) (hh : h a = (k, n)) (hk : gO k = true) (hr : gCl[gCi k]? = some (C, T, N)) (hret : M'.2.2.2.1 = none) (q1 : Cond.methodLinkNest own idx M'.1 host ∈ lw_tbl) (q2 : Cond.instanceMethod M'.1 ∈ lw_all) (q4 : Cond.initialized M'.1.cls ∈ lw_all) (q5 : Cond.code M'.1 M'.2.1 M'.2.2.1 M'.2.2.2.1 ∈ lw_all) (hy : M'.1.name = "<init>") (hd : M'.1.cls ≠ "java/lang/invoke/MethodHandle" ∧ M'.1.cls ≠ "java/lang/invoke/VarHandle" ∧ (parseMethodDescriptor M'.1.desc).map (fun d => d.parameters.length) = some n0) (hrm : M'.2.2.2.2.2.frames + 1 ≤ M.2.2.2.2.2.frames ∧ 8 + (M'.2.2.1 + 11) + M'.2.2.2.2.2.locals ≤ M.2.2.2.2.2.locals) (hcs : (gCs st).ble 8 = true) (hb1 : M'.2.2.2.2.2.cells + bc' ≤ bc) (hb2 : M'.2.2.2.2.2.slots + bs' ≤ bs) (kk : Ctr Γ M' ((2, a) :: As) v h t (fun r v' h' t' => Gx Γ M (pc + 3) ls (if M'.2.2.2.1 = none then st else r :: st) v' h' t' bc' bs' Q)) : Gx Γ M pc ls st0 v h t bc bs Q := by
  intro p e R s m args below meth c Z Cx H locs cells slots lsa h1 h2 h3 h4 h5 h6 h7
  obtain ⟨hrA, hrB⟩ := gRs_app (by rw [← hst0] at h7; exact h7 : gRs t (As.reverse ++ (2, a) :: st))
  have hrAs := gRs_rev hrA
  have hrst := hrB.2
  have ha := gR_in h1 hh (by rintro rfl; revert hk; decide)
  have hA := h1.2.2.2 a ha.1 ha.2
  unfold gAt at hA
  rw [hh] at hA
  obtain ⟨r', e1, e2, -⟩ := hA.1 hk
  have : r' = (C, T, N) := Option.some.inj (e1.symm.trans hr)
  subst this
  obtain ⟨cell, z1, z2, z3, -⟩ := e2
  have hK := Cx.2.2.2.2.1
  have hts := hK.hts args
  have hcls := (hK.1.1 (gCi k) _ hr).2.1
  have hstk : st0.map (gCv Γ) = (As.map (gCv Γ)).reverse ++ .ref (gB Γ + a.toNat) :: st.map (gCv Γ) := by
    rw [← hst0, List.map_append, List.map_reverse, List.map_cons]
    show _ ++ gRv _ _ :: _ = _
    rw [gRv_ref ha.1]
  have hargs : ((2, a) :: As).map (gCv Γ) = Value.ref (gB Γ + a.toNat) :: As.map (gCv Γ) := by
    rw [List.map_cons]
    show gRv _ _ :: _ = _
    rw [gRv_ref ha.1]
  refine gCall_run (M' := M') (Q' := fun r v' h' t' => Gx Γ M (pc + 3) ls (if M'.2.2.2.1 = none then st else r :: st) v' h' t' bc' bs' Q) (rest := st.map (gCv Γ)) ?_ h2 (fun r v' h' t' H1 locs1 hk9 hq hra hR hz hS => ?_)
  · have hf : cells + M'.2.2.2.2.2.cells ≤ R.cells ∧ slots + M'.2.2.2.2.2.slots ≤ R.slots := ⟨by omega, by omega⟩
    have hrm := hrm
    rw [← Cx.2.2.2.2.2.2.1] at hrm
    have hW : 2 * (F0 m pc lsa (st0.map (gCv Γ))).monitorRoom + ((st.map (gCv Γ)).map fun v => v.category).sum ≤ 8 := lv_room (by rw [gCs_sum]; exact Nat.le_of_ble_eq_true hcs)
    exact va_runIN (As := As.map (gCv Γ)) (rest := st.map (gCv Γ)) (b := gB Γ + a.toNat) ⟨Cx.1, Cx.2.1, Cx.2.2.1, Cx.2.2.2.1, hts⟩ kk ⟨va_cnB n0 hts (lw_meth q5) (by rw [hret]) rfl rfl (by rw [← ho]; exact va_Nw.warmM hK.2.2.2.1 (va_Nw.of rfl (hK.2.1 _ q1))) (hts _ q4) hd hrm, hy, hts _ q2⟩ ⟨gBlind, fun U hU hWm => ⟨by rw [hargs], by rw [hU]; exact h1, hK.moved hWm, hrB.1, hrAs⟩⟩ rfl (by rw [List.length_map]; exact hn0) (by show lsa.size = M.2.2.1; exact h5.1) hstk hW d hf
  · have ht : t ≤ t' := by have := hR.1; have := h1.1; omega
    have hk2 := hq p e R s m args below meth c Z Cx H1 locs1 (cells + M'.2.2.2.2.2.cells) (slots + M'.2.2.2.2.2.slots) lsa hR hS (by omega) (by omega) h5 (gRs_mono ht h6) ?_
    · by_cases hn : M'.2.2.2.1 = none
      · rw [if_pos (hk9.mpr hn)]
        rw [if_pos hn] at hk2
        exact hk2
      · rw [if_neg (fun z => hn (hk9.mp z))]
        rw [if_neg hn] at hk2
        exact hk2
    · split
      · exact gRs_mono ht hrst
      · first | exact ⟨hra, gRs_mono ht hrst⟩ | exact gRs_mono ht hrst
theorem Gx_callS {M' : gI} {idx n0 bc' bs' : Nat} {As st0 : List gV} {own : String} (hst0 : As.reverse ++ st = st0) (hn0 : As.length = n0) (d : decode M.2.1 pc = .ok (.invokestatic idx, 3)) (ho : own = M.2.2.2.2.1) (q1 : Cond.methodLink own idx M'.1 ∈ lw_all) (q2 : Cond.static M'.1 ∈ lw_all) (q4 : Cond.initialized M'.1.cls ∈ lw_all) (q5 : Cond.code M'.1 M'.2.1 M'.2.2.1 M'.2.2.2.1 ∈ lw_all) (hd : M'.1.cls ≠ "java/lang/invoke/MethodHandle" ∧ M'.1.cls ≠ "java/lang/invoke/VarHandle" ∧ (parseMethodDescriptor M'.1.desc).map (fun d => d.parameters.length) = some n0) (hrm : M'.2.2.2.2.2.frames + 1 ≤ M.2.2.2.2.2.frames ∧ 8 + (M'.2.2.1 + 11) + M'.2.2.2.2.2.locals ≤ M.2.2.2.2.2.locals) (hcs : (gCs st).ble 8 = true) (hb1 : M'.2.2.2.2.2.cells + bc' ≤ bc) (hb2 : M'.2.2.2.2.2.slots + bs' ≤ bs) (kk : Ctr Γ M' As v h t (fun r v' h' t' => Gx Γ M (pc + 3) ls (if M'.2.2.2.1 = none then st else r :: st) v' h' t' bc' bs' Q)) : Gx Γ M pc ls st0 v h t bc bs Q := by
  intro p e R s m args below meth c Z Cx H locs cells slots lsa h1 h2 h3 h4 h5 h6 h7
  obtain ⟨hrA, hrst⟩ := gRs_app (by rw [← hst0] at h7; exact h7 : gRs t (As.reverse ++ st))
  have hrAs := gRs_rev hrA
  have hK := Cx.2.2.2.2.1
  have hts := hK.hts args
  have hstk : st0.map (gCv Γ) = (As.map (gCv Γ)).reverse ++ st.map (gCv Γ) := by
    rw [← hst0, List.map_append, List.map_reverse]
  refine gCall_run (M' := M') (Q' := fun r v' h' t' => Gx Γ M (pc + 3) ls (if M'.2.2.2.1 = none then st else r :: st) v' h' t' bc' bs' Q) (rest := st.map (gCv Γ)) ?_ h2 (fun r v' h' t' H1 locs1 hk9 hq hra hR hz hS => ?_)
  · have hf : cells + M'.2.2.2.2.2.cells ≤ R.cells ∧ slots + M'.2.2.2.2.2.slots ≤ R.slots := ⟨by omega, by omega⟩
    have hrm := hrm
    rw [← Cx.2.2.2.2.2.2.1] at hrm
    have hW : 2 * (F0 m pc lsa (st0.map (gCv Γ))).monitorRoom + ((st.map (gCv Γ)).map fun v => v.category).sum ≤ 8 := lv_room (by rw [gCs_sum]; exact Nat.le_of_ble_eq_true hcs)
    exact va_runS (As := As.map (gCv Γ)) (rest := st.map (gCv Γ)) ⟨Cx.1, Cx.2.1, Cx.2.2.1, Cx.2.2.2.1, hts⟩ kk (va_cwS n0 hts (by rw [← ho]; exact lw_S q1 q2 q4 q5) rfl rfl rfl hd hrm) ⟨gBlind, fun U hU hWm => ⟨rfl, by rw [hU]; exact h1, hK.moved hWm, hrAs⟩⟩ rfl (by rw [List.length_map]; exact hn0) (by show lsa.size = M.2.2.1; exact h5.1) hstk hW d hf
  · have ht : t ≤ t' := by have := hR.1; have := h1.1; omega
    have hk2 := hq p e R s m args below meth c Z Cx H1 locs1 (cells + M'.2.2.2.2.2.cells) (slots + M'.2.2.2.2.2.slots) lsa hR hS (by omega) (by omega) h5 (gRs_mono ht h6) ?_
    · by_cases hn : M'.2.2.2.1 = none
      · rw [if_pos (hk9.mpr hn)]
        rw [if_pos hn] at hk2
        exact hk2
      · rw [if_neg (fun z => hn (hk9.mp z))]
        rw [if_neg hn] at hk2
        exact hk2
    · split
      · exact gRs_mono ht hrst
      · first | exact ⟨hra, gRs_mono ht hrst⟩ | exact gRs_mono ht hrst
end
