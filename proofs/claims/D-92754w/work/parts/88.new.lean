/-! THE ABSTRACT LAYER, 6: new cells, references stored, Math, casts, sealing -/
def gNf (v : gM) (a : Int) (f : Int → Int) : gM := fun b k => if b = a then f k else v b k
def gDf (ty : FieldType) : Int := match ty with
  | .array _ => -1
  | .object _ => -1
  | _ => 0
def gOkT (ty : FieldType) : Bool := match ty with
  | .float => false
  | .double => false
  | _ => true
section
variable {Γ : gC} {M : gI} {pc : Nat} {ls st : List gV} {v : gM} {h : gH} {t bc bs : Nat} {Q : gQ}
theorem gNf_ne {a b k : Int} {f : Int → Int} (hb : b ≠ a) : gNf v a f b k = v b k := if_neg hb
theorem gNf_at {a k : Int} {f : Int → Int} : gNf v a f a k = f k := if_pos rfl
theorem gUpH_ne {a b : Int} {n : Nat × Int} (hb : b ≠ a) : gUpH h a n b = h b := if_neg hb
theorem gUpH_at {a : Int} {n : Nat × Int} : gUpH h a n a = n := if_pos rfl
theorem gDf_ct {ty : FieldType} (hk : gOkT ty = true) (B : Nat) : defaultValue ty = gCt B ty (gDf ty) := by
  cases ty <;> first | rfl | (simp [gOkT] at hk)
theorem gDf_rt (ty : FieldType) (t : Nat) : gRt t ty (gDf ty) := by
  cases ty <;> simp only [gRt, gDf] <;> first | omega | (unfold r32; omega) | (unfold r64; omega)
theorem gR_new {H H' : Heap} {f : Int → Int} {n : Nat × Int} (hH : gR Γ v h t H) (hz : H'.size = H.size + 1) (ho : ∀ q, q < H.size → H'[q]? = H[q]?) (hA : gAt Γ (gNf v t f) (gUpH h t n) (t + 1) t H') : gR Γ (gNf v t f) (gUpH h t n) (t + 1) H' := by
  have hs := hH.1
  refine ⟨by rw [hz, hs]; omega, fun q hq => (ho q (by omega)).trans (hH.2.1 q hq), fun a ha => ?_, fun a h1 h2 => ?_⟩
  · rw [gUpH_ne (by omega)]
    exact hH.2.2.1 a (by omega)
  · by_cases e : a = t
    · rw [e]; exact hA
    · exact gAt_kept (fun j => gNf_ne e) (gUpH_ne e) (by omega) (ho _ (by omega)) (hH.2.2.2 a h1 (by omega))
theorem gS_new {H0 H H' : Heap} {locs : List Loc} {A : Nat → Prop} (hS : va_S A H0 H locs) (hz : H'.size = H.size + 1) (ho : ∀ q, q < H.size → H'[q]? = H[q]?) : va_S A H0 H' locs :=
  ⟨Nat.le_trans hS.1 (by omega), fun x h1 h2 => (ho x (Nat.lt_of_lt_of_le h1 hS.1)).trans (hS.2.1 x h1 h2), hS.2.2⟩
theorem gAr_new {H' : Heap} {k : Nat} {n : Int} {cA : ClassId} (hk : 10 ≤ k ∧ k ≤ 18) (hn : 0 ≤ n ∧ n < 2147483648) (hc : cA = Γ.2.2.2.1 k) (e : H'[gB Γ + t]? = some (arrV cA n.toNat (fun _ => defaultValue (gEt k)))) : gAt Γ (gNf v t (fun _ => gDf (gEt k))) (gUpH h t (k, n)) (t + 1) t H' := by
  have hot : gOkT (gEt k) = true := by
    rcases (by omega : k = 10 ∨ k = 11 ∨ k = 12 ∨ k = 13 ∨ k = 14 ∨ k = 15 ∨ k = 16 ∨ k = 17 ∨ k = 18) with z | z | z | z | z | z | z | z | z <;> rw [z] <;> rfl
  unfold gAt
  rw [gUpH_at]
  refine ⟨fun ho => ?_, fun _ _ => ⟨?_, hn.1, hn.2, fun j j1 j2 => ?_⟩⟩
  · exfalso
    simp [gO] at ho
    omega
  · rw [show ((t : Int)).toNat = t by omega, e, hc]
    congr 2
    funext j
    rw [gNf_at]
    exact gDf_ct hot _
  · rw [gNf_at]
    exact gDf_rt _ _
/-- newarray -/
theorem Gx_newarr {n : Int} {k bc' bs' : Nat} {atp : ArrayType} (d : decode M.2.1 pc = .ok (.newarray atp, 2)) (hk : 10 ≤ k ∧ k ≤ 14) (hty : newarray.typeOf atp = gEt k) (q : Cond.arrayClass (gEt k) ∈ lw_all) (hn : 0 ≤ n ∧ n ≤ 60000000) (hb1 : bc' + 1 ≤ bc) (hb2 : n.toNat + bs' ≤ bs) (kk : Gx Γ M (pc + 2) ls ((2, (t : Int)) :: st) (gNf v t (fun _ => gDf (gEt k))) (gUpH h t (k, n)) (t + 1) bc' bs' Q) : Gx Γ M pc ls ((0, n) :: st) v h t bc bs Q := by
  intro p e R s m args below meth c Z Cx H locs cells slots lsa h1 h2 h3 h4 h5 h6 h7
  have hK := Cx.2.2.2.2.1
  have hts := hK.hts args
  obtain ⟨-, hRA⟩ := gTys_at (k := k) hK (by omega) (by omega)
  have hcl := clamp32 h7.1
  have hlt := lt32 h7.1 r32_0
  rw [of32_0] at hlt
  have hby : n.toNat * componentBytes (gEt k) ≤ 536870912 := by
    rcases (by omega : k = 10 ∨ k = 11 ∨ k = 12 ∨ k = 13 ∨ k = 14) with z | z | z | z | z <;> rw [z] <;> simp only [gEt, componentBytes] <;> omega
  refine va_newaK (atype := atp) (N := n.toNat) (n := Int32.ofInt n) (rest := st.map (gCv Γ)) (h := gB Γ + t) Cx.1 Cx.2.1 (by rw [hty]; exact hts _ q) rfl d rfl (by rw [hlt]; omega) hcl (by rw [hty]; exact hby) (by omega) (by omega) h1.1 fun H' cA e1 z1 o1 hA hN => ?_
  rw [hty] at e1 hN
  have hc : cA = Γ.2.2.2.1 k := by
    have : va_RA s (Γ.2.2.2.1 k) (gEt k) = (s.vm.findClass ("[" ++ (gEt k).toString) = some (Γ.2.2.2.1 k)) := by
      rcases (by omega : k = 10 ∨ k = 11 ∨ k = 12 ∨ k = 13 ∨ k = 14) with z | z | z | z | z <;> rw [z] <;> rfl
    rw [this] at hRA
    exact Option.some.inj (hN.symm.trans hRA)
  have hz : H'.size = H.size + 1 := by rw [z1, h1.1]
  have ho : ∀ q, q < H.size → H'[q]? = H[q]? := fun q hq => o1 q (by rw [← h1.1]; exact hq)
  have hR := gR_new (n := (k, n)) h1 hz ho (gAr_new (v := v) (h := h) (by omega) (by omega) hc e1)
  have hk2 := kk p e R s m args below meth c Z Cx H' locs (cells + 1) (slots + n.toNat) lsa hR (gS_new h2 hz ho) (by omega) (by omega) h5 (gRs_mono (by omega) h6) ⟨⟨by omega, by omega⟩, gRs_mono (by omega) h7.2⟩
  have e9 : gCv Γ (2, (t : Int)) = .ref (gB Γ + t) := by
    show gRv _ _ = _
    rw [gRv_ref (by omega), show ((t : Int)).toNat = t by omega]
  rw [List.map_cons, e9] at hk2
  exact hk2
/-- new of a class of ours -/
theorem Gx_new {k idx bc' bs' : Nat} {C own : String} {T : u_T} {N : Nat} (d : decode M.2.1 pc = .ok (.new idx, 3)) (ho : own = M.2.2.2.2.1) (hk : k < 9) (hr : gCl[gCi k]? = some (C, T, N)) (hin : ∀ w ∈ u_ws C T N, w ∈ lw_all) (hty : ∀ j, j < N → parseFieldDescriptor (T j).2.2.1 = some (gTy (gCi k) j)) (hot : ∀ j, j < N → gOkT (gTy (gCi k) j) = true)
    (q1 : Cond.classLink own idx C ∈ lw_all) (q2 : Cond.instantiable C N ∈ lw_all) (q3 : Cond.initialized C ∈ lw_all) (hb1 : bc' + 1 ≤ bc) (hb2 : N + bs' ≤ bs) (kk : Gx Γ M (pc + 3) ls ((2, (t : Int)) :: st) (gNf v t (fun j => gDf (gTy (gCi k) j.toNat))) (gUpH h t (k, 0)) (t + 1) bc' bs' Q) : Gx Γ M pc ls st v h t bc bs Q := by
  intro p e R s m args below meth c Z Cx H locs cells slots lsa h1 h2 h3 h4 h5 h6 h7
  have hK := Cx.2.2.2.2.1
  have hts := hK.hts args
  have hKn := hK.1.1 (gCi k) _ hr
  refine W.newcK Cx.1 Cx.2.1 Cx.2.2.2.1 (by rw [← ho]; exact hts _ q1) (hts _ q2) (hts _ q3) rfl d (by omega) (by omega) hKn.2.1 h1.1 fun H' kC hkC e1 z1 o1 => ?_
  have hz : H'.size = H.size + 1 := by rw [z1, h1.1]
  have hoo : ∀ q, q < H.size → H'[q]? = H[q]? := fun q hq => o1 q (by rw [← h1.1]; exact hq)
  have hff : ∀ f : Nat, gFv k (gNf v t (fun j => gDf (gTy (gCi k) j.toNat))) t f = gDf (gTy (gCi k) f) := by
    intro f
    have : gOff k f = none := by
      rcases (by omega : k = 0 ∨ k = 1 ∨ k = 2 ∨ k = 3 ∨ k = 4 ∨ k = 5 ∨ k = 6 ∨ k = 7 ∨ k = 8) with z | z | z | z | z | z | z | z | z <;> rw [z] <;> rfl
    unfold gFv
    rw [this]
    show gNf _ _ _ _ _ = _
    rw [gNf_at]
    rfl
  have hA : gAt Γ (gNf v t (fun j => gDf (gTy (gCi k) j.toNat))) (gUpH h t (k, 0)) (t + 1) t H' := by
    unfold gAt
    rw [gUpH_at]
    refine ⟨fun _ => ⟨(C, T, N), hr, ?_, fun f hf => ?_⟩, fun z1 z2 => ?_⟩
    · rw [show ((t : Int)).toNat = t by omega]
      exact (u_born (gTy (gCi k)) hts hin hKn hkC e1 hty).to (fun j hj => by rw [hff]; exact gDf_ct (hot j hj) _)
    · rw [hff]
      exact gDf_rt _ _
    · exfalso
      dsimp only at z1
      omega
  have hR := gR_new (n := (k, 0)) h1 hz hoo hA
  have hk2 := kk p e R s m args below meth c Z Cx H' locs (cells + 1) (slots + N) lsa hR (gS_new h2 hz hoo) (by omega) (by omega) h5 (gRs_mono (by omega) h6) ⟨⟨by omega, by omega⟩, gRs_mono (by omega) h7⟩
  have e9 : gCv Γ (2, (t : Int)) = .ref (gB Γ + t) := by
    show gRv _ _ = _
    rw [gRv_ref (by omega), show ((t : Int)).toNat = t by omega]
  rw [List.map_cons, e9] at hk2
  exact hk2

theorem gAOA {t : FieldType} {u U : State} {A B : Array Value} (hvm : u.vm.Alike U.vm) (h : (Cond.arrayOver (.array t)).before A u = true) : (Cond.arrayOver (.array t)).before B U = true := by
  obtain ⟨comp, c, k, h1, h2, h3, h4, h5⟩ := arrayOverA_spec h
  obtain ⟨k', hk', he⟩ := hvm.2.2 _ _ h3
  have hi : (U.vm.classes.findIdx? fun (x : Class) => match x.kind with | .array component _ => component == comp | _ => false) = some c := by
    refine (va_idx_bare U.vm comp).symm.trans ?_
    refine Eq.trans ?_ ((va_idx_bare u.vm comp).trans h2)
    first | rw [hvm.bare_eq] | rw [← hvm.bare_eq]
  have hkind : k'.kind = .array comp (.array t) := by rw [he]; exact h4
  have f1 : U.vm.findClass (FieldType.array t).toString = some comp := by rw [hvm.findClass]; exact h1
  have f2 : U.vm.findClass ("[" ++ (FieldType.array t).toString) = some c := by rw [hvm.findClass]; exact h5
  unfold Cond.before Cond.holds
  simp only [Cond.value]
  rw [f1, Option.bind_some]
  refine (congrArg (fun o : Option Nat => (o.bind (fun c => (U.vm.classes[c]?).map fun (k : Class) => match k.kind with | .array _ ty => decide (ty = FieldType.array t) && decide (U.vm.findClass ("[" ++ (FieldType.array t).toString) = some c) | _ => false) == some true)) hi).trans ?_
  simp [hk', hkind, f2]

/-- anewarray, kind 15 -/
theorem Gx_anew15 {n : Int} {idx bc' bs' : Nat} {own : String} (d : decode M.2.1 pc = .ok (.anewarray idx, 3)) (ho : own = M.2.2.2.2.1) (q1 : Cond.classLink own idx (gEt 15).toString ∈ lw_all) (q2 : Cond.arrayOver (gEt 15) ∈ lw_tbl) (hn : 0 ≤ n ∧ n ≤ 60000000) (hb1 : bc' + 1 ≤ bc) (hb2 : n.toNat + bs' ≤ bs) (kk : Gx Γ M (pc + 3) ls ((2, (t : Int)) :: st) (gNf v t (fun _ => gDf (gEt 15))) (gUpH h t (15, n)) (t + 1) bc' bs' Q) : Gx Γ M pc ls ((0, n) :: st) v h t bc bs Q := by
  intro p e R s m args below meth c Z Cx H locs cells slots lsa h1 h2 h3 h4 h5 h6 h7
  have hK := Cx.2.2.2.2.1
  have hts := hK.hts args
  obtain ⟨-, hRA⟩ := gTys_at (k := 15) hK (by omega) (by omega)
  have hcl := clamp32 h7.1
  have hlt := lt32 h7.1 r32_0
  rw [of32_0] at hlt
  refine W.anewA (t := .int) (n := Int32.ofInt n) (rest := st.map (gCv Γ)) Cx.1 Cx.2.1 Cx.2.2.2.1 (by rw [← ho]; exact hts _ q1) (gAOA hK.2.2.2.1.alike (hK.2.1 _ q2)) rfl d rfl (by rw [hlt]; omega) (by rw [hcl]; omega) (by omega) (by rw [hcl]; omega) fun cA kA comp f1 f2 f3 f4 => ?_
  rw [hcl]
  generalize hH1 : H.push ({ cls := cA, slots := Array.replicate n.toNat .null, vm := .none } : Cell) = H'
  have hz : H'.size = H.size + 1 := by rw [← hH1, Array.size_push]
  have e1 : H'[gB Γ + t]? = some (arrV cA n.toNat (fun _ => defaultValue (gEt 15))) := by rw [← h1.1, ← hH1, Array.getElem?_push_size]; exact congrArg some (arrV_new _ _ _)
  have hoo : ∀ q : Nat, q < H.size → H'[q]? = H[q]? := fun q hq => by rw [← hH1, Array.getElem?_push, if_neg (Nat.ne_of_lt hq)]
  have hc : cA = Γ.2.2.2.1 15 := by
    exact Option.some.inj (f1.symm.trans hRA)
  have hR := gR_new (n := (15, n)) h1 hz hoo (gAr_new (v := v) (h := h) (by omega) (by omega) hc e1)
  have hk2 := kk p e R s m args below meth c Z Cx H' locs (cells + 1) (slots + n.toNat) lsa hR (gS_new h2 hz hoo) (by omega) (by omega) h5 (gRs_mono (by omega) h6) ⟨⟨by omega, by omega⟩, gRs_mono (by omega) h7.2⟩
  have e9 : gCv Γ (2, (t : Int)) = .ref H.size := by
    show gRv _ _ = _
    rw [gRv_ref (by omega), show ((t : Int)).toNat = t by omega, h1.1]
  rw [List.map_cons, e9] at hk2
  exact hk2

/-- anewarray, kind 16 -/
theorem Gx_anew16 {n : Int} {idx bc' bs' : Nat} {own : String} (d : decode M.2.1 pc = .ok (.anewarray idx, 3)) (ho : own = M.2.2.2.2.1) (q1 : Cond.classLink own idx (gEt 16).toString ∈ lw_all) (q2 : Cond.arrayOver (gEt 16) ∈ lw_tbl) (hn : 0 ≤ n ∧ n ≤ 60000000) (hb1 : bc' + 1 ≤ bc) (hb2 : n.toNat + bs' ≤ bs) (kk : Gx Γ M (pc + 3) ls ((2, (t : Int)) :: st) (gNf v t (fun _ => gDf (gEt 16))) (gUpH h t (16, n)) (t + 1) bc' bs' Q) : Gx Γ M pc ls ((0, n) :: st) v h t bc bs Q := by
  intro p e R s m args below meth c Z Cx H locs cells slots lsa h1 h2 h3 h4 h5 h6 h7
  have hK := Cx.2.2.2.2.1
  have hts := hK.hts args
  obtain ⟨-, hRA⟩ := gTys_at (k := 16) hK (by omega) (by omega)
  have hcl := clamp32 h7.1
  have hlt := lt32 h7.1 r32_0
  rw [of32_0] at hlt
  refine W.anewA (t := .byte) (n := Int32.ofInt n) (rest := st.map (gCv Γ)) Cx.1 Cx.2.1 Cx.2.2.2.1 (by rw [← ho]; exact hts _ q1) (gAOA hK.2.2.2.1.alike (hK.2.1 _ q2)) rfl d rfl (by rw [hlt]; omega) (by rw [hcl]; omega) (by omega) (by rw [hcl]; omega) fun cA kA comp f1 f2 f3 f4 => ?_
  rw [hcl]
  generalize hH1 : H.push ({ cls := cA, slots := Array.replicate n.toNat .null, vm := .none } : Cell) = H'
  have hz : H'.size = H.size + 1 := by rw [← hH1, Array.size_push]
  have e1 : H'[gB Γ + t]? = some (arrV cA n.toNat (fun _ => defaultValue (gEt 16))) := by rw [← h1.1, ← hH1, Array.getElem?_push_size]; exact congrArg some (arrV_new _ _ _)
  have hoo : ∀ q : Nat, q < H.size → H'[q]? = H[q]? := fun q hq => by rw [← hH1, Array.getElem?_push, if_neg (Nat.ne_of_lt hq)]
  have hc : cA = Γ.2.2.2.1 16 := by
    exact Option.some.inj (f1.symm.trans hRA)
  have hR := gR_new (n := (16, n)) h1 hz hoo (gAr_new (v := v) (h := h) (by omega) (by omega) hc e1)
  have hk2 := kk p e R s m args below meth c Z Cx H' locs (cells + 1) (slots + n.toNat) lsa hR (gS_new h2 hz hoo) (by omega) (by omega) h5 (gRs_mono (by omega) h6) ⟨⟨by omega, by omega⟩, gRs_mono (by omega) h7.2⟩
  have e9 : gCv Γ (2, (t : Int)) = .ref H.size := by
    show gRv _ _ = _
    rw [gRv_ref (by omega), show ((t : Int)).toNat = t by omega, h1.1]
  rw [List.map_cons, e9] at hk2
  exact hk2

/-- anewarray, kind 17 -/
theorem Gx_anew17 {n : Int} {idx bc' bs' : Nat} {own : String} (d : decode M.2.1 pc = .ok (.anewarray idx, 3)) (ho : own = M.2.2.2.2.1) (q1 : Cond.classLink own idx "AcornYears$Sort" ∈ lw_all) (q2 : Cond.arrayOver (gEt 17) ∈ lw_tbl) (hn : 0 ≤ n ∧ n ≤ 60000000) (hb1 : bc' + 1 ≤ bc) (hb2 : n.toNat + bs' ≤ bs) (kk : Gx Γ M (pc + 3) ls ((2, (t : Int)) :: st) (gNf v t (fun _ => gDf (gEt 17))) (gUpH h t (17, n)) (t + 1) bc' bs' Q) : Gx Γ M pc ls ((0, n) :: st) v h t bc bs Q := by
  intro p e R s m args below meth c Z Cx H locs cells slots lsa h1 h2 h3 h4 h5 h6 h7
  have hK := Cx.2.2.2.2.1
  have hts := hK.hts args
  obtain ⟨-, hRA⟩ := gTys_at (k := 17) hK (by omega) (by omega)
  have hcl := clamp32 h7.1
  have hlt := lt32 h7.1 r32_0
  rw [of32_0] at hlt
  refine W.anew (C := "AcornYears$Sort") (n := Int32.ofInt n) (rest := st.map (gCv Γ)) Cx.1 Cx.2.1 Cx.2.2.2.1 (by rw [← ho]; exact hts _ q1) (va_AO.use (va_AO.moved hK.2.2.2.1.alike (va_AO.of (hK.2.1 _ q2)))) rfl d rfl (by rw [hlt]; omega) (by rw [hcl]; omega) (by omega) (by rw [hcl]; omega) fun cA kA comp f1 f2 f3 f4 => ?_
  rw [hcl]
  generalize hH1 : H.push ({ cls := cA, slots := Array.replicate n.toNat .null, vm := .none } : Cell) = H'
  have hz : H'.size = H.size + 1 := by rw [← hH1, Array.size_push]
  have e1 : H'[gB Γ + t]? = some (arrV cA n.toNat (fun _ => defaultValue (gEt 17))) := by rw [← h1.1, ← hH1, Array.getElem?_push_size]; exact congrArg some (arrV_new _ _ _)
  have hoo : ∀ q : Nat, q < H.size → H'[q]? = H[q]? := fun q hq => by rw [← hH1, Array.getElem?_push, if_neg (Nat.ne_of_lt hq)]
  have hc : cA = Γ.2.2.2.1 17 := by
    obtain ⟨_, _, _, _, _, g4⟩ := hRA
    exact Option.some.inj (f1.symm.trans g4)
  have hR := gR_new (n := (17, n)) h1 hz hoo (gAr_new (v := v) (h := h) (by omega) (by omega) hc e1)
  have hk2 := kk p e R s m args below meth c Z Cx H' locs (cells + 1) (slots + n.toNat) lsa hR (gS_new h2 hz hoo) (by omega) (by omega) h5 (gRs_mono (by omega) h6) ⟨⟨by omega, by omega⟩, gRs_mono (by omega) h7.2⟩
  have e9 : gCv Γ (2, (t : Int)) = .ref H.size := by
    show gRv _ _ = _
    rw [gRv_ref (by omega), show ((t : Int)).toNat = t by omega, h1.1]
  rw [List.map_cons, e9] at hk2
  exact hk2

/-- anewarray, kind 18 -/
theorem Gx_anew18 {n : Int} {idx bc' bs' : Nat} {own : String} (d : decode M.2.1 pc = .ok (.anewarray idx, 3)) (ho : own = M.2.2.2.2.1) (q1 : Cond.classLink own idx "AcornYears$Tree" ∈ lw_all) (q2 : Cond.arrayOver (gEt 18) ∈ lw_tbl) (hn : 0 ≤ n ∧ n ≤ 60000000) (hb1 : bc' + 1 ≤ bc) (hb2 : n.toNat + bs' ≤ bs) (kk : Gx Γ M (pc + 3) ls ((2, (t : Int)) :: st) (gNf v t (fun _ => gDf (gEt 18))) (gUpH h t (18, n)) (t + 1) bc' bs' Q) : Gx Γ M pc ls ((0, n) :: st) v h t bc bs Q := by
  intro p e R s m args below meth c Z Cx H locs cells slots lsa h1 h2 h3 h4 h5 h6 h7
  have hK := Cx.2.2.2.2.1
  have hts := hK.hts args
  obtain ⟨-, hRA⟩ := gTys_at (k := 18) hK (by omega) (by omega)
  have hcl := clamp32 h7.1
  have hlt := lt32 h7.1 r32_0
  rw [of32_0] at hlt
  refine W.anew (C := "AcornYears$Tree") (n := Int32.ofInt n) (rest := st.map (gCv Γ)) Cx.1 Cx.2.1 Cx.2.2.2.1 (by rw [← ho]; exact hts _ q1) (va_AO.use (va_AO.moved hK.2.2.2.1.alike (va_AO.of (hK.2.1 _ q2)))) rfl d rfl (by rw [hlt]; omega) (by rw [hcl]; omega) (by omega) (by rw [hcl]; omega) fun cA kA comp f1 f2 f3 f4 => ?_
  rw [hcl]
  generalize hH1 : H.push ({ cls := cA, slots := Array.replicate n.toNat .null, vm := .none } : Cell) = H'
  have hz : H'.size = H.size + 1 := by rw [← hH1, Array.size_push]
  have e1 : H'[gB Γ + t]? = some (arrV cA n.toNat (fun _ => defaultValue (gEt 18))) := by rw [← h1.1, ← hH1, Array.getElem?_push_size]; exact congrArg some (arrV_new _ _ _)
  have hoo : ∀ q : Nat, q < H.size → H'[q]? = H[q]? := fun q hq => by rw [← hH1, Array.getElem?_push, if_neg (Nat.ne_of_lt hq)]
  have hc : cA = Γ.2.2.2.1 18 := by
    obtain ⟨_, _, _, _, _, g4⟩ := hRA
    exact Option.some.inj (f1.symm.trans g4)
  have hR := gR_new (n := (18, n)) h1 hz hoo (gAr_new (v := v) (h := h) (by omega) (by omega) hc e1)
  have hk2 := kk p e R s m args below meth c Z Cx H' locs (cells + 1) (slots + n.toNat) lsa hR (gS_new h2 hz hoo) (by omega) (by omega) h5 (gRs_mono (by omega) h6) ⟨⟨by omega, by omega⟩, gRs_mono (by omega) h7.2⟩
  have e9 : gCv Γ (2, (t : Int)) = .ref H.size := by
    show gRv _ _ = _
    rw [gRv_ref (by omega), show ((t : Int)).toNat = t by omega, h1.1]
  rw [List.map_cons, e9] at hk2
  exact hk2

end
