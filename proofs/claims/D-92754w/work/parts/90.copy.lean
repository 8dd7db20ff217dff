/-! THE ABSTRACT LAYER, 8: System.arraycopy, Math, call sites of sorts -/
def gCpy (v : gM) (a b sp dp n : Int) : gM := fun c k => if c = b ∧ dp ≤ k ∧ k < dp + n then v a (sp + (k - dp)) else v c k
abbrev yCopy : MethodName := ⟨"java/lang/System", "arraycopy", "(Ljava/lang/Object;ILjava/lang/Object;II)V"⟩
section
variable {Γ : gC} {M : gI} {pc : Nat} {ls st : List gV} {v : gM} {h : gH} {t bc bs : Nat} {Q : gQ}
theorem gCpy_ne {a b sp dp n c k : Int} (hc : ¬ (c = b ∧ dp ≤ k ∧ k < dp + n)) : gCpy v a b sp dp n c k = v c k := if_neg hc
theorem gCpy_at {a b sp dp n c k : Int} (hc : c = b ∧ dp ≤ k ∧ k < dp + n) : gCpy v a b sp dp n c k = v a (sp + (k - dp)) := if_pos hc
theorem gAr_cpy {a b sp dp n na nb : Int} {k : Nat} {H H' : Heap} (hk : 10 ≤ k ∧ k ≤ 18) (hhb : h b = (k, nb)) (hA : gAr Γ v t k na a H) (hB : gAr Γ v t k nb b H) (hn : 0 ≤ sp ∧ 0 ≤ dp ∧ 0 ≤ n ∧ sp + n ≤ na ∧ dp + n ≤ nb) (e : H'[gB Γ + b.toNat]? = some (arrV (Γ.2.2.2.1 k) nb.toNat (fun j => gCt (gB Γ) (gEt k) (va_cpy (fun j => v a (j : Int)) (fun j => v b (j : Int)) sp.toNat dp.toNat n.toNat j)))) : gAt Γ (gCpy v a b sp dp n) h t b H' := by
  have hj : ∀ j : Nat, gCpy v a b sp dp n b j = va_cpy (fun j => v a (j : Int)) (fun j => v b (j : Int)) sp.toNat dp.toNat n.toNat j := by
    intro j
    unfold va_cpy
    by_cases hc : dp.toNat ≤ j ∧ j < dp.toNat + n.toNat
    · rw [if_pos hc, gCpy_at ⟨rfl, by omega, by omega⟩]
      congr 1
      omega
    · rw [if_neg hc, gCpy_ne (by omega)]
  unfold gAt
  rw [hhb]
  refine ⟨fun ho => ?_, fun _ _ => ⟨?_, hB.2.1, hB.2.2.1, fun j j1 j2 => ?_⟩⟩
  · exfalso
    simp [gO] at ho
    omega
  · rw [e]
    congr 2
    funext j
    rw [hj]
  · by_cases hc : dp ≤ j ∧ j < dp + n
    · rw [gCpy_at ⟨rfl, hc⟩]
      exact hA.2.2.2 _ (by omega) (by omega)
    · rw [gCpy_ne (by omega)]
      exact hB.2.2.2 j j1 j2

theorem Gx_acopy10 {a b sp dp n na nb : Int} {idx : Nat} {own : String} (d : decode M.2.1 pc = .ok (.invokestatic idx, 3)) (ho : own = M.2.2.2.2.1) (hha : h a = (10, na)) (hhb : h b = (10, nb)) (q1 : Cond.methodLink own idx yCopy ∈ lw_all) (q2 : Cond.native yCopy ∈ lw_all) (q3 : Cond.static yCopy ∈ lw_all) (q4 : Cond.initialized "java/lang/System" ∈ lw_all) (hn : 0 ≤ sp ∧ 0 ≤ dp ∧ 0 ≤ n ∧ sp + n ≤ na ∧ dp + n ≤ nb) (hrm : 1 ≤ M.2.2.2.2.2.frames ∧ 26 ≤ M.2.2.2.2.2.locals) (hcs : (gCs st).ble 8 = true) (kk : Gx Γ M (pc + 3) ls st (gCpy v a b sp dp n) h t bc bs Q) : Gx Γ M pc ls ((0, n) :: (0, dp) :: (2, b) :: (0, sp) :: (2, a) :: st) v h t bc bs Q := by
  intro p e R s m args below meth c Z Cx H locs cells slots lsa h1 h2 h3 h4 h5 h6 h7
  obtain ⟨ha, hA⟩ := gR_arr h1 hha (by omega) (by omega)
  obtain ⟨hb, hB⟩ := gR_arr h1 hhb (by omega) (by omega)
  have hK := Cx.2.2.2.2.1
  have hts := hK.hts args
  obtain ⟨hT, hRA⟩ := gTys_at (k := 10) hK (by omega) (by omega)
  have hrm := hrm
  rw [← Cx.2.2.2.2.2.2.1] at hrm
  have hW : 2 * (F0 m pc lsa (((0, n) :: (0, dp) :: (2, b) :: (0, sp) :: (2, a) :: st).map (gCv Γ))).monitorRoom + ((st.map (gCv Γ)).map fun v => v.category).sum ≤ 8 := lv_room (by rw [gCs_sum]; exact Nat.le_of_ble_eq_true hcs)
  have hnn := lt32 h7.1 r32_0
  have hnd := lt32 h7.2.1 r32_0
  have hns := lt32 h7.2.2.2.1 r32_0
  rw [of32_0] at hnn hnd hns
  have cn := clamp32 h7.1
  have cd := clamp32 h7.2.1
  have csp := clamp32 h7.2.2.2.1
  have tn := toInt32 h7.1
  have td := toInt32 h7.2.1
  have tsp := toInt32 h7.2.2.2.1
  show W _ _ _ _ _ _ _ _ _ _ _ _ _ _ _ (F0 m pc lsa (.int (Int32.ofInt n) :: .int (Int32.ofInt dp) :: gRv (gB Γ) b :: .int (Int32.ofInt sp) :: gRv (gB Γ) a :: st.map (gCv Γ)))
  rw [gRv_ref ha.1, gRv_ref hb.1]
  intro T hT0 X
  obtain ⟨-, k0, hk0, cm0, hkk0⟩ := hT na.toNat (fun j => gCt (gB Γ) (gEt 10) (v a j))
  obtain ⟨vm', X', step⟩ := X.arraycopy Cx.1 Cx.2.2.2.1 (by rw [← ho]; exact hts _ q1) (hts _ q2) (hts _ q3) (hts _ q4) (src := gB Γ + a.toNat) (dst := gB Γ + b.toNat) (cs := arrV (Γ.2.2.2.1 10) na.toNat (fun j => gCt (gB Γ) (gEt 10) (v a j))) (cd := arrV (Γ.2.2.2.1 10) nb.toNat (fun j => gCt (gB Γ) (gEt 10) (v b j))) (srcPos := Int32.ofInt sp) (destPos := Int32.ofInt dp) (n := Int32.ofInt n) (by rw [hT0]; exact hA.1) (by rw [hT0]; exact hB.1)
    (fun _ z => by cases z) (fun _ z => by cases z) (fun z => by cases z) (fun z => by cases z) hk0 hk0 hkk0 hkk0 (by simp [gEt, refKind]) (by rw [hns]; omega) (by rw [hnd]; omega) (by rw [hnn]; omega)
    (by rw [tsp, tn, arrV_size]; omega)
    (by rw [td, tn, arrV_size]; omega)
    (fun vm₁ hal i hi => by
      have hi' : i < n.toNat := by rw [cn] at hi; exact hi
      have e : (arrV (Γ.2.2.2.1 10) na.toNat (fun j => gCt (gB Γ) (gEt 10) (v a j))).slots.getD ((Int32.ofInt sp).toNatClampNeg + i) .null = gCt (gB Γ) (gEt 10) (v a ((sp.toNat + i : Nat) : Int)) := by
        rw [csp, Array.getD_eq_getD_getElem?, arrV_read _ _ (by omega)]
        rfl
      refine ⟨?_, ?_⟩
      · rw [e]; rfl
      · rw [e]; exact trivial)
    (g := F0 m pc lsa (.int (Int32.ofInt n) :: .int (Int32.ofInt dp) :: .ref (gB Γ + b.toNat) :: .int (Int32.ofInt sp) :: .ref (gB Γ + a.toNat) :: st.map (gCv Γ))) rfl (by show lsa.size = _; rw [Cx.2.2.1]; exact h5.1) (rest := st.map (gCv Γ)) rfl (by rw [Cx.2.1]; exact d) hrm.1 (by have e7 : nativeFrameWords "java/lang/System" "arraycopy" 5 = 7 := rfl; rw [e7]; show 2 * 0 + _ + _ ≤ _; omega)
  have e1 : copied (arrV (Γ.2.2.2.1 10) na.toNat (fun j => gCt (gB Γ) (gEt 10) (v a j))) (arrV (Γ.2.2.2.1 10) nb.toNat (fun j => gCt (gB Γ) (gEt 10) (v b j))) (Int32.ofInt sp) (Int32.ofInt dp) (Int32.ofInt n) = arrV (Γ.2.2.2.1 10) nb.toNat (fun j => gCt (gB Γ) (gEt 10) (va_cpy (fun j => v a (j : Int)) (fun j => v b (j : Int)) sp.toNat dp.toNat n.toNat j)) := by
    rw [← csp, ← cd, ← cn]
    exact va_copied (fun z => gCt (gB Γ) (gEt 10) z) _ _ (fun j => v a (j : Int)) (fun j => v b (j : Int)) (by rw [csp, cn]; omega)
  rw [e1] at X' step
  generalize hC : arrV (Γ.2.2.2.1 10) nb.toNat (fun j => gCt (gB Γ) (gEt 10) (va_cpy (fun j => v a (j : Int)) (fun j => v b (j : Int)) sp.toNat dp.toNat n.toNat j)) = C at X' step
  have hl : gB Γ + b.toNat < H.size := (Array.getElem?_eq_some_iff.mp hB.1).1
  have hheap : ((T.setVm vm').setCell (gB Γ + b.toNat) C).heap = H.setIfInBounds (gB Γ + b.toNat) C := by rw [← hT0]; rfl
  have z3 : ∀ q : Nat, q ≠ gB Γ + b.toNat → (H.setIfInBounds (gB Γ + b.toNat) C)[q]? = H[q]? := fun q hq => by simp [Array.getElem?_setIfInBounds, Ne.symm hq]
  have z1 : (H.setIfInBounds (gB Γ + b.toNat) C)[gB Γ + b.toNat]? = some C := by simp [Array.getElem?_setIfInBounds, hl]
  have z2 : (H.setIfInBounds (gB Γ + b.toNat) C).size = H.size := by simp
  rw [← hC] at z1 z2 z3
  have hR := gR_set (v' := gCpy v a b sp dp n) h1 hb z2 z3 (fun c j hc => gCpy_ne (fun z => hc z.1)) (gAr_cpy (by omega) hhb hA hB hn z1)
  rw [hC] at hR z2 z3
  obtain ⟨t', a1, b1⟩ := kk p e R s m args below meth c Z Cx _ _ cells slots lsa hR ⟨by rw [z2]; exact h2.1, fun q g1 g2 => by
      rw [z3 q (fun z => g2 (by show gB Γ ≤ q; omega))]
      exact h2.2.1 q g1 g2, fun q hq => by
      rcases List.mem_append.mp hq with z | z
      · exact h2.2.2 q z
      · obtain ⟨y, -, hz⟩ := List.mem_map.mp z
        rw [← hz]
        show gB Γ ≤ gB Γ + b.toNat
        omega⟩ h3 h4 h5 h6 h7.2.2.2.2.2 _ hheap X'
  exact ⟨t', step t' a1, b1⟩

theorem Gx_acopy14 {a b sp dp n na nb : Int} {idx : Nat} {own : String} (d : decode M.2.1 pc = .ok (.invokestatic idx, 3)) (ho : own = M.2.2.2.2.1) (hha : h a = (14, na)) (hhb : h b = (14, nb)) (q1 : Cond.methodLink own idx yCopy ∈ lw_all) (q2 : Cond.native yCopy ∈ lw_all) (q3 : Cond.static yCopy ∈ lw_all) (q4 : Cond.initialized "java/lang/System" ∈ lw_all) (hn : 0 ≤ sp ∧ 0 ≤ dp ∧ 0 ≤ n ∧ sp + n ≤ na ∧ dp + n ≤ nb) (hrm : 1 ≤ M.2.2.2.2.2.frames ∧ 26 ≤ M.2.2.2.2.2.locals) (hcs : (gCs st).ble 8 = true) (kk : Gx Γ M (pc + 3) ls st (gCpy v a b sp dp n) h t bc bs Q) : Gx Γ M pc ls ((0, n) :: (0, dp) :: (2, b) :: (0, sp) :: (2, a) :: st) v h t bc bs Q := by
  intro p e R s m args below meth c Z Cx H locs cells slots lsa h1 h2 h3 h4 h5 h6 h7
  obtain ⟨ha, hA⟩ := gR_arr h1 hha (by omega) (by omega)
  obtain ⟨hb, hB⟩ := gR_arr h1 hhb (by omega) (by omega)
  have hK := Cx.2.2.2.2.1
  have hts := hK.hts args
  obtain ⟨hT, hRA⟩ := gTys_at (k := 14) hK (by omega) (by omega)
  have hrm := hrm
  rw [← Cx.2.2.2.2.2.2.1] at hrm
  have hW : 2 * (F0 m pc lsa (((0, n) :: (0, dp) :: (2, b) :: (0, sp) :: (2, a) :: st).map (gCv Γ))).monitorRoom + ((st.map (gCv Γ)).map fun v => v.category).sum ≤ 8 := lv_room (by rw [gCs_sum]; exact Nat.le_of_ble_eq_true hcs)
  have hnn := lt32 h7.1 r32_0
  have hnd := lt32 h7.2.1 r32_0
  have hns := lt32 h7.2.2.2.1 r32_0
  rw [of32_0] at hnn hnd hns
  have cn := clamp32 h7.1
  have cd := clamp32 h7.2.1
  have csp := clamp32 h7.2.2.2.1
  have tn := toInt32 h7.1
  have td := toInt32 h7.2.1
  have tsp := toInt32 h7.2.2.2.1
  show W _ _ _ _ _ _ _ _ _ _ _ _ _ _ _ (F0 m pc lsa (.int (Int32.ofInt n) :: .int (Int32.ofInt dp) :: gRv (gB Γ) b :: .int (Int32.ofInt sp) :: gRv (gB Γ) a :: st.map (gCv Γ)))
  rw [gRv_ref ha.1, gRv_ref hb.1]
  intro T hT0 X
  obtain ⟨-, k0, hk0, cm0, hkk0⟩ := hT na.toNat (fun j => gCt (gB Γ) (gEt 14) (v a j))
  obtain ⟨vm', X', step⟩ := X.arraycopy Cx.1 Cx.2.2.2.1 (by rw [← ho]; exact hts _ q1) (hts _ q2) (hts _ q3) (hts _ q4) (src := gB Γ + a.toNat) (dst := gB Γ + b.toNat) (cs := arrV (Γ.2.2.2.1 14) na.toNat (fun j => gCt (gB Γ) (gEt 14) (v a j))) (cd := arrV (Γ.2.2.2.1 14) nb.toNat (fun j => gCt (gB Γ) (gEt 14) (v b j))) (srcPos := Int32.ofInt sp) (destPos := Int32.ofInt dp) (n := Int32.ofInt n) (by rw [hT0]; exact hA.1) (by rw [hT0]; exact hB.1)
    (fun _ z => by cases z) (fun _ z => by cases z) (fun z => by cases z) (fun z => by cases z) hk0 hk0 hkk0 hkk0 (by simp [gEt, refKind]) (by rw [hns]; omega) (by rw [hnd]; omega) (by rw [hnn]; omega)
    (by rw [tsp, tn, arrV_size]; omega)
    (by rw [td, tn, arrV_size]; omega)
    (fun vm₁ hal i hi => by
      have hi' : i < n.toNat := by rw [cn] at hi; exact hi
      have e : (arrV (Γ.2.2.2.1 14) na.toNat (fun j => gCt (gB Γ) (gEt 14) (v a j))).slots.getD ((Int32.ofInt sp).toNatClampNeg + i) .null = gCt (gB Γ) (gEt 14) (v a ((sp.toNat + i : Nat) : Int)) := by
        rw [csp, Array.getD_eq_getD_getElem?, arrV_read _ _ (by omega)]
        rfl
      refine ⟨?_, ?_⟩
      · rw [e]; rfl
      · rw [e]; exact trivial)
    (g := F0 m pc lsa (.int (Int32.ofInt n) :: .int (Int32.ofInt dp) :: .ref (gB Γ + b.toNat) :: .int (Int32.ofInt sp) :: .ref (gB Γ + a.toNat) :: st.map (gCv Γ))) rfl (by show lsa.size = _; rw [Cx.2.2.1]; exact h5.1) (rest := st.map (gCv Γ)) rfl (by rw [Cx.2.1]; exact d) hrm.1 (by have e7 : nativeFrameWords "java/lang/System" "arraycopy" 5 = 7 := rfl; rw [e7]; show 2 * 0 + _ + _ ≤ _; omega)
  have e1 : copied (arrV (Γ.2.2.2.1 14) na.toNat (fun j => gCt (gB Γ) (gEt 14) (v a j))) (arrV (Γ.2.2.2.1 14) nb.toNat (fun j => gCt (gB Γ) (gEt 14) (v b j))) (Int32.ofInt sp) (Int32.ofInt dp) (Int32.ofInt n) = arrV (Γ.2.2.2.1 14) nb.toNat (fun j => gCt (gB Γ) (gEt 14) (va_cpy (fun j => v a (j : Int)) (fun j => v b (j : Int)) sp.toNat dp.toNat n.toNat j)) := by
    rw [← csp, ← cd, ← cn]
    exact va_copied (fun z => gCt (gB Γ) (gEt 14) z) _ _ (fun j => v a (j : Int)) (fun j => v b (j : Int)) (by rw [csp, cn]; omega)
  rw [e1] at X' step
  generalize hC : arrV (Γ.2.2.2.1 14) nb.toNat (fun j => gCt (gB Γ) (gEt 14) (va_cpy (fun j => v a (j : Int)) (fun j => v b (j : Int)) sp.toNat dp.toNat n.toNat j)) = C at X' step
  have hl : gB Γ + b.toNat < H.size := (Array.getElem?_eq_some_iff.mp hB.1).1
  have hheap : ((T.setVm vm').setCell (gB Γ + b.toNat) C).heap = H.setIfInBounds (gB Γ + b.toNat) C := by rw [← hT0]; rfl
  have z3 : ∀ q : Nat, q ≠ gB Γ + b.toNat → (H.setIfInBounds (gB Γ + b.toNat) C)[q]? = H[q]? := fun q hq => by simp [Array.getElem?_setIfInBounds, Ne.symm hq]
  have z1 : (H.setIfInBounds (gB Γ + b.toNat) C)[gB Γ + b.toNat]? = some C := by simp [Array.getElem?_setIfInBounds, hl]
  have z2 : (H.setIfInBounds (gB Γ + b.toNat) C).size = H.size := by simp
  rw [← hC] at z1 z2 z3
  have hR := gR_set (v' := gCpy v a b sp dp n) h1 hb z2 z3 (fun c j hc => gCpy_ne (fun z => hc z.1)) (gAr_cpy (by omega) hhb hA hB hn z1)
  rw [hC] at hR z2 z3
  obtain ⟨t', a1, b1⟩ := kk p e R s m args below meth c Z Cx _ _ cells slots lsa hR ⟨by rw [z2]; exact h2.1, fun q g1 g2 => by
      rw [z3 q (fun z => g2 (by show gB Γ ≤ q; omega))]
      exact h2.2.1 q g1 g2, fun q hq => by
      rcases List.mem_append.mp hq with z | z
      · exact h2.2.2 q z
      · obtain ⟨y, -, hz⟩ := List.mem_map.mp z
        rw [← hz]
        show gB Γ ≤ gB Γ + b.toNat
        omega⟩ h3 h4 h5 h6 h7.2.2.2.2.2 _ hheap X'
  exact ⟨t', step t' a1, b1⟩

theorem Gx_acopy17 {a b sp dp n na nb : Int} {idx : Nat} {own : String} (d : decode M.2.1 pc = .ok (.invokestatic idx, 3)) (ho : own = M.2.2.2.2.1) (hha : h a = (17, na)) (hhb : h b = (17, nb)) (q1 : Cond.methodLink own idx yCopy ∈ lw_all) (q2 : Cond.native yCopy ∈ lw_all) (q3 : Cond.static yCopy ∈ lw_all) (q4 : Cond.initialized "java/lang/System" ∈ lw_all) (hn : 0 ≤ sp ∧ 0 ≤ dp ∧ 0 ≤ n ∧ sp + n ≤ na ∧ dp + n ≤ nb) (hel : ∀ j : Int, sp ≤ j → j < sp + n → ∃ x0 : Int, v a j = x0 ∧ ∃ (ko : Nat) (no : Int), h x0 = (ko, no) ∧ gO ko = true ∧ ∃ (C1 : String) (T1 : u_T) (N1 : Nat), gCl[gCi ko]? = some (C1, T1, N1) ∧ Cond.castable C1 "AcornYears$Sort" ∈ lw_tbl) (hrm : 1 ≤ M.2.2.2.2.2.frames ∧ 26 ≤ M.2.2.2.2.2.locals) (hcs : (gCs st).ble 8 = true) (kk : Gx Γ M (pc + 3) ls st (gCpy v a b sp dp n) h t bc bs Q) : Gx Γ M pc ls ((0, n) :: (0, dp) :: (2, b) :: (0, sp) :: (2, a) :: st) v h t bc bs Q := by
  intro p e R s m args below meth c Z Cx H locs cells slots lsa h1 h2 h3 h4 h5 h6 h7
  obtain ⟨ha, hA⟩ := gR_arr h1 hha (by omega) (by omega)
  obtain ⟨hb, hB⟩ := gR_arr h1 hhb (by omega) (by omega)
  have hK := Cx.2.2.2.2.1
  have hts := hK.hts args
  obtain ⟨hT, hRA⟩ := gTys_at (k := 17) hK (by omega) (by omega)
  have hrm := hrm
  rw [← Cx.2.2.2.2.2.2.1] at hrm
  have hW : 2 * (F0 m pc lsa (((0, n) :: (0, dp) :: (2, b) :: (0, sp) :: (2, a) :: st).map (gCv Γ))).monitorRoom + ((st.map (gCv Γ)).map fun v => v.category).sum ≤ 8 := lv_room (by rw [gCs_sum]; exact Nat.le_of_ble_eq_true hcs)
  have hnn := lt32 h7.1 r32_0
  have hnd := lt32 h7.2.1 r32_0
  have hns := lt32 h7.2.2.2.1 r32_0
  rw [of32_0] at hnn hnd hns
  have cn := clamp32 h7.1
  have cd := clamp32 h7.2.1
  have csp := clamp32 h7.2.2.2.1
  have tn := toInt32 h7.1
  have td := toInt32 h7.2.1
  have tsp := toInt32 h7.2.2.2.1
  show W _ _ _ _ _ _ _ _ _ _ _ _ _ _ _ (F0 m pc lsa (.int (Int32.ofInt n) :: .int (Int32.ofInt dp) :: gRv (gB Γ) b :: .int (Int32.ofInt sp) :: gRv (gB Γ) a :: st.map (gCv Γ)))
  rw [gRv_ref ha.1, gRv_ref hb.1]
  intro T hT0 X
  obtain ⟨-, k0, hk0, cm0, hkk0⟩ := hT na.toNat (fun j => gCt (gB Γ) (gEt 17) (v a j))
  obtain ⟨vm', X', step⟩ := X.arraycopy Cx.1 Cx.2.2.2.1 (by rw [← ho]; exact hts _ q1) (hts _ q2) (hts _ q3) (hts _ q4) (src := gB Γ + a.toNat) (dst := gB Γ + b.toNat) (cs := arrV (Γ.2.2.2.1 17) na.toNat (fun j => gCt (gB Γ) (gEt 17) (v a j))) (cd := arrV (Γ.2.2.2.1 17) nb.toNat (fun j => gCt (gB Γ) (gEt 17) (v b j))) (srcPos := Int32.ofInt sp) (destPos := Int32.ofInt dp) (n := Int32.ofInt n) (by rw [hT0]; exact hA.1) (by rw [hT0]; exact hB.1)
    (fun _ z => by cases z) (fun _ z => by cases z) (fun z => by cases z) (fun z => by cases z) hk0 hk0 hkk0 hkk0 rfl (by rw [hns]; omega) (by rw [hnd]; omega) (by rw [hnn]; omega)
    (by rw [tsp, tn, arrV_size]; omega)
    (by rw [td, tn, arrV_size]; omega)
    (fun vm₁ hal i hi => by
      have hi' : i < n.toNat := by rw [cn] at hi; exact hi
      have e : (arrV (Γ.2.2.2.1 17) na.toNat (fun j => gCt (gB Γ) (gEt 17) (v a j))).slots.getD ((Int32.ofInt sp).toNatClampNeg + i) .null = gCt (gB Γ) (gEt 17) (v a ((sp.toNat + i : Nat) : Int)) := by
        rw [csp, Array.getD_eq_getD_getElem?, arrV_read _ _ (by omega)]
        rfl
      rw [e]
      obtain ⟨x0, hx, ko, no, hko, hkk, C1, T1, N1, hrr, hca⟩ := hel (sp.toNat + i : Nat) (by omega) (by omega)
      obtain ⟨hxx, cellV, g1, g2, g3⟩ := gOb_cell h1 hko hkk hrr
      obtain ⟨kA, comp, r1, r2, r3, -⟩ := hRA
      cases hk0.symm.trans r1
      cases hkk0.symm.trans r2
      have hcls := (hK.1.1 (gCi ko) _ hrr).2
      obtain ⟨kC, hkC, -⟩ := hcls.2
      obtain ⟨kE, hkE, -⟩ := Vm.findClass_spec r3
      obtain ⟨kC', hkC', -⟩ := hal.2.2 _ _ hkC
      obtain ⟨kE', hkE', -⟩ := hal.2.2 _ _ hkE
      obtain ⟨c0, t1, f1, f2, f3⟩ := Cond.castable_spec (va_Nw.use (A := args) rfl (va_Nw.warmC hK.2.2.2.1 (va_Nw.of rfl (hK.2.1 _ hca))))
      cases hcls.1.symm.trans f1
      cases r3.symm.trans f2
      rw [hx]
      have e5 : gCt (gB Γ) (gEt 17) x0 = .ref (gB Γ + x0.toNat) := gRv_ref hxx.1
      rw [e5]
      refine ⟨rfl, cellV, (show T.heap[gB Γ + x0.toNat]? = some cellV by rw [hT0]; exact g1), (fun q z => by rw [g3] at z; cases z), ⟨kC', by rw [g2]; exact hkC'⟩, ⟨kE', hkE'⟩, ?_⟩
      show vm₁.assignable _ _ = true
      rw [hal.assignable, g2]
      exact f3)
    (g := F0 m pc lsa (.int (Int32.ofInt n) :: .int (Int32.ofInt dp) :: .ref (gB Γ + b.toNat) :: .int (Int32.ofInt sp) :: .ref (gB Γ + a.toNat) :: st.map (gCv Γ))) rfl (by show lsa.size = _; rw [Cx.2.2.1]; exact h5.1) (rest := st.map (gCv Γ)) rfl (by rw [Cx.2.1]; exact d) hrm.1 (by have e7 : nativeFrameWords "java/lang/System" "arraycopy" 5 = 7 := rfl; rw [e7]; show 2 * 0 + _ + _ ≤ _; omega)
  have e1 : copied (arrV (Γ.2.2.2.1 17) na.toNat (fun j => gCt (gB Γ) (gEt 17) (v a j))) (arrV (Γ.2.2.2.1 17) nb.toNat (fun j => gCt (gB Γ) (gEt 17) (v b j))) (Int32.ofInt sp) (Int32.ofInt dp) (Int32.ofInt n) = arrV (Γ.2.2.2.1 17) nb.toNat (fun j => gCt (gB Γ) (gEt 17) (va_cpy (fun j => v a (j : Int)) (fun j => v b (j : Int)) sp.toNat dp.toNat n.toNat j)) := by
    rw [← csp, ← cd, ← cn]
    exact va_copied (fun z => gCt (gB Γ) (gEt 17) z) _ _ (fun j => v a (j : Int)) (fun j => v b (j : Int)) (by rw [csp, cn]; omega)
  rw [e1] at X' step
  generalize hC : arrV (Γ.2.2.2.1 17) nb.toNat (fun j => gCt (gB Γ) (gEt 17) (va_cpy (fun j => v a (j : Int)) (fun j => v b (j : Int)) sp.toNat dp.toNat n.toNat j)) = C at X' step
  have hl : gB Γ + b.toNat < H.size := (Array.getElem?_eq_some_iff.mp hB.1).1
  have hheap : ((T.setVm vm').setCell (gB Γ + b.toNat) C).heap = H.setIfInBounds (gB Γ + b.toNat) C := by rw [← hT0]; rfl
  have z3 : ∀ q : Nat, q ≠ gB Γ + b.toNat → (H.setIfInBounds (gB Γ + b.toNat) C)[q]? = H[q]? := fun q hq => by simp [Array.getElem?_setIfInBounds, Ne.symm hq]
  have z1 : (H.setIfInBounds (gB Γ + b.toNat) C)[gB Γ + b.toNat]? = some C := by simp [Array.getElem?_setIfInBounds, hl]
  have z2 : (H.setIfInBounds (gB Γ + b.toNat) C).size = H.size := by simp
  rw [← hC] at z1 z2 z3
  have hR := gR_set (v' := gCpy v a b sp dp n) h1 hb z2 z3 (fun c j hc => gCpy_ne (fun z => hc z.1)) (gAr_cpy (by omega) hhb hA hB hn z1)
  rw [hC] at hR z2 z3
  obtain ⟨t', a1, b1⟩ := kk p e R s m args below meth c Z Cx _ _ cells slots lsa hR ⟨by rw [z2]; exact h2.1, fun q g1 g2 => by
      rw [z3 q (fun z => g2 (by show gB Γ ≤ q; omega))]
      exact h2.2.1 q g1 g2, fun q hq => by
      rcases List.mem_append.mp hq with z | z
      · exact h2.2.2 q z
      · obtain ⟨y, -, hz⟩ := List.mem_map.mp z
        rw [← hz]
        show gB Γ ≤ gB Γ + b.toNat
        omega⟩ h3 h4 h5 h6 h7.2.2.2.2.2 _ hheap X'
  exact ⟨t', step t' a1, b1⟩

theorem Gx_mmin {x y : Int} {idx : Nat} {own : String} (d : decode M.2.1 pc = .ok (.invokestatic idx, 3)) (ho : own = M.2.2.2.2.1) (q1 : Cond.methodLink own idx Lib.Math.min.name ∈ lw_all) (q2 : Cond.static Lib.Math.min.name ∈ lw_all) (q3 : Cond.initialized "java/lang/Math" ∈ lw_all) (q4 : Cond.code Lib.Math.min.name Lib.Math.min.code 2 (some .int) ∈ lw_all) (hrm : 1 ≤ M.2.2.2.2.2.frames ∧ 21 ≤ M.2.2.2.2.2.locals) (hcs : (gCs st).ble 8 = true) (kk : Gx Γ M (pc + 3) ls ((0, min x y) :: st) v h t bc bs Q) : Gx Γ M pc ls ((0, y) :: (0, x) :: st) v h t bc bs Q := by
  intro p e R s m args below meth c Z Cx H locs cells slots lsa h1 h2 h3 h4 h5 h6 h7
  have hK := Cx.2.2.2.2.1
  have hts := hK.hts args
  have hrm := hrm
  rw [← Cx.2.2.2.2.2.2.1] at hrm
  have hW : 2 * (F0 m pc lsa (((0, y) :: (0, x) :: st).map (gCv Γ))).monitorRoom + ((st.map (gCv Γ)).map fun v => v.category).sum ≤ 8 := lv_room (by rw [gCs_sum]; exact Nat.le_of_ble_eq_true hcs)
  have ry : r32 y := h7.1
  have rx : r32 x := h7.2.1
  have hk2 := kk p e R s m args below meth c Z Cx H locs cells slots lsa h1 h2 h3 h4 h5 h6 ⟨by show r32 (min x y); unfold r32 at *; omega, h7.2.2⟩
  have e9 : gCv Γ (0, min x y) = .int (if Int32.ofInt y < Int32.ofInt x then Int32.ofInt y else Int32.ofInt x) := by
    show Value.int _ = _
    congr 1
    by_cases hc : y < x
    · rw [if_pos (by rw [lt32 ry rx]; exact hc), show min x y = y by omega]
    · rw [if_neg (by rw [lt32 ry rx]; exact hc), show min x y = x by omega]
  rw [List.map_cons, e9] at hk2
  have hW0 : ((st.map (gCv Γ)).map fun v => v.category).sum + 13 ≤ R.locals := by
    have : 2 * 0 + ((st.map (gCv Γ)).map fun v => v.category).sum ≤ 8 := hW
    omega
  exact va_mmin Cx.1 Cx.2.1 (by rw [Cx.2.2.1]; exact h5.1.symm) Cx.2.2.2.1 (by rw [← ho]; exact hts _ q1) (hts _ q2) (hts _ q3) (hts _ q4) hrm.1 hW0 (by omega) (by omega) d hk2
theorem Gx_mmax {x y : Int} {idx : Nat} {own : String} (d : decode M.2.1 pc = .ok (.invokestatic idx, 3)) (ho : own = M.2.2.2.2.1) (q1 : Cond.methodLink own idx Lib.Math.max.name ∈ lw_all) (q2 : Cond.static Lib.Math.max.name ∈ lw_all) (q3 : Cond.initialized "java/lang/Math" ∈ lw_all) (q4 : Cond.code Lib.Math.max.name Lib.Math.max.code 2 (some .int) ∈ lw_all) (hrm : 1 ≤ M.2.2.2.2.2.frames ∧ 21 ≤ M.2.2.2.2.2.locals) (hcs : (gCs st).ble 8 = true) (kk : Gx Γ M (pc + 3) ls ((0, max x y) :: st) v h t bc bs Q) : Gx Γ M pc ls ((0, y) :: (0, x) :: st) v h t bc bs Q := by
  intro p e R s m args below meth c Z Cx H locs cells slots lsa h1 h2 h3 h4 h5 h6 h7
  have hK := Cx.2.2.2.2.1
  have hts := hK.hts args
  have hrm := hrm
  rw [← Cx.2.2.2.2.2.2.1] at hrm
  have hW : 2 * (F0 m pc lsa (((0, y) :: (0, x) :: st).map (gCv Γ))).monitorRoom + ((st.map (gCv Γ)).map fun v => v.category).sum ≤ 8 := lv_room (by rw [gCs_sum]; exact Nat.le_of_ble_eq_true hcs)
  have ry : r32 y := h7.1
  have rx : r32 x := h7.2.1
  have hk2 := kk p e R s m args below meth c Z Cx H locs cells slots lsa h1 h2 h3 h4 h5 h6 ⟨by show r32 (max x y); unfold r32 at *; omega, h7.2.2⟩
  have e9 : gCv Γ (0, max x y) = .int (if Int32.ofInt x < Int32.ofInt y then Int32.ofInt y else Int32.ofInt x) := by
    show Value.int _ = _
    congr 1
    by_cases hc : x < y
    · rw [if_pos (by rw [lt32 rx ry]; exact hc), show max x y = y by omega]
    · rw [if_neg (by rw [lt32 rx ry]; exact hc), show max x y = x by omega]
  rw [List.map_cons, e9] at hk2
  have hW0 : ((st.map (gCv Γ)).map fun v => v.category).sum + 13 ≤ R.locals := by
    have : 2 * 0 + ((st.map (gCv Γ)).map fun v => v.category).sum ≤ 8 := hW
    omega
  exact va_mmax Cx.1 Cx.2.1 (by rw [Cx.2.2.1]; exact h5.1.symm) Cx.2.2.2.1 (by rw [← ho]; exact hts _ q1) (hts _ q2) (hts _ q3) (hts _ q4) hrm.1 hW0 (by omega) (by omega) d hk2
theorem cv_X0_297_3 {a : Int} {x1 : gV} {n : Int} (d : decode M.2.1 pc = .ok (.invokevirtual 297, 3)) (ho : RX0 = M.2.2.2.2.1) (hh : h a = (3, n)) (hrm : 1 ≤ M.2.2.2.2.2.frames ∧ 21 ≤ M.2.2.2.2.2.locals) (hcs : (gCs st).ble 8 = true) (kk : Ctr Γ mX3_adds [(2, a), x1] v h t (fun r v' h' t' => Gx Γ M (pc + 3) ls (r :: st) v' h' t' bc bs Q)) : Gx Γ M pc ls (x1 :: (2, a) :: st) v h t bc bs Q :=
  Gx_callU (M' := mX3_adds) (As := [x1]) (n0 := 1) (k := 3) (C := RX4) (T := TX4) (N := 1) (x := ⟨"AcornYears$Sort", "adds", "(I)I"⟩) (owner := "AcornYears$Sort") rfl rfl d ho hh rfl rfl q728 q730 q734 q729 q120 q736 rfl (by decide +kernel) hrm hcs (Nat.le_of_eq (Nat.zero_add _)) (Nat.le_of_eq (Nat.zero_add _)) kk
theorem cv_X0_297_4 {a : Int} {x1 : gV} {n : Int} (d : decode M.2.1 pc = .ok (.invokevirtual 297, 3)) (ho : RX0 = M.2.2.2.2.1) (hh : h a = (4, n)) (hrm : 1 ≤ M.2.2.2.2.2.frames ∧ 21 ≤ M.2.2.2.2.2.locals) (hcs : (gCs st).ble 8 = true) (kk : Ctr Γ mX3_adds [(2, a), x1] v h t (fun r v' h' t' => Gx Γ M (pc + 3) ls (r :: st) v' h' t' bc bs Q)) : Gx Γ M pc ls (x1 :: (2, a) :: st) v h t bc bs Q :=
  Gx_callU (M' := mX3_adds) (As := [x1]) (n0 := 1) (k := 4) (C := RX5) (T := TX5) (N := 3) (x := ⟨"AcornYears$Sort", "adds", "(I)I"⟩) (owner := "AcornYears$Sort") rfl rfl d ho hh rfl rfl q728 q730 q735 q729 q120 q736 rfl (by decide +kernel) hrm hcs (Nat.le_of_eq (Nat.zero_add _)) (Nat.le_of_eq (Nat.zero_add _)) kk
theorem cv_X0_297_5 {a : Int} {x1 : gV} {n : Int} (d : decode M.2.1 pc = .ok (.invokevirtual 297, 3)) (ho : RX0 = M.2.2.2.2.1) (hh : h a = (5, n)) (hrm : 1 ≤ M.2.2.2.2.2.frames ∧ 21 ≤ M.2.2.2.2.2.locals) (hcs : (gCs st).ble 8 = true) (kk : Ctr Γ mX3_adds [(2, a), x1] v h t (fun r v' h' t' => Gx Γ M (pc + 3) ls (r :: st) v' h' t' bc bs Q)) : Gx Γ M pc ls (x1 :: (2, a) :: st) v h t bc bs Q :=
  Gx_callU (M' := mX3_adds) (As := [x1]) (n0 := 1) (k := 5) (C := RX6) (T := TX6) (N := 3) (x := ⟨"AcornYears$Sort", "adds", "(I)I"⟩) (owner := "AcornYears$Sort") rfl rfl d ho hh rfl rfl q728 q730 q733 q729 q120 q736 rfl (by decide +kernel) hrm hcs (Nat.le_of_eq (Nat.zero_add _)) (Nat.le_of_eq (Nat.zero_add _)) kk
theorem cv_X0_297_6 {a : Int} {x1 : gV} {n : Int} (d : decode M.2.1 pc = .ok (.invokevirtual 297, 3)) (ho : RX0 = M.2.2.2.2.1) (hh : h a = (6, n)) (hrm : 1 ≤ M.2.2.2.2.2.frames ∧ 21 ≤ M.2.2.2.2.2.locals) (hcs : (gCs st).ble 8 = true) (kk : Ctr Γ mX3_adds [(2, a), x1] v h t (fun r v' h' t' => Gx Γ M (pc + 3) ls (r :: st) v' h' t' bc bs Q)) : Gx Γ M pc ls (x1 :: (2, a) :: st) v h t bc bs Q :=
  Gx_callU (M' := mX3_adds) (As := [x1]) (n0 := 1) (k := 6) (C := RX7) (T := TX7) (N := 4) (x := ⟨"AcornYears$Sort", "adds", "(I)I"⟩) (owner := "AcornYears$Sort") rfl rfl d ho hh rfl rfl q728 q730 q731 q729 q120 q736 rfl (by decide +kernel) hrm hcs (Nat.le_of_eq (Nat.zero_add _)) (Nat.le_of_eq (Nat.zero_add _)) kk
theorem cv_X0_297_7 {a : Int} {x1 : gV} {n : Int} (d : decode M.2.1 pc = .ok (.invokevirtual 297, 3)) (ho : RX0 = M.2.2.2.2.1) (hh : h a = (7, n)) (hrm : 1 ≤ M.2.2.2.2.2.frames ∧ 21 ≤ M.2.2.2.2.2.locals) (hcs : (gCs st).ble 8 = true) (kk : Ctr Γ mX3_adds [(2, a), x1] v h t (fun r v' h' t' => Gx Γ M (pc + 3) ls (r :: st) v' h' t' bc bs Q)) : Gx Γ M pc ls (x1 :: (2, a) :: st) v h t bc bs Q :=
  Gx_callU (M' := mX3_adds) (As := [x1]) (n0 := 1) (k := 7) (C := RX8) (T := TX8) (N := 4) (x := ⟨"AcornYears$Sort", "adds", "(I)I"⟩) (owner := "AcornYears$Sort") rfl rfl d ho hh rfl rfl q728 q730 q732 q729 q120 q736 rfl (by decide +kernel) hrm hcs (Nat.le_of_eq (Nat.zero_add _)) (Nat.le_of_eq (Nat.zero_add _)) kk
theorem cv_X0_300_3 {a : Int} {n : Int} (d : decode M.2.1 pc = .ok (.invokevirtual 300, 3)) (ho : RX0 = M.2.2.2.2.1) (hh : h a = (3, n)) (hrm : 1 ≤ M.2.2.2.2.2.frames ∧ 20 ≤ M.2.2.2.2.2.locals) (hcs : (gCs st).ble 8 = true) (kk : Ctr Γ mX4_kind [(2, a)] v h t (fun r v' h' t' => Gx Γ M (pc + 3) ls (r :: st) v' h' t' bc bs Q)) : Gx Γ M pc ls ((2, a) :: st) v h t bc bs Q :=
  Gx_callO (M' := mX4_kind) (As := []) (n0 := 0) (k := 3) (C := RX4) (T := TX4) (N := 1) (x := ⟨"AcornYears$Sort", "kind", "()I"⟩) (owner := "AcornYears$Sort") rfl rfl d ho hh rfl rfl q737 q739 q738 q749 q750 q121 q751 q755 (by decide +kernel) hrm hcs (Nat.le_of_eq (Nat.zero_add _)) (Nat.le_of_eq (Nat.zero_add _)) kk
theorem cv_X0_300_4 {a : Int} {n : Int} (d : decode M.2.1 pc = .ok (.invokevirtual 300, 3)) (ho : RX0 = M.2.2.2.2.1) (hh : h a = (4, n)) (hrm : 1 ≤ M.2.2.2.2.2.frames ∧ 20 ≤ M.2.2.2.2.2.locals) (hcs : (gCs st).ble 8 = true) (kk : Ctr Γ mX5_kind [(2, a)] v h t (fun r v' h' t' => Gx Γ M (pc + 3) ls (r :: st) v' h' t' bc bs Q)) : Gx Γ M pc ls ((2, a) :: st) v h t bc bs Q :=
  Gx_callO (M' := mX5_kind) (As := []) (n0 := 0) (k := 4) (C := RX5) (T := TX5) (N := 3) (x := ⟨"AcornYears$Sort", "kind", "()I"⟩) (owner := "AcornYears$Sort") rfl rfl d ho hh rfl rfl q737 q739 q738 q752 q753 q122 q754 q755 (by decide +kernel) hrm hcs (Nat.le_of_eq (Nat.zero_add _)) (Nat.le_of_eq (Nat.zero_add _)) kk
theorem cv_X0_300_5 {a : Int} {n : Int} (d : decode M.2.1 pc = .ok (.invokevirtual 300, 3)) (ho : RX0 = M.2.2.2.2.1) (hh : h a = (5, n)) (hrm : 1 ≤ M.2.2.2.2.2.frames ∧ 20 ≤ M.2.2.2.2.2.locals) (hcs : (gCs st).ble 8 = true) (kk : Ctr Γ mX6_kind [(2, a)] v h t (fun r v' h' t' => Gx Γ M (pc + 3) ls (r :: st) v' h' t' bc bs Q)) : Gx Γ M pc ls ((2, a) :: st) v h t bc bs Q :=
  Gx_callO (M' := mX6_kind) (As := []) (n0 := 0) (k := 5) (C := RX6) (T := TX6) (N := 3) (x := ⟨"AcornYears$Sort", "kind", "()I"⟩) (owner := "AcornYears$Sort") rfl rfl d ho hh rfl rfl q737 q739 q738 q746 q747 q124 q748 q755 (by decide +kernel) hrm hcs (Nat.le_of_eq (Nat.zero_add _)) (Nat.le_of_eq (Nat.zero_add _)) kk
theorem cv_X0_300_6 {a : Int} {n : Int} (d : decode M.2.1 pc = .ok (.invokevirtual 300, 3)) (ho : RX0 = M.2.2.2.2.1) (hh : h a = (6, n)) (hrm : 1 ≤ M.2.2.2.2.2.frames ∧ 20 ≤ M.2.2.2.2.2.locals) (hcs : (gCs st).ble 8 = true) (kk : Ctr Γ mX7_kind [(2, a)] v h t (fun r v' h' t' => Gx Γ M (pc + 3) ls (r :: st) v' h' t' bc bs Q)) : Gx Γ M pc ls ((2, a) :: st) v h t bc bs Q :=
  Gx_callO (M' := mX7_kind) (As := []) (n0 := 0) (k := 6) (C := RX7) (T := TX7) (N := 4) (x := ⟨"AcornYears$Sort", "kind", "()I"⟩) (owner := "AcornYears$Sort") rfl rfl d ho hh rfl rfl q737 q739 q738 q740 q741 q125 q742 q755 (by decide +kernel) hrm hcs (Nat.le_of_eq (Nat.zero_add _)) (Nat.le_of_eq (Nat.zero_add _)) kk
theorem cv_X0_300_7 {a : Int} {n : Int} (d : decode M.2.1 pc = .ok (.invokevirtual 300, 3)) (ho : RX0 = M.2.2.2.2.1) (hh : h a = (7, n)) (hrm : 1 ≤ M.2.2.2.2.2.frames ∧ 20 ≤ M.2.2.2.2.2.locals) (hcs : (gCs st).ble 8 = true) (kk : Ctr Γ mX8_kind [(2, a)] v h t (fun r v' h' t' => Gx Γ M (pc + 3) ls (r :: st) v' h' t' bc bs Q)) : Gx Γ M pc ls ((2, a) :: st) v h t bc bs Q :=
  Gx_callO (M' := mX8_kind) (As := []) (n0 := 0) (k := 7) (C := RX8) (T := TX8) (N := 4) (x := ⟨"AcornYears$Sort", "kind", "()I"⟩) (owner := "AcornYears$Sort") rfl rfl d ho hh rfl rfl q737 q739 q738 q743 q744 q126 q745 q755 (by decide +kernel) hrm hcs (Nat.le_of_eq (Nat.zero_add _)) (Nat.le_of_eq (Nat.zero_add _)) kk
theorem cv_X0_380_3 {a : Int} {x1 : gV} {n : Int} (d : decode M.2.1 pc = .ok (.invokevirtual 380, 3)) (ho : RX0 = M.2.2.2.2.1) (hh : h a = (3, n)) (hrm : 2 ≤ M.2.2.2.2.2.frames ∧ 61 ≤ M.2.2.2.2.2.locals) (hcs : (gCs st).ble 8 = true) (kk : Ctr Γ mX4_gives [(2, a), x1] v h t (fun r v' h' t' => Gx Γ M (pc + 3) ls (r :: st) v' h' t' bc bs Q)) : Gx Γ M pc ls (x1 :: (2, a) :: st) v h t bc bs Q :=
  Gx_callO (M' := mX4_gives) (As := [x1]) (n0 := 1) (k := 3) (C := RX4) (T := TX4) (N := 1) (x := ⟨"AcornYears$Sort", "gives", "(I)I"⟩) (owner := "AcornYears$Sort") rfl rfl d ho hh rfl rfl q897 q899 q898 q905 q906 q121 q907 q911 (by decide +kernel) hrm hcs (Nat.le_of_eq (Nat.zero_add _)) (Nat.le_of_eq (Nat.zero_add _)) kk
theorem cv_X0_380_4 {a : Int} {x1 : gV} {n : Int} (d : decode M.2.1 pc = .ok (.invokevirtual 380, 3)) (ho : RX0 = M.2.2.2.2.1) (hh : h a = (4, n)) (hrm : 1 ≤ M.2.2.2.2.2.frames ∧ 21 ≤ M.2.2.2.2.2.locals) (hcs : (gCs st).ble 8 = true) (kk : Ctr Γ mX5_gives [(2, a), x1] v h t (fun r v' h' t' => Gx Γ M (pc + 3) ls (r :: st) v' h' t' bc bs Q)) : Gx Γ M pc ls (x1 :: (2, a) :: st) v h t bc bs Q :=
  Gx_callO (M' := mX5_gives) (As := [x1]) (n0 := 1) (k := 4) (C := RX5) (T := TX5) (N := 3) (x := ⟨"AcornYears$Sort", "gives", "(I)I"⟩) (owner := "AcornYears$Sort") rfl rfl d ho hh rfl rfl q897 q899 q898 q908 q909 q122 q910 q911 (by decide +kernel) hrm hcs (Nat.le_of_eq (Nat.zero_add _)) (Nat.le_of_eq (Nat.zero_add _)) kk
theorem cv_X0_380_5 {a : Int} {x1 : gV} {n : Int} (d : decode M.2.1 pc = .ok (.invokevirtual 380, 3)) (ho : RX0 = M.2.2.2.2.1) (hh : h a = (5, n)) (hrm : 1 ≤ M.2.2.2.2.2.frames ∧ 21 ≤ M.2.2.2.2.2.locals) (hcs : (gCs st).ble 8 = true) (kk : Ctr Γ mX6_gives [(2, a), x1] v h t (fun r v' h' t' => Gx Γ M (pc + 3) ls (r :: st) v' h' t' bc bs Q)) : Gx Γ M pc ls (x1 :: (2, a) :: st) v h t bc bs Q :=
  Gx_callO (M' := mX6_gives) (As := [x1]) (n0 := 1) (k := 5) (C := RX6) (T := TX6) (N := 3) (x := ⟨"AcornYears$Sort", "gives", "(I)I"⟩) (owner := "AcornYears$Sort") rfl rfl d ho hh rfl rfl q897 q899 q898 q904 q901 q124 q902 q911 (by decide +kernel) hrm hcs (Nat.le_of_eq (Nat.zero_add _)) (Nat.le_of_eq (Nat.zero_add _)) kk
theorem cv_X0_380_6 {a : Int} {x1 : gV} {n : Int} (d : decode M.2.1 pc = .ok (.invokevirtual 380, 3)) (ho : RX0 = M.2.2.2.2.1) (hh : h a = (6, n)) (hrm : 1 ≤ M.2.2.2.2.2.frames ∧ 21 ≤ M.2.2.2.2.2.locals) (hcs : (gCs st).ble 8 = true) (kk : Ctr Γ mX6_gives [(2, a), x1] v h t (fun r v' h' t' => Gx Γ M (pc + 3) ls (r :: st) v' h' t' bc bs Q)) : Gx Γ M pc ls (x1 :: (2, a) :: st) v h t bc bs Q :=
  Gx_callO (M' := mX6_gives) (As := [x1]) (n0 := 1) (k := 6) (C := RX7) (T := TX7) (N := 4) (x := ⟨"AcornYears$Sort", "gives", "(I)I"⟩) (owner := "AcornYears$Sort") rfl rfl d ho hh rfl rfl q897 q899 q898 q900 q901 q124 q902 q911 (by decide +kernel) hrm hcs (Nat.le_of_eq (Nat.zero_add _)) (Nat.le_of_eq (Nat.zero_add _)) kk
theorem cv_X0_380_7 {a : Int} {x1 : gV} {n : Int} (d : decode M.2.1 pc = .ok (.invokevirtual 380, 3)) (ho : RX0 = M.2.2.2.2.1) (hh : h a = (7, n)) (hrm : 1 ≤ M.2.2.2.2.2.frames ∧ 21 ≤ M.2.2.2.2.2.locals) (hcs : (gCs st).ble 8 = true) (kk : Ctr Γ mX6_gives [(2, a), x1] v h t (fun r v' h' t' => Gx Γ M (pc + 3) ls (r :: st) v' h' t' bc bs Q)) : Gx Γ M pc ls (x1 :: (2, a) :: st) v h t bc bs Q :=
  Gx_callO (M' := mX6_gives) (As := [x1]) (n0 := 1) (k := 7) (C := RX8) (T := TX8) (N := 4) (x := ⟨"AcornYears$Sort", "gives", "(I)I"⟩) (owner := "AcornYears$Sort") rfl rfl d ho hh rfl rfl q897 q899 q898 q903 q901 q124 q902 q911 (by decide +kernel) hrm hcs (Nat.le_of_eq (Nat.zero_add _)) (Nat.le_of_eq (Nat.zero_add _)) kk
theorem cv_X0_360_3 {a : Int} {n : Int} (d : decode M.2.1 pc = .ok (.invokevirtual 360, 3)) (ho : RX0 = M.2.2.2.2.1) (hh : h a = (3, n)) (hrm : 1 ≤ M.2.2.2.2.2.frames ∧ 20 ≤ M.2.2.2.2.2.locals) (hcs : (gCs st).ble 8 = true) (kk : Ctr Γ mX4_stores [(2, a)] v h t (fun r v' h' t' => Gx Γ M (pc + 3) ls (r :: st) v' h' t' bc bs Q)) : Gx Γ M pc ls ((2, a) :: st) v h t bc bs Q :=
  Gx_callO (M' := mX4_stores) (As := []) (n0 := 0) (k := 3) (C := RX4) (T := TX4) (N := 1) (x := ⟨"AcornYears$Sort", "stores", "()Z"⟩) (owner := "AcornYears$Sort") rfl rfl d ho hh rfl rfl q853 q855 q854 q859 q860 q121 q861 q863 (by decide +kernel) hrm hcs (Nat.le_of_eq (Nat.zero_add _)) (Nat.le_of_eq (Nat.zero_add _)) kk
theorem cv_X0_360_4 {a : Int} {n : Int} (d : decode M.2.1 pc = .ok (.invokevirtual 360, 3)) (ho : RX0 = M.2.2.2.2.1) (hh : h a = (4, n)) (hrm : 1 ≤ M.2.2.2.2.2.frames ∧ 20 ≤ M.2.2.2.2.2.locals) (hcs : (gCs st).ble 8 = true) (kk : Ctr Γ mX3_stores [(2, a)] v h t (fun r v' h' t' => Gx Γ M (pc + 3) ls (r :: st) v' h' t' bc bs Q)) : Gx Γ M pc ls ((2, a) :: st) v h t bc bs Q :=
  Gx_callU (M' := mX3_stores) (As := []) (n0 := 0) (k := 4) (C := RX5) (T := TX5) (N := 3) (x := ⟨"AcornYears$Sort", "stores", "()Z"⟩) (owner := "AcornYears$Sort") rfl rfl d ho hh rfl rfl q853 q855 q862 q854 q120 q863 rfl (by decide +kernel) hrm hcs (Nat.le_of_eq (Nat.zero_add _)) (Nat.le_of_eq (Nat.zero_add _)) kk
theorem cv_X0_360_5 {a : Int} {n : Int} (d : decode M.2.1 pc = .ok (.invokevirtual 360, 3)) (ho : RX0 = M.2.2.2.2.1) (hh : h a = (5, n)) (hrm : 1 ≤ M.2.2.2.2.2.frames ∧ 20 ≤ M.2.2.2.2.2.locals) (hcs : (gCs st).ble 8 = true) (kk : Ctr Γ mX3_stores [(2, a)] v h t (fun r v' h' t' => Gx Γ M (pc + 3) ls (r :: st) v' h' t' bc bs Q)) : Gx Γ M pc ls ((2, a) :: st) v h t bc bs Q :=
  Gx_callU (M' := mX3_stores) (As := []) (n0 := 0) (k := 5) (C := RX6) (T := TX6) (N := 3) (x := ⟨"AcornYears$Sort", "stores", "()Z"⟩) (owner := "AcornYears$Sort") rfl rfl d ho hh rfl rfl q853 q855 q858 q854 q120 q863 rfl (by decide +kernel) hrm hcs (Nat.le_of_eq (Nat.zero_add _)) (Nat.le_of_eq (Nat.zero_add _)) kk
theorem cv_X0_360_6 {a : Int} {n : Int} (d : decode M.2.1 pc = .ok (.invokevirtual 360, 3)) (ho : RX0 = M.2.2.2.2.1) (hh : h a = (6, n)) (hrm : 1 ≤ M.2.2.2.2.2.frames ∧ 20 ≤ M.2.2.2.2.2.locals) (hcs : (gCs st).ble 8 = true) (kk : Ctr Γ mX3_stores [(2, a)] v h t (fun r v' h' t' => Gx Γ M (pc + 3) ls (r :: st) v' h' t' bc bs Q)) : Gx Γ M pc ls ((2, a) :: st) v h t bc bs Q :=
  Gx_callU (M' := mX3_stores) (As := []) (n0 := 0) (k := 6) (C := RX7) (T := TX7) (N := 4) (x := ⟨"AcornYears$Sort", "stores", "()Z"⟩) (owner := "AcornYears$Sort") rfl rfl d ho hh rfl rfl q853 q855 q856 q854 q120 q863 rfl (by decide +kernel) hrm hcs (Nat.le_of_eq (Nat.zero_add _)) (Nat.le_of_eq (Nat.zero_add _)) kk
theorem cv_X0_360_7 {a : Int} {n : Int} (d : decode M.2.1 pc = .ok (.invokevirtual 360, 3)) (ho : RX0 = M.2.2.2.2.1) (hh : h a = (7, n)) (hrm : 1 ≤ M.2.2.2.2.2.frames ∧ 20 ≤ M.2.2.2.2.2.locals) (hcs : (gCs st).ble 8 = true) (kk : Ctr Γ mX3_stores [(2, a)] v h t (fun r v' h' t' => Gx Γ M (pc + 3) ls (r :: st) v' h' t' bc bs Q)) : Gx Γ M pc ls ((2, a) :: st) v h t bc bs Q :=
  Gx_callU (M' := mX3_stores) (As := []) (n0 := 0) (k := 7) (C := RX8) (T := TX8) (N := 4) (x := ⟨"AcornYears$Sort", "stores", "()Z"⟩) (owner := "AcornYears$Sort") rfl rfl d ho hh rfl rfl q853 q855 q857 q854 q120 q863 rfl (by decide +kernel) hrm hcs (Nat.le_of_eq (Nat.zero_add _)) (Nat.le_of_eq (Nat.zero_add _)) kk
theorem cl_X0_465 {x y : Int} (d : decode M.2.1 pc = .ok (.invokestatic 465, 3)) (ho : RX0 = M.2.2.2.2.1) (hrm : 1 ≤ M.2.2.2.2.2.frames ∧ 21 ≤ M.2.2.2.2.2.locals) (hcs : (gCs st).ble 8 = true) (kk : Gx Γ M (pc + 3) ls ((0, max x y) :: st) v h t bc bs Q) : Gx Γ M pc ls ((0, y) :: (0, x) :: st) v h t bc bs Q :=
  Gx_mmax d ho q1054 q1055 q123 q1056 hrm hcs kk
theorem cl_X0_207 {x y : Int} (d : decode M.2.1 pc = .ok (.invokestatic 207, 3)) (ho : RX0 = M.2.2.2.2.1) (hrm : 1 ≤ M.2.2.2.2.2.frames ∧ 21 ≤ M.2.2.2.2.2.locals) (hcs : (gCs st).ble 8 = true) (kk : Gx Γ M (pc + 3) ls ((0, min x y) :: st) v h t bc bs Q) : Gx Γ M pc ls ((0, y) :: (0, x) :: st) v h t bc bs Q :=
  Gx_mmin d ho q638 q639 q123 q640 hrm hcs kk
theorem cv_X0_362_3 {a : Int} {x1 x2 x3 : gV} {n : Int} (d : decode M.2.1 pc = .ok (.invokevirtual 362, 3)) (ho : RX0 = M.2.2.2.2.1) (hh : h a = (3, n)) (hrm : 2 ≤ M.2.2.2.2.2.frames ∧ 63 ≤ M.2.2.2.2.2.locals) (hcs : (gCs st).ble 8 = true) (kk : Ctr Γ mX4_blooms [(2, a), x1, x2, x3] v h t (fun r v' h' t' => Gx Γ M (pc + 3) ls (r :: st) v' h' t' bc bs Q)) : Gx Γ M pc ls (x3 :: x2 :: x1 :: (2, a) :: st) v h t bc bs Q :=
  Gx_callO (M' := mX4_blooms) (As := [x1, x2, x3]) (n0 := 3) (k := 3) (C := RX4) (T := TX4) (N := 1) (x := ⟨"AcornYears$Sort", "blooms", "(III)Z"⟩) (owner := "AcornYears$Sort") rfl rfl d ho hh rfl rfl q864 q866 q865 q875 q876 q121 q877 q881 (by decide +kernel) hrm hcs (Nat.le_of_eq (Nat.zero_add _)) (Nat.le_of_eq (Nat.zero_add _)) kk
theorem cv_X0_362_4 {a : Int} {x1 x2 x3 : gV} {n : Int} (d : decode M.2.1 pc = .ok (.invokevirtual 362, 3)) (ho : RX0 = M.2.2.2.2.1) (hh : h a = (4, n)) (hrm : 1 ≤ M.2.2.2.2.2.frames ∧ 23 ≤ M.2.2.2.2.2.locals) (hcs : (gCs st).ble 8 = true) (kk : Ctr Γ mX5_blooms [(2, a), x1, x2, x3] v h t (fun r v' h' t' => Gx Γ M (pc + 3) ls (r :: st) v' h' t' bc bs Q)) : Gx Γ M pc ls (x3 :: x2 :: x1 :: (2, a) :: st) v h t bc bs Q :=
  Gx_callO (M' := mX5_blooms) (As := [x1, x2, x3]) (n0 := 3) (k := 4) (C := RX5) (T := TX5) (N := 3) (x := ⟨"AcornYears$Sort", "blooms", "(III)Z"⟩) (owner := "AcornYears$Sort") rfl rfl d ho hh rfl rfl q864 q866 q865 q878 q879 q122 q880 q881 (by decide +kernel) hrm hcs (Nat.le_of_eq (Nat.zero_add _)) (Nat.le_of_eq (Nat.zero_add _)) kk
theorem cv_X0_362_5 {a : Int} {x1 x2 x3 : gV} {n : Int} (d : decode M.2.1 pc = .ok (.invokevirtual 362, 3)) (ho : RX0 = M.2.2.2.2.1) (hh : h a = (5, n)) (hrm : 1 ≤ M.2.2.2.2.2.frames ∧ 23 ≤ M.2.2.2.2.2.locals) (hcs : (gCs st).ble 8 = true) (kk : Ctr Γ mX6_blooms [(2, a), x1, x2, x3] v h t (fun r v' h' t' => Gx Γ M (pc + 3) ls (r :: st) v' h' t' bc bs Q)) : Gx Γ M pc ls (x3 :: x2 :: x1 :: (2, a) :: st) v h t bc bs Q :=
  Gx_callO (M' := mX6_blooms) (As := [x1, x2, x3]) (n0 := 3) (k := 5) (C := RX6) (T := TX6) (N := 3) (x := ⟨"AcornYears$Sort", "blooms", "(III)Z"⟩) (owner := "AcornYears$Sort") rfl rfl d ho hh rfl rfl q864 q866 q865 q874 q868 q124 q869 q881 (by decide +kernel) hrm hcs (Nat.le_of_eq (Nat.zero_add _)) (Nat.le_of_eq (Nat.zero_add _)) kk
theorem cv_X0_362_6 {a : Int} {x1 x2 x3 : gV} {n : Int} (d : decode M.2.1 pc = .ok (.invokevirtual 362, 3)) (ho : RX0 = M.2.2.2.2.1) (hh : h a = (6, n)) (hrm : 1 ≤ M.2.2.2.2.2.frames ∧ 23 ≤ M.2.2.2.2.2.locals) (hcs : (gCs st).ble 8 = true) (kk : Ctr Γ mX6_blooms [(2, a), x1, x2, x3] v h t (fun r v' h' t' => Gx Γ M (pc + 3) ls (r :: st) v' h' t' bc bs Q)) : Gx Γ M pc ls (x3 :: x2 :: x1 :: (2, a) :: st) v h t bc bs Q :=
  Gx_callO (M' := mX6_blooms) (As := [x1, x2, x3]) (n0 := 3) (k := 6) (C := RX7) (T := TX7) (N := 4) (x := ⟨"AcornYears$Sort", "blooms", "(III)Z"⟩) (owner := "AcornYears$Sort") rfl rfl d ho hh rfl rfl q864 q866 q865 q867 q868 q124 q869 q881 (by decide +kernel) hrm hcs (Nat.le_of_eq (Nat.zero_add _)) (Nat.le_of_eq (Nat.zero_add _)) kk
theorem cv_X0_362_7 {a : Int} {x1 x2 x3 : gV} {n : Int} (d : decode M.2.1 pc = .ok (.invokevirtual 362, 3)) (ho : RX0 = M.2.2.2.2.1) (hh : h a = (7, n)) (hrm : 2 ≤ M.2.2.2.2.2.frames ∧ 46 ≤ M.2.2.2.2.2.locals) (hcs : (gCs st).ble 8 = true) (kk : Ctr Γ mX8_blooms [(2, a), x1, x2, x3] v h t (fun r v' h' t' => Gx Γ M (pc + 3) ls (r :: st) v' h' t' bc bs Q)) : Gx Γ M pc ls (x3 :: x2 :: x1 :: (2, a) :: st) v h t bc bs Q :=
  Gx_callO (M' := mX8_blooms) (As := [x1, x2, x3]) (n0 := 3) (k := 7) (C := RX8) (T := TX8) (N := 4) (x := ⟨"AcornYears$Sort", "blooms", "(III)Z"⟩) (owner := "AcornYears$Sort") rfl rfl d ho hh rfl rfl q864 q866 q865 q870 q871 q126 q872 q881 (by decide +kernel) hrm hcs (Nat.le_of_eq (Nat.zero_add _)) (Nat.le_of_eq (Nat.zero_add _)) kk
theorem cl_X0_21 {a n : Int} {k : Nat} (d : decode M.2.1 pc = .ok (.invokespecial 21, 3)) (ho : RX0 = M.2.2.2.2.1) (hh : h a = (k, n)) (hk : k ≠ 99) (hrm : 1 ≤ M.2.2.2.2.2.frames ∧ 20 ≤ M.2.2.2.2.2.locals) (hcs : (gCs st).ble 8 = true) (kk : Gx Γ M (pc + 3) ls st v h t bc bs Q) : Gx Γ M pc ls ((2, a) :: st) v h t bc bs Q :=
  Gx_objI d ho hh hk q134 q135 q136 hrm hcs kk
theorem cv_X0_306_3 {a : Int} {n : Int} (d : decode M.2.1 pc = .ok (.invokevirtual 306, 3)) (ho : RX0 = M.2.2.2.2.1) (hh : h a = (3, n)) (hrm : 2 ≤ M.2.2.2.2.2.frames ∧ 60 ≤ M.2.2.2.2.2.locals) (hcs : (gCs st).ble 8 = true) (kk : Ctr Γ mX4_tells [(2, a)] v h t (fun r v' h' t' => Gx Γ M (pc + 3) ls (r :: st) v' h' t' bc bs Q)) : Gx Γ M pc ls ((2, a) :: st) v h t bc bs Q :=
  Gx_callV (M' := mX4_tells) (As := []) (n0 := 0) (k := 3) (C := RX4) (T := TX4) (N := 1) rfl rfl d ho hh rfl rfl q774 q775 q776 q121 q777 (by decide +kernel) hrm hcs (Nat.le_of_eq (Nat.zero_add _)) (Nat.le_of_eq (Nat.zero_add _)) kk
theorem cv_X0_309_5 {a : Int} {n : Int} (d : decode M.2.1 pc = .ok (.invokevirtual 309, 3)) (ho : RX0 = M.2.2.2.2.1) (hh : h a = (5, n)) (hrm : 1 ≤ M.2.2.2.2.2.frames ∧ 20 ≤ M.2.2.2.2.2.locals) (hcs : (gCs st).ble 8 = true) (kk : Ctr Γ mX6_saves [(2, a)] v h t (fun r v' h' t' => Gx Γ M (pc + 3) ls (r :: st) v' h' t' bc bs Q)) : Gx Γ M pc ls ((2, a) :: st) v h t bc bs Q :=
  Gx_callU (M' := mX6_saves) (As := []) (n0 := 0) (k := 5) (C := RX6) (T := TX6) (N := 3) (x := ⟨"AcornYears$Saver", "saves", "()I"⟩) (owner := "AcornYears$Saver") rfl rfl d ho hh rfl rfl q782 q785 q784 q783 q124 q788 rfl (by decide +kernel) hrm hcs (Nat.le_of_eq (Nat.zero_add _)) (Nat.le_of_eq (Nat.zero_add _)) kk
theorem cv_X0_309_6 {a : Int} {n : Int} (d : decode M.2.1 pc = .ok (.invokevirtual 309, 3)) (ho : RX0 = M.2.2.2.2.1) (hh : h a = (6, n)) (hrm : 1 ≤ M.2.2.2.2.2.frames ∧ 20 ≤ M.2.2.2.2.2.locals) (hcs : (gCs st).ble 8 = true) (kk : Ctr Γ mX6_saves [(2, a)] v h t (fun r v' h' t' => Gx Γ M (pc + 3) ls (r :: st) v' h' t' bc bs Q)) : Gx Γ M pc ls ((2, a) :: st) v h t bc bs Q :=
  Gx_callU (M' := mX6_saves) (As := []) (n0 := 0) (k := 6) (C := RX7) (T := TX7) (N := 4) (x := ⟨"AcornYears$Saver", "saves", "()I"⟩) (owner := "AcornYears$Saver") rfl rfl d ho hh rfl rfl q782 q785 q786 q783 q124 q788 rfl (by decide +kernel) hrm hcs (Nat.le_of_eq (Nat.zero_add _)) (Nat.le_of_eq (Nat.zero_add _)) kk
theorem cv_X0_309_7 {a : Int} {n : Int} (d : decode M.2.1 pc = .ok (.invokevirtual 309, 3)) (ho : RX0 = M.2.2.2.2.1) (hh : h a = (7, n)) (hrm : 1 ≤ M.2.2.2.2.2.frames ∧ 20 ≤ M.2.2.2.2.2.locals) (hcs : (gCs st).ble 8 = true) (kk : Ctr Γ mX6_saves [(2, a)] v h t (fun r v' h' t' => Gx Γ M (pc + 3) ls (r :: st) v' h' t' bc bs Q)) : Gx Γ M pc ls ((2, a) :: st) v h t bc bs Q :=
  Gx_callU (M' := mX6_saves) (As := []) (n0 := 0) (k := 7) (C := RX8) (T := TX8) (N := 4) (x := ⟨"AcornYears$Saver", "saves", "()I"⟩) (owner := "AcornYears$Saver") rfl rfl d ho hh rfl rfl q782 q785 q787 q783 q124 q788 rfl (by decide +kernel) hrm hcs (Nat.le_of_eq (Nat.zero_add _)) (Nat.le_of_eq (Nat.zero_add _)) kk
theorem cv_X0_312_4 {a : Int} {n : Int} (d : decode M.2.1 pc = .ok (.invokevirtual 312, 3)) (ho : RX0 = M.2.2.2.2.1) (hh : h a = (4, n)) (hrm : 1 ≤ M.2.2.2.2.2.frames ∧ 20 ≤ M.2.2.2.2.2.locals) (hcs : (gCs st).ble 8 = true) (kk : Ctr Γ mX5_tells [(2, a)] v h t (fun r v' h' t' => Gx Γ M (pc + 3) ls (r :: st) v' h' t' bc bs Q)) : Gx Γ M pc ls ((2, a) :: st) v h t bc bs Q :=
  Gx_callV (M' := mX5_tells) (As := []) (n0 := 0) (k := 4) (C := RX5) (T := TX5) (N := 3) rfl rfl d ho hh rfl rfl q789 q790 q791 q122 q792 (by decide +kernel) hrm hcs (Nat.le_of_eq (Nat.zero_add _)) (Nat.le_of_eq (Nat.zero_add _)) kk
theorem cv_X0_419_3 {a : Int} {n : Int} (d : decode M.2.1 pc = .ok (.invokevirtual 419, 3)) (ho : RX0 = M.2.2.2.2.1) (hh : h a = (3, n)) (hrm : 2 ≤ M.2.2.2.2.2.frames ∧ 60 ≤ M.2.2.2.2.2.locals) (hcs : (gCs st).ble 8 = true) (kk : Ctr Γ mX4_tells [(2, a)] v h t (fun r v' h' t' => Gx Γ M (pc + 3) ls (r :: st) v' h' t' bc bs Q)) : Gx Γ M pc ls ((2, a) :: st) v h t bc bs Q :=
  Gx_callO (M' := mX4_tells) (As := []) (n0 := 0) (k := 3) (C := RX4) (T := TX4) (N := 1) (x := ⟨"AcornYears$Sort", "tells", "()I"⟩) (owner := "AcornYears$Sort") rfl rfl d ho hh rfl rfl q997 q999 q998 q1010 q775 q121 q777 q1012 (by decide +kernel) hrm hcs (Nat.le_of_eq (Nat.zero_add _)) (Nat.le_of_eq (Nat.zero_add _)) kk
theorem cv_X0_419_4 {a : Int} {n : Int} (d : decode M.2.1 pc = .ok (.invokevirtual 419, 3)) (ho : RX0 = M.2.2.2.2.1) (hh : h a = (4, n)) (hrm : 1 ≤ M.2.2.2.2.2.frames ∧ 20 ≤ M.2.2.2.2.2.locals) (hcs : (gCs st).ble 8 = true) (kk : Ctr Γ mX5_tells [(2, a)] v h t (fun r v' h' t' => Gx Γ M (pc + 3) ls (r :: st) v' h' t' bc bs Q)) : Gx Γ M pc ls ((2, a) :: st) v h t bc bs Q :=
  Gx_callO (M' := mX5_tells) (As := []) (n0 := 0) (k := 4) (C := RX5) (T := TX5) (N := 3) (x := ⟨"AcornYears$Sort", "tells", "()I"⟩) (owner := "AcornYears$Sort") rfl rfl d ho hh rfl rfl q997 q999 q998 q1011 q790 q122 q792 q1012 (by decide +kernel) hrm hcs (Nat.le_of_eq (Nat.zero_add _)) (Nat.le_of_eq (Nat.zero_add _)) kk
theorem cv_X0_419_5 {a : Int} {n : Int} (d : decode M.2.1 pc = .ok (.invokevirtual 419, 3)) (ho : RX0 = M.2.2.2.2.1) (hh : h a = (5, n)) (hrm : 2 ≤ M.2.2.2.2.2.frames ∧ 40 ≤ M.2.2.2.2.2.locals) (hcs : (gCs st).ble 8 = true) (kk : Ctr Γ mX6_tells [(2, a)] v h t (fun r v' h' t' => Gx Γ M (pc + 3) ls (r :: st) v' h' t' bc bs Q)) : Gx Γ M pc ls ((2, a) :: st) v h t bc bs Q :=
  Gx_callO (M' := mX6_tells) (As := []) (n0 := 0) (k := 5) (C := RX6) (T := TX6) (N := 3) (x := ⟨"AcornYears$Sort", "tells", "()I"⟩) (owner := "AcornYears$Sort") rfl rfl d ho hh rfl rfl q997 q999 q998 q1006 q1007 q124 q1008 q1012 (by decide +kernel) hrm hcs (Nat.le_of_eq (Nat.zero_add _)) (Nat.le_of_eq (Nat.zero_add _)) kk
theorem cv_X0_419_6 {a : Int} {n : Int} (d : decode M.2.1 pc = .ok (.invokevirtual 419, 3)) (ho : RX0 = M.2.2.2.2.1) (hh : h a = (6, n)) (hrm : 1 ≤ M.2.2.2.2.2.frames ∧ 20 ≤ M.2.2.2.2.2.locals) (hcs : (gCs st).ble 8 = true) (kk : Ctr Γ mX7_tells [(2, a)] v h t (fun r v' h' t' => Gx Γ M (pc + 3) ls (r :: st) v' h' t' bc bs Q)) : Gx Γ M pc ls ((2, a) :: st) v h t bc bs Q :=
  Gx_callO (M' := mX7_tells) (As := []) (n0 := 0) (k := 6) (C := RX7) (T := TX7) (N := 4) (x := ⟨"AcornYears$Sort", "tells", "()I"⟩) (owner := "AcornYears$Sort") rfl rfl d ho hh rfl rfl q997 q999 q998 q1000 q1001 q125 q1002 q1012 (by decide +kernel) hrm hcs (Nat.le_of_eq (Nat.zero_add _)) (Nat.le_of_eq (Nat.zero_add _)) kk
theorem cv_X0_419_7 {a : Int} {n : Int} (d : decode M.2.1 pc = .ok (.invokevirtual 419, 3)) (ho : RX0 = M.2.2.2.2.1) (hh : h a = (7, n)) (hrm : 1 ≤ M.2.2.2.2.2.frames ∧ 20 ≤ M.2.2.2.2.2.locals) (hcs : (gCs st).ble 8 = true) (kk : Ctr Γ mX8_tells [(2, a)] v h t (fun r v' h' t' => Gx Γ M (pc + 3) ls (r :: st) v' h' t' bc bs Q)) : Gx Γ M pc ls ((2, a) :: st) v h t bc bs Q :=
  Gx_callO (M' := mX8_tells) (As := []) (n0 := 0) (k := 7) (C := RX8) (T := TX8) (N := 4) (x := ⟨"AcornYears$Sort", "tells", "()I"⟩) (owner := "AcornYears$Sort") rfl rfl d ho hh rfl rfl q997 q999 q998 q1003 q1004 q126 q1005 q1012 (by decide +kernel) hrm hcs (Nat.le_of_eq (Nat.zero_add _)) (Nat.le_of_eq (Nat.zero_add _)) kk
theorem cv_X0_416_3 {a : Int} {x1 : gV} {n : Int} (d : decode M.2.1 pc = .ok (.invokevirtual 416, 3)) (ho : RX0 = M.2.2.2.2.1) (hh : h a = (3, n)) (hrm : 2 ≤ M.2.2.2.2.2.frames ∧ 42 ≤ M.2.2.2.2.2.locals) (hcs : (gCs st).ble 8 = true) (kk : Ctr Γ mX4_is [(2, a), x1] v h t (fun r v' h' t' => Gx Γ M (pc + 3) ls (r :: st) v' h' t' bc bs Q)) : Gx Γ M pc ls (x1 :: (2, a) :: st) v h t bc bs Q :=
  Gx_callO (M' := mX4_is) (As := [x1]) (n0 := 1) (k := 3) (C := RX4) (T := TX4) (N := 1) (x := ⟨"AcornYears$Sort", "is", "(I)Z"⟩) (owner := "AcornYears$Sort") rfl rfl d ho hh rfl rfl q973 q975 q974 q988 q989 q121 q990 q996 (by decide +kernel) hrm hcs (Nat.le_of_eq (Nat.zero_add _)) (Nat.le_of_eq (Nat.zero_add _)) kk
theorem cv_X0_416_4 {a : Int} {x1 : gV} {n : Int} (d : decode M.2.1 pc = .ok (.invokevirtual 416, 3)) (ho : RX0 = M.2.2.2.2.1) (hh : h a = (4, n)) (hrm : 2 ≤ M.2.2.2.2.2.frames ∧ 42 ≤ M.2.2.2.2.2.locals) (hcs : (gCs st).ble 8 = true) (kk : Ctr Γ mX5_is [(2, a), x1] v h t (fun r v' h' t' => Gx Γ M (pc + 3) ls (r :: st) v' h' t' bc bs Q)) : Gx Γ M pc ls (x1 :: (2, a) :: st) v h t bc bs Q :=
  Gx_callO (M' := mX5_is) (As := [x1]) (n0 := 1) (k := 4) (C := RX5) (T := TX5) (N := 3) (x := ⟨"AcornYears$Sort", "is", "(I)Z"⟩) (owner := "AcornYears$Sort") rfl rfl d ho hh rfl rfl q973 q975 q974 q992 q993 q122 q994 q996 (by decide +kernel) hrm hcs (Nat.le_of_eq (Nat.zero_add _)) (Nat.le_of_eq (Nat.zero_add _)) kk
theorem cv_X0_416_5 {a : Int} {x1 : gV} {n : Int} (d : decode M.2.1 pc = .ok (.invokevirtual 416, 3)) (ho : RX0 = M.2.2.2.2.1) (hh : h a = (5, n)) (hrm : 2 ≤ M.2.2.2.2.2.frames ∧ 42 ≤ M.2.2.2.2.2.locals) (hcs : (gCs st).ble 8 = true) (kk : Ctr Γ mX6_is [(2, a), x1] v h t (fun r v' h' t' => Gx Γ M (pc + 3) ls (r :: st) v' h' t' bc bs Q)) : Gx Γ M pc ls (x1 :: (2, a) :: st) v h t bc bs Q :=
  Gx_callO (M' := mX6_is) (As := [x1]) (n0 := 1) (k := 5) (C := RX6) (T := TX6) (N := 3) (x := ⟨"AcornYears$Sort", "is", "(I)Z"⟩) (owner := "AcornYears$Sort") rfl rfl d ho hh rfl rfl q973 q975 q974 q987 q980 q124 q981 q996 (by decide +kernel) hrm hcs (Nat.le_of_eq (Nat.zero_add _)) (Nat.le_of_eq (Nat.zero_add _)) kk
theorem cv_X0_416_6 {a : Int} {x1 : gV} {n : Int} (d : decode M.2.1 pc = .ok (.invokevirtual 416, 3)) (ho : RX0 = M.2.2.2.2.1) (hh : h a = (6, n)) (hrm : 3 ≤ M.2.2.2.2.2.frames ∧ 63 ≤ M.2.2.2.2.2.locals) (hcs : (gCs st).ble 8 = true) (kk : Ctr Γ mX7_is [(2, a), x1] v h t (fun r v' h' t' => Gx Γ M (pc + 3) ls (r :: st) v' h' t' bc bs Q)) : Gx Γ M pc ls (x1 :: (2, a) :: st) v h t bc bs Q :=
  Gx_callO (M' := mX7_is) (As := [x1]) (n0 := 1) (k := 6) (C := RX7) (T := TX7) (N := 4) (x := ⟨"AcornYears$Sort", "is", "(I)Z"⟩) (owner := "AcornYears$Sort") rfl rfl d ho hh rfl rfl q973 q975 q974 q976 q977 q125 q978 q996 (by decide +kernel) hrm hcs (Nat.le_of_eq (Nat.zero_add _)) (Nat.le_of_eq (Nat.zero_add _)) kk
theorem cv_X0_416_7 {a : Int} {x1 : gV} {n : Int} (d : decode M.2.1 pc = .ok (.invokevirtual 416, 3)) (ho : RX0 = M.2.2.2.2.1) (hh : h a = (7, n)) (hrm : 3 ≤ M.2.2.2.2.2.frames ∧ 63 ≤ M.2.2.2.2.2.locals) (hcs : (gCs st).ble 8 = true) (kk : Ctr Γ mX8_is [(2, a), x1] v h t (fun r v' h' t' => Gx Γ M (pc + 3) ls (r :: st) v' h' t' bc bs Q)) : Gx Γ M pc ls (x1 :: (2, a) :: st) v h t bc bs Q :=
  Gx_callO (M' := mX8_is) (As := [x1]) (n0 := 1) (k := 7) (C := RX8) (T := TX8) (N := 4) (x := ⟨"AcornYears$Sort", "is", "(I)Z"⟩) (owner := "AcornYears$Sort") rfl rfl d ho hh rfl rfl q973 q975 q974 q983 q984 q126 q985 q996 (by decide +kernel) hrm hcs (Nat.le_of_eq (Nat.zero_add _)) (Nat.le_of_eq (Nat.zero_add _)) kk
theorem ci_X0_365_6 {a : Int} {x1 x2 x3 : gV} {n : Int} (d : decode M.2.1 pc = .ok (.invokeinterface 365 4, 5)) (ho : RX0 = M.2.2.2.2.1) (hh : h a = (6, n)) (hrm : 1 ≤ M.2.2.2.2.2.frames ∧ 23 ≤ M.2.2.2.2.2.locals) (hcs : (gCs st).ble 8 = true) (kk : Ctr Γ mX7_sets [(2, a), x1, x2, x3] v h t (fun r v' h' t' => Gx Γ M (pc + 5) ls (r :: st) v' h' t' bc bs Q)) : Gx Γ M pc ls (x3 :: x2 :: x1 :: (2, a) :: st) v h t bc bs Q :=
  Gx_callF (M' := mX7_sets) (As := [x1, x2, x3]) (n0 := 3) (k := 6) (C := RX7) (T := TX7) (N := 4) (x := ⟨"AcornYears$Pollen", "sets", "(III)Z"⟩) rfl rfl d ho hh rfl rfl q917 q921 q923 q125 q925 q919 q918 q924 q922 q920 (by decide +kernel) hrm hcs (Nat.le_of_eq (Nat.zero_add _)) (Nat.le_of_eq (Nat.zero_add _)) kk
theorem cl_X1_3 {a n : Int} {k : Nat} (d : decode M.2.1 pc = .ok (.invokespecial 3, 3)) (ho : RX1 = M.2.2.2.2.1) (hh : h a = (k, n)) (hk : k ≠ 99) (hrm : 1 ≤ M.2.2.2.2.2.frames ∧ 20 ≤ M.2.2.2.2.2.locals) (hcs : (gCs st).ble 8 = true) (kk : Gx Γ M (pc + 3) ls st v h t bc bs Q) : Gx Γ M pc ls ((2, a) :: st) v h t bc bs Q :=
  Gx_objI d ho hh hk q150 q135 q136 hrm hcs kk
theorem cl_X3_1 {a n : Int} {k : Nat} (d : decode M.2.1 pc = .ok (.invokespecial 1, 3)) (ho : RX3 = M.2.2.2.2.1) (hh : h a = (k, n)) (hk : k ≠ 99) (hrm : 1 ≤ M.2.2.2.2.2.frames ∧ 20 ≤ M.2.2.2.2.2.locals) (hcs : (gCs st).ble 8 = true) (kk : Gx Γ M (pc + 3) ls st v h t bc bs Q) : Gx Γ M pc ls ((2, a) :: st) v h t bc bs Q :=
  Gx_objI d ho hh hk q611 q135 q136 hrm hcs kk
theorem cv_X4_13_3 {a : Int} {x1 : gV} {n : Int} (d : decode M.2.1 pc = .ok (.invokevirtual 13, 3)) (ho : RX4 = M.2.2.2.2.1) (hh : h a = (3, n)) (hrm : 1 ≤ M.2.2.2.2.2.frames ∧ 21 ≤ M.2.2.2.2.2.locals) (hcs : (gCs st).ble 8 = true) (kk : Ctr Γ mX3_adds [(2, a), x1] v h t (fun r v' h' t' => Gx Γ M (pc + 3) ls (r :: st) v' h' t' bc bs Q)) : Gx Γ M pc ls (x1 :: (2, a) :: st) v h t bc bs Q :=
  Gx_callU (M' := mX3_adds) (As := [x1]) (n0 := 1) (k := 3) (C := RX4) (T := TX4) (N := 1) (x := ⟨"AcornYears$Steady", "adds", "(I)I"⟩) (owner := "AcornYears$Sort") rfl rfl d ho hh rfl rfl q778 q779 q781 q729 q120 q736 rfl (by decide +kernel) hrm hcs (Nat.le_of_eq (Nat.zero_add _)) (Nat.le_of_eq (Nat.zero_add _)) kk
theorem cs_X4_9_3 {a : Int} {x1 : gV} {n : Int} (d : decode M.2.1 pc = .ok (.invokespecial 9, 3)) (ho : RX4 = M.2.2.2.2.1) (hh : h a = (3, n)) (hrm : 1 ≤ M.2.2.2.2.2.frames ∧ 21 ≤ M.2.2.2.2.2.locals) (hcs : (gCs st).ble 8 = true) (kk : Ctr Γ mX3_is [(2, a), x1] v h t (fun r v' h' t' => Gx Γ M (pc + 3) ls (r :: st) v' h' t' bc bs Q)) : Gx Γ M pc ls (x1 :: (2, a) :: st) v h t bc bs Q :=
  Gx_callSU (M' := mX3_is) (As := [x1]) (n0 := 1) (k := 3) (C := RX4) (T := TX4) (N := 1) rfl rfl d ho hh rfl rfl q991 q975 q615 q974 q120 q996 (by decide +kernel) hrm hcs (Nat.le_of_eq (Nat.zero_add _)) (Nat.le_of_eq (Nat.zero_add _)) kk
theorem cs_X5_18_4 {a : Int} {x1 : gV} {n : Int} (d : decode M.2.1 pc = .ok (.invokespecial 18, 3)) (ho : RX5 = M.2.2.2.2.1) (hh : h a = (4, n)) (hrm : 1 ≤ M.2.2.2.2.2.frames ∧ 21 ≤ M.2.2.2.2.2.locals) (hcs : (gCs st).ble 8 = true) (kk : Ctr Γ mX3_is [(2, a), x1] v h t (fun r v' h' t' => Gx Γ M (pc + 3) ls (r :: st) v' h' t' bc bs Q)) : Gx Γ M pc ls (x1 :: (2, a) :: st) v h t bc bs Q :=
  Gx_callSU (M' := mX3_is) (As := [x1]) (n0 := 1) (k := 4) (C := RX5) (T := TX5) (N := 3) rfl rfl d ho hh rfl rfl q995 q975 q633 q974 q120 q996 (by decide +kernel) hrm hcs (Nat.le_of_eq (Nat.zero_add _)) (Nat.le_of_eq (Nat.zero_add _)) kk
theorem cs_X6_18_5 {a : Int} {x1 : gV} {n : Int} (d : decode M.2.1 pc = .ok (.invokespecial 18, 3)) (ho : RX6 = M.2.2.2.2.1) (hh : h a = (5, n)) (hrm : 1 ≤ M.2.2.2.2.2.frames ∧ 21 ≤ M.2.2.2.2.2.locals) (hcs : (gCs st).ble 8 = true) (kk : Ctr Γ mX3_is [(2, a), x1] v h t (fun r v' h' t' => Gx Γ M (pc + 3) ls (r :: st) v' h' t' bc bs Q)) : Gx Γ M pc ls (x1 :: (2, a) :: st) v h t bc bs Q :=
  Gx_callSU (M' := mX3_is) (As := [x1]) (n0 := 1) (k := 5) (C := RX6) (T := TX6) (N := 3) rfl rfl d ho hh rfl rfl q982 q975 q654 q974 q120 q996 (by decide +kernel) hrm hcs (Nat.le_of_eq (Nat.zero_add _)) (Nat.le_of_eq (Nat.zero_add _)) kk
theorem cs_X6_18_6 {a : Int} {x1 : gV} {n : Int} (d : decode M.2.1 pc = .ok (.invokespecial 18, 3)) (ho : RX6 = M.2.2.2.2.1) (hh : h a = (6, n)) (hrm : 1 ≤ M.2.2.2.2.2.frames ∧ 21 ≤ M.2.2.2.2.2.locals) (hcs : (gCs st).ble 8 = true) (kk : Ctr Γ mX3_is [(2, a), x1] v h t (fun r v' h' t' => Gx Γ M (pc + 3) ls (r :: st) v' h' t' bc bs Q)) : Gx Γ M pc ls (x1 :: (2, a) :: st) v h t bc bs Q :=
  Gx_callSU (M' := mX3_is) (As := [x1]) (n0 := 1) (k := 6) (C := RX7) (T := TX7) (N := 4) rfl rfl d ho hh rfl rfl q982 q975 q654 q974 q120 q996 (by decide +kernel) hrm hcs (Nat.le_of_eq (Nat.zero_add _)) (Nat.le_of_eq (Nat.zero_add _)) kk
theorem cs_X6_18_7 {a : Int} {x1 : gV} {n : Int} (d : decode M.2.1 pc = .ok (.invokespecial 18, 3)) (ho : RX6 = M.2.2.2.2.1) (hh : h a = (7, n)) (hrm : 1 ≤ M.2.2.2.2.2.frames ∧ 21 ≤ M.2.2.2.2.2.locals) (hcs : (gCs st).ble 8 = true) (kk : Ctr Γ mX3_is [(2, a), x1] v h t (fun r v' h' t' => Gx Γ M (pc + 3) ls (r :: st) v' h' t' bc bs Q)) : Gx Γ M pc ls (x1 :: (2, a) :: st) v h t bc bs Q :=
  Gx_callSU (M' := mX3_is) (As := [x1]) (n0 := 1) (k := 7) (C := RX8) (T := TX8) (N := 4) rfl rfl d ho hh rfl rfl q982 q975 q654 q974 q120 q996 (by decide +kernel) hrm hcs (Nat.le_of_eq (Nat.zero_add _)) (Nat.le_of_eq (Nat.zero_add _)) kk
theorem cv_X6_22_5 {a : Int} {n : Int} (d : decode M.2.1 pc = .ok (.invokevirtual 22, 3)) (ho : RX6 = M.2.2.2.2.1) (hh : h a = (5, n)) (hrm : 1 ≤ M.2.2.2.2.2.frames ∧ 20 ≤ M.2.2.2.2.2.locals) (hcs : (gCs st).ble 8 = true) (kk : Ctr Γ mX6_saves [(2, a)] v h t (fun r v' h' t' => Gx Γ M (pc + 3) ls (r :: st) v' h' t' bc bs Q)) : Gx Γ M pc ls ((2, a) :: st) v h t bc bs Q :=
  Gx_callU (M' := mX6_saves) (As := []) (n0 := 0) (k := 5) (C := RX6) (T := TX6) (N := 3) (x := ⟨"AcornYears$Saver", "saves", "()I"⟩) (owner := "AcornYears$Saver") rfl rfl d ho hh rfl rfl q1009 q785 q784 q783 q124 q788 rfl (by decide +kernel) hrm hcs (Nat.le_of_eq (Nat.zero_add _)) (Nat.le_of_eq (Nat.zero_add _)) kk
theorem cv_X6_22_6 {a : Int} {n : Int} (d : decode M.2.1 pc = .ok (.invokevirtual 22, 3)) (ho : RX6 = M.2.2.2.2.1) (hh : h a = (6, n)) (hrm : 1 ≤ M.2.2.2.2.2.frames ∧ 20 ≤ M.2.2.2.2.2.locals) (hcs : (gCs st).ble 8 = true) (kk : Ctr Γ mX6_saves [(2, a)] v h t (fun r v' h' t' => Gx Γ M (pc + 3) ls (r :: st) v' h' t' bc bs Q)) : Gx Γ M pc ls ((2, a) :: st) v h t bc bs Q :=
  Gx_callU (M' := mX6_saves) (As := []) (n0 := 0) (k := 6) (C := RX7) (T := TX7) (N := 4) (x := ⟨"AcornYears$Saver", "saves", "()I"⟩) (owner := "AcornYears$Saver") rfl rfl d ho hh rfl rfl q1009 q785 q786 q783 q124 q788 rfl (by decide +kernel) hrm hcs (Nat.le_of_eq (Nat.zero_add _)) (Nat.le_of_eq (Nat.zero_add _)) kk
theorem cv_X6_22_7 {a : Int} {n : Int} (d : decode M.2.1 pc = .ok (.invokevirtual 22, 3)) (ho : RX6 = M.2.2.2.2.1) (hh : h a = (7, n)) (hrm : 1 ≤ M.2.2.2.2.2.frames ∧ 20 ≤ M.2.2.2.2.2.locals) (hcs : (gCs st).ble 8 = true) (kk : Ctr Γ mX6_saves [(2, a)] v h t (fun r v' h' t' => Gx Γ M (pc + 3) ls (r :: st) v' h' t' bc bs Q)) : Gx Γ M pc ls ((2, a) :: st) v h t bc bs Q :=
  Gx_callU (M' := mX6_saves) (As := []) (n0 := 0) (k := 7) (C := RX8) (T := TX8) (N := 4) (x := ⟨"AcornYears$Saver", "saves", "()I"⟩) (owner := "AcornYears$Saver") rfl rfl d ho hh rfl rfl q1009 q785 q787 q783 q124 q788 rfl (by decide +kernel) hrm hcs (Nat.le_of_eq (Nat.zero_add _)) (Nat.le_of_eq (Nat.zero_add _)) kk
theorem cs_X7_15_6 {a : Int} {x1 : gV} {n : Int} (d : decode M.2.1 pc = .ok (.invokespecial 15, 3)) (ho : RX7 = M.2.2.2.2.1) (hh : h a = (6, n)) (hrm : 2 ≤ M.2.2.2.2.2.frames ∧ 42 ≤ M.2.2.2.2.2.locals) (hcs : (gCs st).ble 8 = true) (kk : Ctr Γ mX6_is [(2, a), x1] v h t (fun r v' h' t' => Gx Γ M (pc + 3) ls (r :: st) v' h' t' bc bs Q)) : Gx Γ M pc ls (x1 :: (2, a) :: st) v h t bc bs Q :=
  Gx_callSU (M' := mX6_is) (As := [x1]) (n0 := 1) (k := 6) (C := RX7) (T := TX7) (N := 4) rfl rfl d ho hh rfl rfl q979 q1787 q668 q980 q124 q981 (by decide +kernel) hrm hcs (Nat.le_of_eq (Nat.zero_add _)) (Nat.le_of_eq (Nat.zero_add _)) kk
theorem cs_X8_19_7 {a : Int} {x1 x2 x3 : gV} {n : Int} (d : decode M.2.1 pc = .ok (.invokespecial 19, 3)) (ho : RX8 = M.2.2.2.2.1) (hh : h a = (7, n)) (hrm : 1 ≤ M.2.2.2.2.2.frames ∧ 23 ≤ M.2.2.2.2.2.locals) (hcs : (gCs st).ble 8 = true) (kk : Ctr Γ mX6_blooms [(2, a), x1, x2, x3] v h t (fun r v' h' t' => Gx Γ M (pc + 3) ls (r :: st) v' h' t' bc bs Q)) : Gx Γ M pc ls (x3 :: x2 :: x1 :: (2, a) :: st) v h t bc bs Q :=
  Gx_callSU (M' := mX6_blooms) (As := [x1, x2, x3]) (n0 := 3) (k := 7) (C := RX8) (T := TX8) (N := 4) rfl rfl d ho hh rfl rfl q873 q1786 q682 q868 q124 q869 (by decide +kernel) hrm hcs (Nat.le_of_eq (Nat.zero_add _)) (Nat.le_of_eq (Nat.zero_add _)) kk
theorem cs_X8_15_7 {a : Int} {x1 : gV} {n : Int} (d : decode M.2.1 pc = .ok (.invokespecial 15, 3)) (ho : RX8 = M.2.2.2.2.1) (hh : h a = (7, n)) (hrm : 2 ≤ M.2.2.2.2.2.frames ∧ 42 ≤ M.2.2.2.2.2.locals) (hcs : (gCs st).ble 8 = true) (kk : Ctr Γ mX6_is [(2, a), x1] v h t (fun r v' h' t' => Gx Γ M (pc + 3) ls (r :: st) v' h' t' bc bs Q)) : Gx Γ M pc ls (x1 :: (2, a) :: st) v h t bc bs Q :=
  Gx_callSU (M' := mX6_is) (As := [x1]) (n0 := 1) (k := 7) (C := RX8) (T := TX8) (N := 4) rfl rfl d ho hh rfl rfl q986 q1787 q682 q980 q124 q981 (by decide +kernel) hrm hcs (Nat.le_of_eq (Nat.zero_add _)) (Nat.le_of_eq (Nat.zero_add _)) kk
theorem cl_X9_3 {a n : Int} {k : Nat} (d : decode M.2.1 pc = .ok (.invokespecial 3, 3)) (ho : RX9 = M.2.2.2.2.1) (hh : h a = (k, n)) (hk : k ≠ 99) (hrm : 1 ≤ M.2.2.2.2.2.frames ∧ 20 ≤ M.2.2.2.2.2.locals) (hcs : (gCs st).ble 8 = true) (kk : Gx Γ M (pc + 3) ls st v h t bc bs Q) : Gx Γ M pc ls ((2, a) :: st) v h t bc bs Q :=
  Gx_objI d ho hh hk q703 q135 q136 hrm hcs kk
end
