/-! THE ABSTRACT LAYER, 5: arrays -/
section
variable {Γ : gC} {M : gI} {pc : Nat} {ls st : List gV} {v : gM} {h : gH} {t bc bs : Nat} {Q : gQ}
theorem gR_arr {a n : Int} {k : Nat} {H : Heap} (hH : gR Γ v h t H) (hh : h a = (k, n)) (h1 : 10 ≤ k) (h2 : k ≤ 18) : (0 ≤ a ∧ a < t) ∧ gAr Γ v t k n a H := by
  have ha := gR_in hH hh (by show k ≠ 99; omega)
  have hA := (hH.2.2.2 a ha.1 ha.2).2
  rw [hh] at hA
  exact ⟨ha, hA h1 h2⟩
theorem gTys_at {s : State} {k : Nat} (hK : gK Γ s) (h1 : 10 ≤ k) (h2 : k ≤ 18) : ArrOfT s (Γ.2.2.2.1 k) (gEt k) ∧ va_RA s (Γ.2.2.2.1 k) (gEt k) := by
  refine hK.1.2 (k - 10) (Γ.2.2.2.1 k, gEt k) ?_
  rcases (by omega : k = 10 ∨ k = 11 ∨ k = 12 ∨ k = 13 ∨ k = 14 ∨ k = 15 ∨ k = 16 ∨ k = 17 ∨ k = 18) with rfl | rfl | rfl | rfl | rfl | rfl | rfl | rfl | rfl <;> rfl
theorem gAr_set {a i x n : Int} {k : Nat} {H H' : Heap} {val : Value} (hh : h a = (k, n)) (h1 : 10 ≤ k) (h2 : k ≤ 18) (hA : gAr Γ v t k n a H) (hi : 0 ≤ i ∧ i < n) (hx : gRt t (gEt k) x) (hv : val = gCt (gB Γ) (gEt k) x) (e : H'[gB Γ + a.toNat]? = some ((arrV (Γ.2.2.2.1 k) n.toNat (fun j => gCt (gB Γ) (gEt k) (v a j))).setSlot i.toNat val)) : gAt Γ (gUp v a i x) h t a H' := by
  unfold gAt
  rw [hh]
  refine ⟨fun ho => ?_, fun _ _ => ⟨?_, hA.2.1, hA.2.2.1, fun j j1 j2 => ?_⟩⟩
  · exfalso
    simp [gO] at ho
    omega
  · rw [e, arrV_store]
    congr 2
    funext j
    unfold updV
    dsimp only
    rw [gUp_at]
    by_cases hj : j = i.toNat
    · rw [if_pos hj, if_pos (by omega), hv]
    · rw [if_neg hj, if_neg (by omega)]
  · rw [gUp_at]
    split
    · exact hx
    · exact hA.2.2.2 j j1 j2

theorem Gx_iaload {a i n : Int} (d : decode M.2.1 pc = .ok (.iaload, 1)) (hh : h a = (10, n)) (hi : 0 ≤ i ∧ i < n) (kk : Gx Γ M (pc + 1) ls ((0, v a i) :: st) v h t bc bs Q) : Gx Γ M pc ls ((0, i) :: (2, a) :: st) v h t bc bs Q := by
  intro p e R s m args below meth c Z Cx H locs cells slots lsa h1 h2 h3 h4 h5 h6 h7
  obtain ⟨ha, hA⟩ := gR_arr h1 hh (by omega) (by omega)
  have hK := Cx.2.2.2.2.1
  obtain ⟨hT, -⟩ := gTys_at (k := 10) hK (by omega) (by omega)
  have hk2 := kk p e R s m args below meth c Z Cx H locs cells slots lsa h1 h2 h3 h4 h5 h6 ⟨gRt_ra (hA.2.2.2 i hi.1 hi.2), h7.2.2⟩
  show W _ _ _ _ _ _ _ _ _ _ _ _ _ _ _ (F0 m pc lsa (.int (Int32.ofInt i) :: gRv (gB Γ) a :: st.map (gCv Γ)))
  rw [gRv_ref ha.1]
  refine W.iald (v := gCv Γ (0, v a i)) Cx.1 Cx.2.1 hA.1 (hT _ _) (fun z => by cases z) (by rw [arrV_size]; exact in32 h7.1 hi) ?_ rfl rfl d hk2
  rw [clamp32 h7.1, arrV_read _ _ (by omega), show ((i.toNat : Nat) : Int) = i by omega]
  rfl
theorem Gx_baload {a i n : Int} (d : decode M.2.1 pc = .ok (.baload, 1)) (hh : h a = (11, n)) (hi : 0 ≤ i ∧ i < n) (kk : Gx Γ M (pc + 1) ls ((0, v a i) :: st) v h t bc bs Q) : Gx Γ M pc ls ((0, i) :: (2, a) :: st) v h t bc bs Q := by
  intro p e R s m args below meth c Z Cx H locs cells slots lsa h1 h2 h3 h4 h5 h6 h7
  obtain ⟨ha, hA⟩ := gR_arr h1 hh (by omega) (by omega)
  have hK := Cx.2.2.2.2.1
  obtain ⟨hT, -⟩ := gTys_at (k := 11) hK (by omega) (by omega)
  have hk2 := kk p e R s m args below meth c Z Cx H locs cells slots lsa h1 h2 h3 h4 h5 h6 ⟨gRt_ra (hA.2.2.2 i hi.1 hi.2), h7.2.2⟩
  show W _ _ _ _ _ _ _ _ _ _ _ _ _ _ _ (F0 m pc lsa (.int (Int32.ofInt i) :: gRv (gB Γ) a :: st.map (gCv Γ)))
  rw [gRv_ref ha.1]
  refine W.bald (v := gCv Γ (0, v a i)) Cx.1 Cx.2.1 hA.1 (hT _ _) (fun z => by cases z) (by rw [arrV_size]; exact in32 h7.1 hi) ?_ rfl rfl d hk2
  rw [clamp32 h7.1, arrV_read _ _ (by omega), show ((i.toNat : Nat) : Int) = i by omega]
  rfl
theorem Gx_zaload {a i n : Int} (d : decode M.2.1 pc = .ok (.baload, 1)) (hh : h a = (12, n)) (hi : 0 ≤ i ∧ i < n) (kk : Gx Γ M (pc + 1) ls ((0, v a i) :: st) v h t bc bs Q) : Gx Γ M pc ls ((0, i) :: (2, a) :: st) v h t bc bs Q := by
  intro p e R s m args below meth c Z Cx H locs cells slots lsa h1 h2 h3 h4 h5 h6 h7
  obtain ⟨ha, hA⟩ := gR_arr h1 hh (by omega) (by omega)
  have hK := Cx.2.2.2.2.1
  obtain ⟨hT, -⟩ := gTys_at (k := 12) hK (by omega) (by omega)
  have hk2 := kk p e R s m args below meth c Z Cx H locs cells slots lsa h1 h2 h3 h4 h5 h6 ⟨gRt_ra (hA.2.2.2 i hi.1 hi.2), h7.2.2⟩
  show W _ _ _ _ _ _ _ _ _ _ _ _ _ _ _ (F0 m pc lsa (.int (Int32.ofInt i) :: gRv (gB Γ) a :: st.map (gCv Γ)))
  rw [gRv_ref ha.1]
  refine W.zald (v := gCv Γ (0, v a i)) Cx.1 Cx.2.1 hA.1 (hT _ _) (fun z => by cases z) (by rw [arrV_size]; exact in32 h7.1 hi) ?_ rfl rfl d hk2
  rw [clamp32 h7.1, arrV_read _ _ (by omega), show ((i.toNat : Nat) : Int) = i by omega]
  rfl
theorem Gx_saload {a i n : Int} (d : decode M.2.1 pc = .ok (.saload, 1)) (hh : h a = (13, n)) (hi : 0 ≤ i ∧ i < n) (kk : Gx Γ M (pc + 1) ls ((0, v a i) :: st) v h t bc bs Q) : Gx Γ M pc ls ((0, i) :: (2, a) :: st) v h t bc bs Q := by
  intro p e R s m args below meth c Z Cx H locs cells slots lsa h1 h2 h3 h4 h5 h6 h7
  obtain ⟨ha, hA⟩ := gR_arr h1 hh (by omega) (by omega)
  have hK := Cx.2.2.2.2.1
  obtain ⟨hT, -⟩ := gTys_at (k := 13) hK (by omega) (by omega)
  have hk2 := kk p e R s m args below meth c Z Cx H locs cells slots lsa h1 h2 h3 h4 h5 h6 ⟨gRt_ra (hA.2.2.2 i hi.1 hi.2), h7.2.2⟩
  show W _ _ _ _ _ _ _ _ _ _ _ _ _ _ _ (F0 m pc lsa (.int (Int32.ofInt i) :: gRv (gB Γ) a :: st.map (gCv Γ)))
  rw [gRv_ref ha.1]
  refine W.sald (v := gCv Γ (0, v a i)) Cx.1 Cx.2.1 hA.1 (hT _ _) (fun z => by cases z) (by rw [arrV_size]; exact in32 h7.1 hi) ?_ rfl rfl d hk2
  rw [clamp32 h7.1, arrV_read _ _ (by omega), show ((i.toNat : Nat) : Int) = i by omega]
  rfl
theorem Gx_laload {a i n : Int} (d : decode M.2.1 pc = .ok (.laload, 1)) (hh : h a = (14, n)) (hi : 0 ≤ i ∧ i < n) (kk : Gx Γ M (pc + 1) ls ((1, v a i) :: st) v h t bc bs Q) : Gx Γ M pc ls ((0, i) :: (2, a) :: st) v h t bc bs Q := by
  intro p e R s m args below meth c Z Cx H locs cells slots lsa h1 h2 h3 h4 h5 h6 h7
  obtain ⟨ha, hA⟩ := gR_arr h1 hh (by omega) (by omega)
  have hK := Cx.2.2.2.2.1
  obtain ⟨hT, -⟩ := gTys_at (k := 14) hK (by omega) (by omega)
  have hk2 := kk p e R s m args below meth c Z Cx H locs cells slots lsa h1 h2 h3 h4 h5 h6 ⟨gRt_ra (hA.2.2.2 i hi.1 hi.2), h7.2.2⟩
  show W _ _ _ _ _ _ _ _ _ _ _ _ _ _ _ (F0 m pc lsa (.int (Int32.ofInt i) :: gRv (gB Γ) a :: st.map (gCv Γ)))
  rw [gRv_ref ha.1]
  refine W.lald (v := gCv Γ (1, v a i)) Cx.1 Cx.2.1 hA.1 (hT _ _) (fun z => by cases z) (by rw [arrV_size]; exact in32 h7.1 hi) ?_ rfl rfl d hk2
  rw [clamp32 h7.1, arrV_read _ _ (by omega), show ((i.toNat : Nat) : Int) = i by omega]
  rfl
theorem Gx_aaload15 {a i n : Int} (d : decode M.2.1 pc = .ok (.aaload, 1)) (hh : h a = (15, n)) (hi : 0 ≤ i ∧ i < n) (kk : Gx Γ M (pc + 1) ls ((2, v a i) :: st) v h t bc bs Q) : Gx Γ M pc ls ((0, i) :: (2, a) :: st) v h t bc bs Q := by
  intro p e R s m args below meth c Z Cx H locs cells slots lsa h1 h2 h3 h4 h5 h6 h7
  obtain ⟨ha, hA⟩ := gR_arr h1 hh (by omega) (by omega)
  have hK := Cx.2.2.2.2.1
  obtain ⟨hT, -⟩ := gTys_at (k := 15) hK (by omega) (by omega)
  have hk2 := kk p e R s m args below meth c Z Cx H locs cells slots lsa h1 h2 h3 h4 h5 h6 ⟨gRt_ra (hA.2.2.2 i hi.1 hi.2), h7.2.2⟩
  show W _ _ _ _ _ _ _ _ _ _ _ _ _ _ _ (F0 m pc lsa (.int (Int32.ofInt i) :: gRv (gB Γ) a :: st.map (gCv Γ)))
  rw [gRv_ref ha.1]
  refine W.aald (v := gCv Γ (2, v a i)) Cx.1 Cx.2.1 hA.1 (hT _ _) rfl (fun z => by cases z) (by rw [arrV_size]; exact in32 h7.1 hi) ?_ rfl rfl d hk2
  rw [clamp32 h7.1, arrV_read _ _ (by omega), show ((i.toNat : Nat) : Int) = i by omega]
  rfl
theorem Gx_aaload16 {a i n : Int} (d : decode M.2.1 pc = .ok (.aaload, 1)) (hh : h a = (16, n)) (hi : 0 ≤ i ∧ i < n) (kk : Gx Γ M (pc + 1) ls ((2, v a i) :: st) v h t bc bs Q) : Gx Γ M pc ls ((0, i) :: (2, a) :: st) v h t bc bs Q := by
  intro p e R s m args below meth c Z Cx H locs cells slots lsa h1 h2 h3 h4 h5 h6 h7
  obtain ⟨ha, hA⟩ := gR_arr h1 hh (by omega) (by omega)
  have hK := Cx.2.2.2.2.1
  obtain ⟨hT, -⟩ := gTys_at (k := 16) hK (by omega) (by omega)
  have hk2 := kk p e R s m args below meth c Z Cx H locs cells slots lsa h1 h2 h3 h4 h5 h6 ⟨gRt_ra (hA.2.2.2 i hi.1 hi.2), h7.2.2⟩
  show W _ _ _ _ _ _ _ _ _ _ _ _ _ _ _ (F0 m pc lsa (.int (Int32.ofInt i) :: gRv (gB Γ) a :: st.map (gCv Γ)))
  rw [gRv_ref ha.1]
  refine W.aald (v := gCv Γ (2, v a i)) Cx.1 Cx.2.1 hA.1 (hT _ _) rfl (fun z => by cases z) (by rw [arrV_size]; exact in32 h7.1 hi) ?_ rfl rfl d hk2
  rw [clamp32 h7.1, arrV_read _ _ (by omega), show ((i.toNat : Nat) : Int) = i by omega]
  rfl
theorem Gx_aaload17 {a i n : Int} (d : decode M.2.1 pc = .ok (.aaload, 1)) (hh : h a = (17, n)) (hi : 0 ≤ i ∧ i < n) (kk : Gx Γ M (pc + 1) ls ((2, v a i) :: st) v h t bc bs Q) : Gx Γ M pc ls ((0, i) :: (2, a) :: st) v h t bc bs Q := by
  intro p e R s m args below meth c Z Cx H locs cells slots lsa h1 h2 h3 h4 h5 h6 h7
  obtain ⟨ha, hA⟩ := gR_arr h1 hh (by omega) (by omega)
  have hK := Cx.2.2.2.2.1
  obtain ⟨hT, -⟩ := gTys_at (k := 17) hK (by omega) (by omega)
  have hk2 := kk p e R s m args below meth c Z Cx H locs cells slots lsa h1 h2 h3 h4 h5 h6 ⟨gRt_ra (hA.2.2.2 i hi.1 hi.2), h7.2.2⟩
  show W _ _ _ _ _ _ _ _ _ _ _ _ _ _ _ (F0 m pc lsa (.int (Int32.ofInt i) :: gRv (gB Γ) a :: st.map (gCv Γ)))
  rw [gRv_ref ha.1]
  refine W.aald (v := gCv Γ (2, v a i)) Cx.1 Cx.2.1 hA.1 (hT _ _) rfl (fun z => by cases z) (by rw [arrV_size]; exact in32 h7.1 hi) ?_ rfl rfl d hk2
  rw [clamp32 h7.1, arrV_read _ _ (by omega), show ((i.toNat : Nat) : Int) = i by omega]
  rfl
theorem Gx_aaload18 {a i n : Int} (d : decode M.2.1 pc = .ok (.aaload, 1)) (hh : h a = (18, n)) (hi : 0 ≤ i ∧ i < n) (kk : Gx Γ M (pc + 1) ls ((2, v a i) :: st) v h t bc bs Q) : Gx Γ M pc ls ((0, i) :: (2, a) :: st) v h t bc bs Q := by
  intro p e R s m args below meth c Z Cx H locs cells slots lsa h1 h2 h3 h4 h5 h6 h7
  obtain ⟨ha, hA⟩ := gR_arr h1 hh (by omega) (by omega)
  have hK := Cx.2.2.2.2.1
  obtain ⟨hT, -⟩ := gTys_at (k := 18) hK (by omega) (by omega)
  have hk2 := kk p e R s m args below meth c Z Cx H locs cells slots lsa h1 h2 h3 h4 h5 h6 ⟨gRt_ra (hA.2.2.2 i hi.1 hi.2), h7.2.2⟩
  show W _ _ _ _ _ _ _ _ _ _ _ _ _ _ _ (F0 m pc lsa (.int (Int32.ofInt i) :: gRv (gB Γ) a :: st.map (gCv Γ)))
  rw [gRv_ref ha.1]
  refine W.aald (v := gCv Γ (2, v a i)) Cx.1 Cx.2.1 hA.1 (hT _ _) rfl (fun z => by cases z) (by rw [arrV_size]; exact in32 h7.1 hi) ?_ rfl rfl d hk2
  rw [clamp32 h7.1, arrV_read _ _ (by omega), show ((i.toNat : Nat) : Int) = i by omega]
  rfl
theorem Gx_iastore {a i x n : Int} (d : decode M.2.1 pc = .ok (.iastore, 1)) (hh : h a = (10, n)) (hi : 0 ≤ i ∧ i < n) (kk : Gx Γ M (pc + 1) ls st (gUp v a i x) h t bc bs Q) : Gx Γ M pc ls ((0, x) :: (0, i) :: (2, a) :: st) v h t bc bs Q := by
  intro p e R s m args below meth c Z Cx H locs cells slots lsa h1 h2 h3 h4 h5 h6 h7
  obtain ⟨ha, hA⟩ := gR_arr h1 hh (by omega) (by omega)
  have hK := Cx.2.2.2.2.1
  obtain ⟨hT, -⟩ := gTys_at (k := 10) hK (by omega) (by omega)
  show W _ _ _ _ _ _ _ _ _ _ _ _ _ _ _ (F0 m pc lsa (gCv Γ (0, x) :: .int (Int32.ofInt i) :: gRv (gB Γ) a :: st.map (gCv Γ)))
  rw [gRv_ref ha.1]
  refine W.iast Cx.1 Cx.2.1 hA.1 (hT _ _) (fun z => by cases z) (by rw [arrV_size]; exact in32 h7.2.1 hi) rfl rfl d fun H' z1 z2 z3 => ?_
  rw [clamp32 h7.2.1] at z1
  have hR := gR_set (v' := gUp v a i x) h1 ha z2 z3 (fun b j hb => gUp_ne hb) (gAr_set hh (by omega) (by omega) hA hi h7.1 rfl z1)
  exact kk p e R s m args below meth c Z Cx H' _ cells slots lsa hR (h2.put z2 z3 (by show gB Γ ≤ _; omega)) h3 h4 h5 h6 h7.2.2.2
theorem Gx_lastore {a i x n : Int} (d : decode M.2.1 pc = .ok (.lastore, 1)) (hh : h a = (14, n)) (hi : 0 ≤ i ∧ i < n) (kk : Gx Γ M (pc + 1) ls st (gUp v a i x) h t bc bs Q) : Gx Γ M pc ls ((1, x) :: (0, i) :: (2, a) :: st) v h t bc bs Q := by
  intro p e R s m args below meth c Z Cx H locs cells slots lsa h1 h2 h3 h4 h5 h6 h7
  obtain ⟨ha, hA⟩ := gR_arr h1 hh (by omega) (by omega)
  have hK := Cx.2.2.2.2.1
  obtain ⟨hT, -⟩ := gTys_at (k := 14) hK (by omega) (by omega)
  show W _ _ _ _ _ _ _ _ _ _ _ _ _ _ _ (F0 m pc lsa (gCv Γ (1, x) :: .int (Int32.ofInt i) :: gRv (gB Γ) a :: st.map (gCv Γ)))
  rw [gRv_ref ha.1]
  refine W.last Cx.1 Cx.2.1 hA.1 (hT _ _) (fun z => by cases z) (by rw [arrV_size]; exact in32 h7.2.1 hi) rfl rfl d fun H' z1 z2 z3 => ?_
  rw [clamp32 h7.2.1] at z1
  have hR := gR_set (v' := gUp v a i x) h1 ha z2 z3 (fun b j hb => gUp_ne hb) (gAr_set hh (by omega) (by omega) hA hi h7.1 rfl z1)
  exact kk p e R s m args below meth c Z Cx H' _ cells slots lsa hR (h2.put z2 z3 (by show gB Γ ≤ _; omega)) h3 h4 h5 h6 h7.2.2.2
theorem nar8 {x : Int} (hx : -128 ≤ x ∧ x < 128) : narrow .byte (.int (Int32.ofInt x)) = .int (Int32.ofInt x) := by
  show Value.int _ = _
  congr 1
  rw [of32_i2b]
  congr 1
  unfold w8
  omega
theorem nar16 {x : Int} (hx : -32768 ≤ x ∧ x < 32768) : narrow .short (.int (Int32.ofInt x)) = .int (Int32.ofInt x) := by
  show Value.int _ = _
  congr 1
  rw [of32_i2s]
  congr 1
  unfold w16
  omega
theorem nar1 {x : Int} (hx : 0 ≤ x ∧ x < 2) : narrow .boolean (.int (Int32.ofInt x)) = .int (Int32.ofInt x) := by
  rcases (by omega : x = 0 ∨ x = 1) with rfl | rfl <;> rfl
theorem Gx_bastore {a i x n : Int} (d : decode M.2.1 pc = .ok (.bastore, 1)) (hh : h a = (11, n)) (hi : 0 ≤ i ∧ i < n) (hx : -128 ≤ x ∧ x < 128) (kk : Gx Γ M (pc + 1) ls st (gUp v a i x) h t bc bs Q) : Gx Γ M pc ls ((0, x) :: (0, i) :: (2, a) :: st) v h t bc bs Q := by
  intro p e R s m args below meth c Z Cx H locs cells slots lsa h1 h2 h3 h4 h5 h6 h7
  obtain ⟨ha, hA⟩ := gR_arr h1 hh (by omega) (by omega)
  have hK := Cx.2.2.2.2.1
  obtain ⟨hT, -⟩ := gTys_at (k := 11) hK (by omega) (by omega)
  show W _ _ _ _ _ _ _ _ _ _ _ _ _ _ _ (F0 m pc lsa (gCv Γ (0, x) :: .int (Int32.ofInt i) :: gRv (gB Γ) a :: st.map (gCv Γ)))
  rw [gRv_ref ha.1]
  refine W.bast Cx.1 Cx.2.1 hA.1 (hT _ _) (fun z => by cases z) (by rw [arrV_size]; exact in32 h7.2.1 hi) rfl rfl d fun H' z1 z2 z3 => ?_
  rw [clamp32 h7.2.1] at z1
  have hR := gR_set (v' := gUp v a i x) h1 ha z2 z3 (fun b j hb => gUp_ne hb) (gAr_set hh (by omega) (by omega) hA hi hx (nar8 hx) z1)
  exact kk p e R s m args below meth c Z Cx H' _ cells slots lsa hR (h2.put z2 z3 (by show gB Γ ≤ _; omega)) h3 h4 h5 h6 h7.2.2.2
theorem Gx_zastore {a i x n : Int} (d : decode M.2.1 pc = .ok (.bastore, 1)) (hh : h a = (12, n)) (hi : 0 ≤ i ∧ i < n) (hx : 0 ≤ x ∧ x < 2) (kk : Gx Γ M (pc + 1) ls st (gUp v a i x) h t bc bs Q) : Gx Γ M pc ls ((0, x) :: (0, i) :: (2, a) :: st) v h t bc bs Q := by
  intro p e R s m args below meth c Z Cx H locs cells slots lsa h1 h2 h3 h4 h5 h6 h7
  obtain ⟨ha, hA⟩ := gR_arr h1 hh (by omega) (by omega)
  have hK := Cx.2.2.2.2.1
  obtain ⟨hT, -⟩ := gTys_at (k := 12) hK (by omega) (by omega)
  show W _ _ _ _ _ _ _ _ _ _ _ _ _ _ _ (F0 m pc lsa (gCv Γ (0, x) :: .int (Int32.ofInt i) :: gRv (gB Γ) a :: st.map (gCv Γ)))
  rw [gRv_ref ha.1]
  refine W.zast Cx.1 Cx.2.1 hA.1 (hT _ _) (fun z => by cases z) (by rw [arrV_size]; exact in32 h7.2.1 hi) rfl rfl d fun H' z1 z2 z3 => ?_
  rw [clamp32 h7.2.1] at z1
  have hR := gR_set (v' := gUp v a i x) h1 ha z2 z3 (fun b j hb => gUp_ne hb) (gAr_set hh (by omega) (by omega) hA hi hx (nar1 hx) z1)
  exact kk p e R s m args below meth c Z Cx H' _ cells slots lsa hR (h2.put z2 z3 (by show gB Γ ≤ _; omega)) h3 h4 h5 h6 h7.2.2.2
theorem Gx_sastore {a i x n : Int} (d : decode M.2.1 pc = .ok (.sastore, 1)) (hh : h a = (13, n)) (hi : 0 ≤ i ∧ i < n) (hx : -32768 ≤ x ∧ x < 32768) (kk : Gx Γ M (pc + 1) ls st (gUp v a i x) h t bc bs Q) : Gx Γ M pc ls ((0, x) :: (0, i) :: (2, a) :: st) v h t bc bs Q := by
  intro p e R s m args below meth c Z Cx H locs cells slots lsa h1 h2 h3 h4 h5 h6 h7
  obtain ⟨ha, hA⟩ := gR_arr h1 hh (by omega) (by omega)
  have hK := Cx.2.2.2.2.1
  obtain ⟨hT, -⟩ := gTys_at (k := 13) hK (by omega) (by omega)
  show W _ _ _ _ _ _ _ _ _ _ _ _ _ _ _ (F0 m pc lsa (gCv Γ (0, x) :: .int (Int32.ofInt i) :: gRv (gB Γ) a :: st.map (gCv Γ)))
  rw [gRv_ref ha.1]
  refine W.sast Cx.1 Cx.2.1 hA.1 (hT _ _) (fun z => by cases z) (by rw [arrV_size]; exact in32 h7.2.1 hi) rfl rfl d fun H' z1 z2 z3 => ?_
  rw [clamp32 h7.2.1] at z1
  have hR := gR_set (v' := gUp v a i x) h1 ha z2 z3 (fun b j hb => gUp_ne hb) (gAr_set hh (by omega) (by omega) hA hi hx (nar16 hx) z1)
  exact kk p e R s m args below meth c Z Cx H' _ cells slots lsa hR (h2.put z2 z3 (by show gB Γ ≤ _; omega)) h3 h4 h5 h6 h7.2.2.2
theorem Gx_alen {a n : Int} {k : Nat} (d : decode M.2.1 pc = .ok (.arraylength, 1)) (hh : h a = (k, n)) (hk : 10 ≤ k) (hk2 : k ≤ 18) (kk : Gx Γ M (pc + 1) ls ((0, n) :: st) v h t bc bs Q) : Gx Γ M pc ls ((2, a) :: st) v h t bc bs Q := by
  intro p e R s m args below meth c Z Cx H locs cells slots lsa h1 h2 h3 h4 h5 h6 h7
  obtain ⟨ha, hA⟩ := gR_arr h1 hh hk hk2
  have hK := Cx.2.2.2.2.1
  obtain ⟨hT, -⟩ := gTys_at (k := k) hK hk hk2
  have hn : r32 n := by have := hA.2.1; have := hA.2.2.1; unfold r32; omega
  have hk2 := kk p e R s m args below meth c Z Cx H locs cells slots lsa h1 h2 h3 h4 h5 h6 ⟨hn, h7.2⟩
  show W _ _ _ _ _ _ _ _ _ _ _ _ _ _ _ (F0 m pc lsa (gRv (gB Γ) a :: st.map (gCv Γ)))
  rw [gRv_ref ha.1]
  refine W.alen (n := Int32.ofInt n) Cx.1 Cx.2.1 hA.1 (hT _ _) ?_ rfl rfl d hk2
  rw [arrV_size]
  have h9 : (n.toNat : Int) = n := by have := hA.2.1; omega
  show Int32.ofNat n.toNat = Int32.ofInt n
  rw [← h9, Int32.ofInt_eq_ofNat]
  congr 1
end
