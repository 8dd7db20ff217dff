/-! Exceptions that are caught, 8: the instructions that throw -/
section XH
variable {Γ : gC} {M : gI} {pc : Nat} {ls st : List gV} {v : gM} {h : gH} {t bc bs : Nat} {Q : gQ}
def xFits (cls : String) (ct : Nat) : Bool := decide (cls = xNm ct) || (decide (cls = "java/lang/ArrayIndexOutOfBoundsException") && ct.beq 160)
/-- an exception of class cls thrown at pc of M lands at hp -/
def xLand (M : gI) (pc : Nat) (cls : String) (hp : Nat) : Bool := !(gTab M.2.2.2.2.2.slots).isEmpty && (xPlan M.2.2.2.2.1 cls (gTab M.2.2.2.2.2.slots) pc xNm (xFits cls) && decide (((gTab M.2.2.2.2.2.slots).find? (fun x => xCv pc x && xFits cls x.2.2.2)).map (fun x => x.2.2.1) = some hp))
theorem xLand_ok {cls : String} {hp : Nat} (hl : xLand M pc cls hp = true) : gTab M.2.2.2.2.2.slots ≠ [] ∧ xPlan M.2.2.2.2.1 cls (gTab M.2.2.2.2.2.slots) pc xNm (xFits cls) = true ∧ ((gTab M.2.2.2.2.2.slots).find? (fun x => xCv pc x && xFits cls x.2.2.2)).map (fun x => x.2.2.1) = some hp := by
  unfold xLand at hl
  obtain ⟨h1, h2⟩ := Bool.and_eq_true_iff.mp hl
  obtain ⟨h3, h4⟩ := Bool.and_eq_true_iff.mp h2
  exact ⟨fun z => (by rw [z] at h1; cases h1), h3, of_decide_eq_true h4⟩
theorem Gx_iald_n {o i : Int} {hp bc' bs' : Nat} (d : decode M.2.1 pc = .ok (.iaload, 1)) (hfl : Γ.1.stackTraces = false) (hl : xLand M pc "java/lang/NullPointerException" hp = true) (hrm : xRm M st = true) (hb1 : bc' + 1 ≤ bc) (hb2 : 8 + bs' ≤ bs) (ho : o < 0) (kk : Gx Γ M hp ls [(2, (t : Int))] v h (t + 1) bc' bs' Q) : Gx Γ M pc ls ((0, i) :: (2, o) :: st) v h t bc bs Q := by
  obtain ⟨l1, l2, l3⟩ := xLand_ok hl
  refine Gx_throw (st' := st) (k := 1) (n := 8) rfl l1 (fun p e R s m args below meth c T locs cells slots lsa hx hb X hR hrs hK target hrest => ?_) (xMadeN hfl hrm) l2 l3 (by omega) hb1 hb2 kk
  show Steps _ _ _ (T.setTop (F0 m pc lsa (.int (Int32.ofInt i) :: gRv (gB Γ) o :: st.map (gCv Γ)))) _
  rw [gRv_null ho]
  exact Stand.ialoadNull X hx (g := F0 m pc lsa (.int (Int32.ofInt i) :: .null :: st.map (gCv Γ))) rfl rfl (by rw [hb]; exact d) target hrest
theorem Gx_bald_n {o i : Int} {hp bc' bs' : Nat} (d : decode M.2.1 pc = .ok (.baload, 1)) (hfl : Γ.1.stackTraces = false) (hl : xLand M pc "java/lang/NullPointerException" hp = true) (hrm : xRm M st = true) (hb1 : bc' + 1 ≤ bc) (hb2 : 8 + bs' ≤ bs) (ho : o < 0) (kk : Gx Γ M hp ls [(2, (t : Int))] v h (t + 1) bc' bs' Q) : Gx Γ M pc ls ((0, i) :: (2, o) :: st) v h t bc bs Q := by
  obtain ⟨l1, l2, l3⟩ := xLand_ok hl
  refine Gx_throw (st' := st) (k := 1) (n := 8) rfl l1 (fun p e R s m args below meth c T locs cells slots lsa hx hb X hR hrs hK target hrest => ?_) (xMadeN hfl hrm) l2 l3 (by omega) hb1 hb2 kk
  show Steps _ _ _ (T.setTop (F0 m pc lsa (.int (Int32.ofInt i) :: gRv (gB Γ) o :: st.map (gCv Γ)))) _
  rw [gRv_null ho]
  exact Stand.baloadNull X hx (g := F0 m pc lsa (.int (Int32.ofInt i) :: .null :: st.map (gCv Γ))) rfl rfl (by rw [hb]; exact d) target hrest
theorem Gx_alen_n {o  : Int} {hp bc' bs' : Nat} (d : decode M.2.1 pc = .ok (.arraylength, 1)) (hfl : Γ.1.stackTraces = false) (hl : xLand M pc "java/lang/NullPointerException" hp = true) (hrm : xRm M st = true) (hb1 : bc' + 1 ≤ bc) (hb2 : 8 + bs' ≤ bs) (ho : o < 0) (kk : Gx Γ M hp ls [(2, (t : Int))] v h (t + 1) bc' bs' Q) : Gx Γ M pc ls ((2, o) :: st) v h t bc bs Q := by
  obtain ⟨l1, l2, l3⟩ := xLand_ok hl
  refine Gx_throw (st' := st) (k := 1) (n := 8) rfl l1 (fun p e R s m args below meth c T locs cells slots lsa hx hb X hR hrs hK target hrest => ?_) (xMadeN hfl hrm) l2 l3 (by omega) hb1 hb2 kk
  show Steps _ _ _ (T.setTop (F0 m pc lsa (gRv (gB Γ) o :: st.map (gCv Γ)))) _
  rw [gRv_null ho]
  exact Stand.arraylengthNull X hx (g := F0 m pc lsa (.null :: st.map (gCv Γ))) rfl rfl (by rw [hb]; exact d) target hrest
abbrev xTxt (i : Int32) (n : Nat) : String := toString "Index " ++ toString i ++ toString " out of bounds for length " ++ toString n
theorem Gx_mono_b {bs' : Nat} (hb : bs' ≤ bs) (kk : Gx Γ M pc ls st v h t bc bs' Q) : Gx Γ M pc ls st v h t bc bs Q :=
  fun p e R s m args below meth c Z Cx H locs cells slots lsa h1 h2 h3 h4 h5 h6 h7 => kk p e R s m args below meth c Z Cx H locs cells slots lsa h1 h2 h3 (Nat.le_trans (Nat.add_le_add_left hb _) h4) h5 h6 h7
theorem Gx_newa_neg {n : Int} {atp : ArrayType} {hp bc' bs' : Nat} (d : decode M.2.1 pc = .ok (.newarray atp, 2)) (hfl : Γ.1.stackTraces = false) (hl : xLand M pc "java/lang/NegativeArraySizeException" hp = true) (hrm : xRm M st = true) (hb1 : bc' + 3 ≤ bc) (hb2 : 430 + bs' ≤ bs) (hn : n < 0) (hr : r32 n) (kk : Gx Γ M hp ls [(2, ((t + 2 : Nat) : Int))] v h (t + 3) bc' bs' Q) : Gx Γ M pc ls ((0, n) :: st) v h t bc bs Q := by
  obtain ⟨l1, l2, l3⟩ := xLand_ok hl
  have hn2 : Int32.ofInt n < 0 := by
    have hlt := lt32 hr r32_0
    rw [of32_0] at hlt
    exact hlt.mpr hn
  have hby : (stringBytes (stringToUtf16 (toString (Int32.ofInt n)))).size ≤ 420 := Nat.le_trans (negative_text_bytes _) (by decide)
  refine Gx_mono_b (bs' := (stringBytes (stringToUtf16 (toString (Int32.ofInt n)))).size + 4 + 6 + bs') (by omega) ?_
  refine Gx_throw (st' := st) (k := 3) (n := (stringBytes (stringToUtf16 (toString (Int32.ofInt n)))).size + 4 + 6) (note := .throwNew "java/lang/NegativeArraySizeException" (some (toString (Int32.ofInt n))) none) rfl l1 (fun p e R s m args below meth c T locs cells slots lsa hx hb X hR hrs hK target hrest => ?_) (xMadeM (names := ["java/lang/RuntimeException", "java/lang/Exception"]) hfl hrm xNegIn (by decide +kernel) (by decide +kernel) (by decide +kernel) (by decide +kernel) (negative_text_modelled hn2) hby) l2 l3 (by omega) hb1 (Nat.le_refl _) kk
  show Steps _ _ _ (T.setTop (F0 m pc lsa (.int (Int32.ofInt n) :: st.map (gCv Γ)))) _
  exact Stand.newarrayNegative X hx (g := F0 m pc lsa (.int (Int32.ofInt n) :: st.map (gCv Γ))) rfl hn2 rfl (by rw [hb]; exact d) target hrest
theorem xOut {i n : Int} (hr : r32 i) (hi : ¬ (0 ≤ i ∧ i < n)) : Int32.ofInt i < 0 ∨ n.toNat ≤ (Int32.ofInt i).toNatClampNeg := by
  by_cases h0 : i < 0
  · have hlt := lt32 hr r32_0
    rw [of32_0] at hlt
    exact Or.inl (hlt.mpr h0)
  · rw [clamp32 hr]
    exact Or.inr (by omega)
theorem Gx_iald_o {a i n : Int} {hp bc' bs' : Nat} (d : decode M.2.1 pc = .ok (.iaload, 1)) (hfl : Γ.1.stackTraces = false) (hl : xLand M pc "java/lang/ArrayIndexOutOfBoundsException" hp = true) (hrm : xRm M st = true) (hb1 : bc' + 3 ≤ bc) (hb2 : 430 + bs' ≤ bs) (hh : h a = (10, n)) (hn : 0 ≤ n ∧ n ≤ 2147483647) (hi : ¬ (0 ≤ i ∧ i < n)) (hr : r32 i) (kk : Gx Γ M hp ls [(2, ((t + 2 : Nat) : Int))] v h (t + 3) bc' bs' Q) : Gx Γ M pc ls ((0, i) :: (2, a) :: st) v h t bc bs Q := by
  obtain ⟨l1, l2, l3⟩ := xLand_ok hl
  have hby : (stringBytes (stringToUtf16 (xTxt (Int32.ofInt i) n.toNat))).size ≤ 420 := Nat.le_trans (index_text_bytes _ (by omega)) (by decide)
  refine Gx_mono_b (bs' := (stringBytes (stringToUtf16 (xTxt (Int32.ofInt i) n.toNat))).size + 4 + 6 + bs') (by omega) ?_
  refine Gx_throw (st' := st) (k := 3) (n := (stringBytes (stringToUtf16 (xTxt (Int32.ofInt i) n.toNat))).size + 4 + 6) (note := .throwNew "java/lang/ArrayIndexOutOfBoundsException" (some (xTxt (Int32.ofInt i) n.toNat)) none) rfl l1 (fun p e R s m args below meth c T locs cells slots lsa hx hb X hR hrs hK target hrest => ?_) (xMadeM (names := Bundle.idxUp) hfl hrm xIdxIn (by decide +kernel) (by decide +kernel) (by decide +kernel) (by decide +kernel) (index_text_modelled _ _) hby) l2 l3 (by omega) hb1 (Nat.le_refl _) kk
  obtain ⟨ha, hA⟩ := gR_arr hR hh (by omega) (by omega)
  obtain ⟨hT, -⟩ := gTys_at (k := 10) hK (by omega) (by omega)
  show Steps _ _ _ (T.setTop (F0 m pc lsa (.int (Int32.ofInt i) :: gRv (gB Γ) a :: st.map (gCv Γ)))) _
  rw [gRv_ref ha.1]
  have hsz : (arrV (Γ.2.2.2.1 10) n.toNat (fun j => gCt (gB Γ) (gEt 10) (v a j))).slots.size = n.toNat := arrV_size _ _ _
  refine Stand.ialoadOut X hx (g := F0 m pc lsa (.int (Int32.ofInt i) :: .ref (gB Γ + a.toNat) :: st.map (gCv Γ))) hA.1 (hT _ _) ?_ rfl rfl (by rw [hb]; exact d) target (by rw [hsz]; exact hrest)
  rw [hsz]
  exact xOut hr hi
theorem Gx_bald_o {a i n : Int} {hp bc' bs' : Nat} (d : decode M.2.1 pc = .ok (.baload, 1)) (hfl : Γ.1.stackTraces = false) (hl : xLand M pc "java/lang/ArrayIndexOutOfBoundsException" hp = true) (hrm : xRm M st = true) (hb1 : bc' + 3 ≤ bc) (hb2 : 430 + bs' ≤ bs) (hh : h a = (11, n)) (hn : 0 ≤ n ∧ n ≤ 2147483647) (hi : ¬ (0 ≤ i ∧ i < n)) (hr : r32 i) (kk : Gx Γ M hp ls [(2, ((t + 2 : Nat) : Int))] v h (t + 3) bc' bs' Q) : Gx Γ M pc ls ((0, i) :: (2, a) :: st) v h t bc bs Q := by
  obtain ⟨l1, l2, l3⟩ := xLand_ok hl
  have hby : (stringBytes (stringToUtf16 (xTxt (Int32.ofInt i) n.toNat))).size ≤ 420 := Nat.le_trans (index_text_bytes _ (by omega)) (by decide)
  refine Gx_mono_b (bs' := (stringBytes (stringToUtf16 (xTxt (Int32.ofInt i) n.toNat))).size + 4 + 6 + bs') (by omega) ?_
  refine Gx_throw (st' := st) (k := 3) (n := (stringBytes (stringToUtf16 (xTxt (Int32.ofInt i) n.toNat))).size + 4 + 6) (note := .throwNew "java/lang/ArrayIndexOutOfBoundsException" (some (xTxt (Int32.ofInt i) n.toNat)) none) rfl l1 (fun p e R s m args below meth c T locs cells slots lsa hx hb X hR hrs hK target hrest => ?_) (xMadeM (names := Bundle.idxUp) hfl hrm xIdxIn (by decide +kernel) (by decide +kernel) (by decide +kernel) (by decide +kernel) (index_text_modelled _ _) hby) l2 l3 (by omega) hb1 (Nat.le_refl _) kk
  obtain ⟨ha, hA⟩ := gR_arr hR hh (by omega) (by omega)
  obtain ⟨hT, -⟩ := gTys_at (k := 11) hK (by omega) (by omega)
  show Steps _ _ _ (T.setTop (F0 m pc lsa (.int (Int32.ofInt i) :: gRv (gB Γ) a :: st.map (gCv Γ)))) _
  rw [gRv_ref ha.1]
  have hsz : (arrV (Γ.2.2.2.1 11) n.toNat (fun j => gCt (gB Γ) (gEt 11) (v a j))).slots.size = n.toNat := arrV_size _ _ _
  refine Stand.baloadOut X hx (g := F0 m pc lsa (.int (Int32.ofInt i) :: .ref (gB Γ + a.toNat) :: st.map (gCv Γ))) hA.1 (hT _ _) ?_ rfl rfl (by rw [hb]; exact d) target (by rw [hsz]; exact hrest)
  rw [hsz]
  exact xOut hr hi
theorem Gx_ldiv_z {x y : Int} {hp bc' bs' : Nat} (d : decode M.2.1 pc = .ok (.ldiv, 1)) (hfl : Γ.1.stackTraces = false) (hl : xLand M pc "java/lang/ArithmeticException" hp = true) (hrm : xRm M st = true) (hb1 : bc' + 3 ≤ bc) (hb2 : 430 + bs' ≤ bs) (hy : y = 0) (kk : Gx Γ M hp ls [(2, ((t + 2 : Nat) : Int))] v h (t + 3) bc' bs' Q) : Gx Γ M pc ls ((1, y) :: (1, x) :: st) v h t bc bs Q := by
  obtain ⟨l1, l2, l3⟩ := xLand_ok hl
  have hby : (stringBytes (stringToUtf16 ("/ by zero"))).size ≤ 420 := by decide +kernel
  refine Gx_mono_b (bs' := (stringBytes (stringToUtf16 ("/ by zero"))).size + 4 + 6 + bs') (by omega) ?_
  refine Gx_throw (st' := st) (k := 3) (n := (stringBytes (stringToUtf16 ("/ by zero"))).size + 4 + 6) (note := .throwNew "java/lang/ArithmeticException" (some ("/ by zero")) none) rfl l1 (fun p e R s m args below meth c T locs cells slots lsa hx hb X hR hrs hK target hrest => ?_) (xMadeM (names := ["java/lang/RuntimeException", "java/lang/Exception"]) hfl hrm xAriIn (by decide +kernel) (by decide +kernel) (by decide +kernel) (by decide +kernel) (by decide +kernel) hby) l2 l3 (by omega) hb1 (Nat.le_refl _) kk
  subst hy
  show Steps _ _ _ (T.setTop (F0 m pc lsa (.long 0 :: .long (Int64.ofInt x) :: st.map (gCv Γ)))) _
  exact Stand.ldivZero X hx (g := F0 m pc lsa (.long 0 :: .long (Int64.ofInt x) :: st.map (gCv Γ))) rfl rfl (by rw [hb]; exact d) target hrest
end XH
