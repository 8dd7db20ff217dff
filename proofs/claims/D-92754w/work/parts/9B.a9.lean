/-! AcornYears: pass -/
section
variable {Γ : gC} {v : gM} {K : gH} {t : Nat} {Q : gQ}
set_option maxHeartbeats 4000000 in
theorem ps_X0_pass {x w pg : Int} (hx : x = 17 ∨ x = 23) (hw : 0 ≤ w ∧ w ≤ 2) (hW : aWf v (gHd K)) (hu : yOK (aN v (gHd K) x)) (hy : 0 ≤ v x 2 ∧ v x 2 ≤ 1000000) (h35 : v 0 35 ≤ 99) (h63 : ∀ s, 0 ≤ s → s < (gHd K (v 0 7)).2 → (gHd K (v (v 0 7) s)).1 = 6 → 0 ≤ v (v (v 0 7) s) 3 ∧ v (v (v 0 7) s) 3 ≤ 99) (kp : ∀ (v3 : gM) (fd : Int), fd = yTh (aN v (gHd K) x) w (aHf v) pg → (∀ i, 0 ≤ i → i < v 0 32 → v3 (x + 4) i = yGv (aN v (gHd K) x) w (aHf v) i ∧ v3 (x + 1) i = ySt (aN v (gHd K) x) w (aHf v) i ∧ v3 (x + 3) i = (if yB (aN v (gHd K) x) w i = true then 1 else 0)) → v3 x 6 = yAc (aN v (gHd K) x) w (aHf v) → v3 x 2 = v x 2 + 1 → aEat v3 x → (∀ a k, ¬ ((a = x ∧ (k = 2 ∨ k = 6)) ∨ ((a = x + 1 ∨ a = x + 3 ∨ a = x + 4) ∧ 0 ≤ k ∧ k < v 0 32) ∨ a = 29 ∨ a = 30) → v3 a k = v a k) → Gx Γ mX0_pass 34 [(2, 0), (2, x), (0, w), (0, pg), (9, 0), (9, 0), (9, 0)] [(0, fd)] v3 (gHd K) t 0 0 Q) : Gx Γ mX0_pass 0 [(2, 0), (2, x), (0, w), (0, pg), (9, 0), (9, 0), (9, 0)] [] v (gHd K) t 0 0 Q := by
  obtain ⟨hx0, hx1, hx2, hx3, hx4, hx5⟩ := hdx (K := K) hx
  refine Gx_aload_n (i := 1) dX0_pass_0 rfl rfl ?_
  refine Gx_dup (Nat.ne_of_beq_eq_false rfl) dX0_pass_1 ?_
  refine gf_X0_279_21 dX0_pass_2 rfl hx0 ?_
  refine Gx_iconst ⟨by decide, by decide⟩ dX0_pass_5 ?_
  refine Gx_iadd dX0_pass_6 ?_
  try simp (disch := omega) only [w32_id]
  refine pf_X0_279_21 dX0_pass_7 rfl hx0 ?_
  refine Gx_name (fun v1 e1 => ?_)
  have hW1 : aWf v1 (gHd K) := by rw [e1]; exact aWf_congr hW (fun a k hk => gUp_ne2 (by omega))
  have hN1 : aN v1 (gHd K) x = gUp (aN v (gHd K) x) 38 31 (v x 2 + 1) := by rw [e1]; exact aN_31 hx hW
  have hu1 : yOK (aN v1 (gHd K) x) := by rw [hN1]; exact yOK_31 hu (by omega)
  have hF1 : ∀ a k, ¬ (a = x ∧ k = 2) → v1 a k = v a k := fun a k hk => by rw [e1]; exact gUp_ne2 hk
  refine Gx_aload_n (i := 0) dX0_pass_10 rfl rfl ?_
  refine Gx_aload_n (i := 1) dX0_pass_11 rfl rfl ?_
  refine Gx_iload_n (i := 2) dX0_pass_12 rfl rfl ?_
  refine cl_X0_388 dX0_pass_13 rfl rfl ⟨(Nat.le_of_ble_eq_true rfl), (Nat.le_of_ble_eq_true rfl)⟩ rfl ?_
  refine ct_X0_grow hx hw hW1 hu1 (fun v2 hg => ?_)
  obtain ⟨hF2, hV2⟩ := hg
  have e32 : v1 0 32 = v 0 32 := hF1 _ _ (by omega)
  rw [e32] at hF2 hV2
  have hF12 : ∀ a k, ¬ ((a = x ∧ k = 2) ∨ ((a = x + 1 ∨ a = x + 3) ∧ 0 ≤ k ∧ k < v 0 32)) → v2 a k = v a k := fun a k hk => by rw [hF2 a k (fun z => hk (Or.inr z)), hF1 a k (fun z => hk (Or.inl z))]
  have hW2 : aWf v2 (gHd K) := aWf_congr hW (fun a k hk => hF12 a k (by omega))
  have hr2 : ∀ a k, ¬ ((a = 38 ∧ k = 31) ∨ a = 56 ∨ a = 58) → aN v2 (gHd K) x a k = aN v (gHd K) x a k := fun a k hak => aN_congr hW (fun b j hb => hF12 b j (by omega)) a k hak
  have hG2 : ∀ i, 0 ≤ i → i < v 0 32 → v2 (x + 1) i = mG (aN v (gHd K) x) w i := by
    intro i i0 i1
    rw [(hV2 i i0 i1).1, hN1]
    rfl
  have hB2 : ∀ i, 0 ≤ i → i < v 0 32 → v2 (x + 3) i = (if yB (aN v (gHd K) x) w i = true then 1 else 0) := by
    intro i i0 i1
    rw [(hV2 i i0 i1).2, hN1]
    rfl
  have hn2 : v2 0 32 = v 0 32 := hF12 _ _ (by omega)
  have hf2 : aHf v2 = aHf v := by unfold aHf; rw [hF12 0 36 (by omega)]
  have hbb : ∀ k, 0 ≤ k → k < v2 0 32 → bB v2 x k = yB (aN v (gHd K) x) w k := by
    intro k k0 k1
    rw [hn2] at k1
    show decide (v2 (x + 3) k ≠ 0) = _
    rw [hB2 k k0 k1]
    cases yB (aN v (gHd K) x) w k <;> rfl
  have hsr : ∀ i, 0 ≤ i → i < v2 0 32 → (0 ≤ v2 (v2 16 i) 0 ∧ v2 (v2 16 i) 0 < (gHd K (v2 0 7)).2) ∧ (0 ≤ v2 (x + 1) i ∧ v2 (x + 1) i ≤ 60) ∧ ∀ o, v2 (v2 0 7) (v2 (v2 16 i) 0) = o → (0 ≤ bGi v2 (gHd K) o w ∧ bGi v2 (gHd K) o w ≤ 60) ∧ ((gHd K o).1 = 6 → 0 ≤ v2 o 3 ∧ v2 o 3 ≤ 99) := by
    intro i i0 i1
    have j1 : i < v 0 32 := by rw [← hn2]; exact i1
    have hs := (hu.2.2.2.1 i i0 j1).1
    have e57 := hr2 57 i (by omega)
    rw [← e57, aN_57 i0 i1] at hs
    have e20 : (gHd K (v2 0 7)).2 = (aN v (gHd K) x) 38 20 := hr2 38 20 (by omega)
    have hs2 : 0 ≤ v2 (v2 16 i) 0 ∧ v2 (v2 16 i) 0 < (gHd K (v2 0 7)).2 := by rw [e20]; exact hs
    refine ⟨hs2, by rw [hG2 i i0 j1]; exact mG_le hw (yOK_tr hu) i0 j1, fun o ho => ?_⟩
    have hq := hu.2.1 _ hs.1 hs.2
    have f5 := hr2 50 (7 * v2 (v2 16 i) 0 + 5) (by omega)
    rw [aN_S hs2.1 hs2.2 (by omega), ho] at f5
    have fw := hr2 50 (7 * v2 (v2 16 i) 0 + 1 + w) (by omega)
    rw [aN_Sw hs2.1 hs2.2 hw, ho] at fw
    refine ⟨?_, fun z => ?_⟩
    · unfold bGi
      by_cases c : (gHd K o).1 = 3
      · rw [if_pos c, fw]
        have := hq.2.1 w hw.1 hw.2
        omega
      · rw [if_neg c, ← aS_5 (v := v2) c, f5]
        exact hq.2.2.1
    · have e7 : v2 0 7 = v 0 7 := hF12 _ _ (by omega)
      have w7 := hW.1.1
      rw [e7] at ho hs2
      have g66 := (hW.2.1 _ hs2.1 hs2.2).1
      have eo : v (v 0 7) (v2 (v2 16 i) 0) = o := by rw [← ho]; exact (hF12 _ _ (by omega)).symm
      rw [eo] at g66
      rw [hF12 o 3 (by omega)]
      have h9 := h63 _ hs2.1 hs2.2
      rw [eo] at h9
      exact h9 z
  refine Gx_aload_n (i := 0) dX0_pass_16 rfl rfl ?_
  refine Gx_aload_n (i := 1) dX0_pass_17 rfl rfl ?_
  refine Gx_iload_n (i := 2) dX0_pass_18 rfl rfl ?_
  refine cl_X0_392 dX0_pass_19 rfl rfl ⟨(Nat.le_of_ble_eq_true rfl), (Nat.le_of_ble_eq_true rfl)⟩ rfl ?_
  refine ct_X0_bear hx hw (by rw [hn2]; exact hu.2.2.1) hW2 hsr (by rw [hF12 0 35 (by omega)]; exact h35) (fun v3 hb => ?_)
  obtain ⟨hF3, hV3, hS3⟩ := hb
  rw [hn2] at hF3 hV3 hS3
  have hyv : ∀ i, 0 ≤ i → i < v 0 32 → bGv v2 (gHd K) x w i = yGv (aN v (gHd K) x) w (aHf v) i ∧ bSt v2 (gHd K) x w i = ySt (aN v (gHd K) x) w (aHf v) i := by
    intro i i0 i1
    rw [← hf2]
    exact bGv_y hx hW2 hu hw hr2 hbb i0 (by rw [hn2]; exact i1) (hG2 i i0 i1)
  have hAc : v3 x 6 = yAc (aN v (gHd K) x) w (aHf v) := by
    rw [hS3]
    exact ySum_congr _ (fun k k0 k1 => (hyv k k0 (by omega)).1)
  have bAc := yAc_le (h := aHf v) hw (yOK_tr hu)
  have hF13 : ∀ a k, ¬ ((a = x ∧ (k = 2 ∨ k = 6)) ∨ ((a = x + 1 ∨ a = x + 3 ∨ a = x + 4) ∧ 0 ≤ k ∧ k < v 0 32) ∨ a = 29 ∨ a = 30) → v3 a k = v a k := fun a k hk => by rw [hF3 a k (by omega), hF12 a k (by omega)]
  have e10 : v3 0 10 = v 0 10 := hF13 _ _ (by omega)
  have e11 : v3 0 11 = v 0 11 := hF13 _ _ (by omega)
  have e12 : v3 0 12 = v 0 12 := hF13 _ _ (by omega)
  have hh10 := hu.2.2.2.2.2.1
  rw [aN_c26] at hh10
  have hh11 := hu.2.2.2.2.2.2.1
  rw [aN_c27] at hh11
  have hE := hu.2.2.2.2.1
  have hE3 : aEat v3 x := by
    refine ⟨by rw [e12]; exact hE.1, fun e e0 e1 => ?_⟩
    rw [e12] at e1
    have g := hE.2 e e0 e1
    rw [aN_51 e0 e1, aN_52 e0 e1, aN_53 e0 e1, aN_56 e0 e1] at g
    rw [hF13 7 e (by omega), hF13 8 e (by omega), hF13 9 e (by omega), hF13 (x + 2) e (by omega)]
    exact g
  obtain ⟨fd, hfd⟩ : ∃ fd, fd = yTh (aN v (gHd K) x) w (aHf v) pg := ⟨_, rfl⟩
  have bfd := yTh_le (h := aHf v) (pg := pg) hw (yOK_tr hu)
  rw [← hfd] at bfd
  have hm1 := mul_le_of (a := min (v 0 10) fd) (b := v 0 11) (A := 99) (B := 12) (by omega) (by omega) hh11.1 hh11.2
  have hdv : (min (v 0 10) fd * v 0 11).tdiv 12 = min (v 0 10) fd * v 0 11 / 12 := Int.tdiv_eq_ediv_of_nonneg hm1.1
  refine Gx_iload_n (i := 3) dX0_pass_22 rfl rfl ?_
  refine Gx_if_eq (tgt := 30) dX0_pass_23 (by decide) (fun c23 => ?_) (fun c23 => ?_)
  · refine Gx_aload_n (i := 1) dX0_pass_30 rfl rfl ?_
    refine gf_X0_374_21 dX0_pass_31 rfl hx0 ?_
    have hall : ∀ i, 0 ≤ i → i < v 0 32 → v3 (x + 4) i = yGv (aN v (gHd K) x) w (aHf v) i ∧ v3 (x + 1) i = ySt (aN v (gHd K) x) w (aHf v) i ∧ v3 (x + 3) i = (if yB (aN v (gHd K) x) w i = true then 1 else 0) := by
      intro i i0 i1
      have g1 := hV3 i i0 i1
      have g2 := hyv i i0 i1
      refine ⟨g1.1.trans g2.1, g1.2.trans g2.2, ?_⟩
      rw [hF3 (x + 3) i (by omega)]
      exact hB2 i i0 i1
    have hyr : v3 x 2 = v x 2 + 1 := by
      rw [hF3 x 2 (by omega), hF2 x 2 (by omega), e1, gUp_eq2 rfl rfl]
    have kk := kp v3 fd hfd hall hAc hyr hE3 hF13
    unfold yTh at hfd
    first
    | (rw [if_pos (by omega)] at hfd
       rw [hAc, ← hfd]
       exact kk)
    | (rw [if_neg (by omega)] at hfd
       rw [hfd] at kk
       exact kk)
  · refine Gx_iconst ⟨by decide, by decide⟩ dX0_pass_26 ?_
    refine Gx_goto (tgt := 34) dX0_pass_27 (by decide) ?_
    have hall : ∀ i, 0 ≤ i → i < v 0 32 → v3 (x + 4) i = yGv (aN v (gHd K) x) w (aHf v) i ∧ v3 (x + 1) i = ySt (aN v (gHd K) x) w (aHf v) i ∧ v3 (x + 3) i = (if yB (aN v (gHd K) x) w i = true then 1 else 0) := by
      intro i i0 i1
      have g1 := hV3 i i0 i1
      have g2 := hyv i i0 i1
      refine ⟨g1.1.trans g2.1, g1.2.trans g2.2, ?_⟩
      rw [hF3 (x + 3) i (by omega)]
      exact hB2 i i0 i1
    have hyr : v3 x 2 = v x 2 + 1 := by
      rw [hF3 x 2 (by omega), hF2 x 2 (by omega), e1, gUp_eq2 rfl rfl]
    have kk := kp v3 fd hfd hall hAc hyr hE3 hF13
    unfold yTh at hfd
    first
    | (rw [if_pos (by omega)] at hfd
       rw [hAc, ← hfd]
       exact kk)
    | (rw [if_neg (by omega)] at hfd
       rw [hfd] at kk
       exact kk)
set_option maxHeartbeats 4000000 in
theorem ct_X0_pass {x w pg : Int} (hx : x = 17 ∨ x = 23) (hw : 0 ≤ w ∧ w ≤ 2) (hW : aWf v (gHd K)) (hu : yOK (aN v (gHd K) x)) (hy : 0 ≤ v x 2 ∧ v x 2 ≤ 1000000) (h35 : v 0 35 ≤ 99) (h63 : ∀ s, 0 ≤ s → s < (gHd K (v 0 7)).2 → (gHd K (v (v 0 7) s)).1 = 6 → 0 ≤ v (v (v 0 7) s) 3 ∧ v (v (v 0 7) s) 3 ≤ 99) (k : ∀ v1, oPs v v1 (gHd K) x w pg → Q (9, 0) v1 (gHd K) t) : Ctr Γ mX0_pass [(2, 0), (2, x), (0, w), (0, pg)] v (gHd K) t Q := by
  refine Ctr.ofG (ls := [(2, 0), (2, x), (0, w), (0, pg), (9, 0), (9, 0), (9, 0)]) rfl rfl rfl rfl rfl ?_
  obtain ⟨hx0, hx1, hx2, hx3, hx4, hx5⟩ := hdx (K := K) hx
  refine ps_X0_pass hx hw hW hu hy h35 h63 (fun v3 fd hfd hall hAc hyr hE3 hF13 => ?_)
  have e10 : v3 0 10 = v 0 10 := hF13 _ _ (by omega)
  have e11 : v3 0 11 = v 0 11 := hF13 _ _ (by omega)
  have e12 : v3 0 12 = v 0 12 := hF13 _ _ (by omega)
  have hh10 := hu.2.2.2.2.2.1
  rw [aN_c26] at hh10
  have hh11 := hu.2.2.2.2.2.2.1
  rw [aN_c27] at hh11
  have hh12 := hu.2.2.2.2.1.1
  rw [aN_c22] at hh12
  have bfd := yTh_le (h := aHf v) (pg := pg) hw (yOK_tr hu)
  rw [← hfd] at bfd
  have hm1 := mul_le_of (a := min (v 0 10) fd) (b := v 0 11) (A := 99) (B := 12) (by omega) (by omega) hh11.1 hh11.2
  have hdv : (min (v 0 10) fd * v 0 11).tdiv 12 = min (v 0 10) fd * v 0 11 / 12 := Int.tdiv_eq_ediv_of_nonneg hm1.1
  have hlb := yLeft_le (ea := v3 7) (mo := v3 (x + 2)) (l := fd - min (v 0 10) fd) (by omega) (v 0 12).toNat (fun k k0 k1 => Int.mul_nonneg (by have := (hE3.2 k k0 (by omega)).1; omega) (by have := (hE3.2 k k0 (by omega)).2.1; omega))
  refine Gx_istore_4 dX0_pass_34 (Nat.le_of_ble_eq_true rfl) (Nat.ne_of_beq_eq_false rfl) ?_
  refine Gx_aload_n (i := 0) dX0_pass_36 rfl rfl ?_
  refine gf_X0_267_20 dX0_pass_37 rfl rfl ?_
  rw [e10]
  refine Gx_iload dX0_pass_40 rfl ?_
  refine cl_X0_207 dX0_pass_42 rfl ⟨(Nat.le_of_ble_eq_true rfl), (Nat.le_of_ble_eq_true rfl)⟩ rfl ?_
  refine Gx_istore_5 dX0_pass_45 (Nat.le_of_ble_eq_true rfl) (Nat.ne_of_beq_eq_false rfl) ?_
  refine Gx_iload dX0_pass_47 rfl ?_
  refine Gx_aload_n (i := 0) dX0_pass_49 rfl rfl ?_
  refine gf_X0_270_20 dX0_pass_50 rfl rfl ?_
  rw [e11]
  refine Gx_imul dX0_pass_53 ?_
  try simp (disch := omega) only [w32_id]
  refine Gx_bipush dX0_pass_54 ⟨by decide, by decide⟩ ?_
  refine Gx_idiv dX0_pass_56 (by first | omega | (simp (disch := omega) only [w32_id]; omega)) ?_
  try simp (disch := omega) only [w32_id]
  refine Gx_istore_6 dX0_pass_57 (Nat.le_of_ble_eq_true rfl) (Nat.ne_of_beq_eq_false rfl) ?_
  refine Gx_aload_n (i := 1) dX0_pass_59 rfl rfl ?_
  refine Gx_aload_n (i := 0) dX0_pass_60 rfl rfl ?_
  refine Gx_aload_n (i := 1) dX0_pass_61 rfl rfl ?_
  refine Gx_iload dX0_pass_62 rfl ?_
  refine Gx_iload dX0_pass_64 rfl ?_
  refine Gx_isub dX0_pass_66 ?_
  try simp (disch := omega) only [w32_id]
  refine cl_X0_395 dX0_pass_67 rfl rfl ⟨(Nat.le_of_ble_eq_true rfl), (Nat.le_of_ble_eq_true rfl)⟩ rfl ?_
  refine ct_X0_feed hx hE3 (by omega) (fun v4 hf4 => ?_)
  obtain ⟨hF4, hV4⟩ := hf4
  rw [e12] at hF4 hV4 ⊢
  refine Gx_iload dX0_pass_70 rfl ?_
  refine Gx_iadd dX0_pass_72 ?_
  try simp (disch := omega) only [w32_id]
  refine pf_X0_399_21 dX0_pass_73 rfl hx0 ?_
  refine Gx_return dX0_pass_76 rfl ?_
  refine k _ ?_
  obtain ⟨v5, e5⟩ : ∃ v5, v5 = gUp v4 x 7 (yLeft (v3 7) (v3 (x + 2)) (fd - min (v 0 10) fd) (v 0 12).toNat + (min (v 0 10) fd * v 0 11).tdiv 12) := ⟨_, rfl⟩
  rw [← e5]
  have hF5a : ∀ a k, ¬ ((a = x ∧ k = 7) ∨ ((a = x + 2 ∨ a = x + 5) ∧ 0 ≤ k ∧ k < v 0 12)) → v5 a k = v3 a k := fun a k hk => by rw [e5, gUp_ne2 (fun z => hk (Or.inl z))]; exact hF4 a k (fun z => hk (Or.inr z))
  have hF5 : ∀ a k, ¬ ((a = x ∧ (k = 2 ∨ k = 6 ∨ k = 7)) ∨ (x + 1 ≤ a ∧ a ≤ x + 5) ∨ a = 29 ∨ a = 30) → v5 a k = v a k := fun a k hk => by rw [hF5a a k (by omega), hF13 a k (by omega)]
  have hL : ∀ e, 0 ≤ e → e ≤ v 0 12 → yLeft (v3 7) (v3 (x + 2)) (fd - min (v 0 10) fd) e.toNat = yL (aN v (gHd K) x) w (aHf v) pg e := by
    intro e e0 e1
    unfold yL
    rw [← hfd, aN_c26]
    refine yLeft_congr _ (fun k k0 k1 => ⟨?_, ?_⟩)
    · rw [aN_51 k0 (by omega)]; exact hF13 7 k (by omega)
    · rw [aN_56 k0 (by omega)]; exact hF13 (x + 2) k (by omega)
  have h5m : ∀ e, 0 ≤ e → e < v 0 12 → v5 (x + 2) e = yMo ((aN v (gHd K) x) 51 e) ((aN v (gHd K) x) 56 e) ((aN v (gHd K) x) 52 e) ((aN v (gHd K) x) 53 e) (yL (aN v (gHd K) x) w (aHf v) pg e) ∧ v5 (x + 5) e = (if ySv (aN v (gHd K) x) w (aHf v) pg e = true then 1 else 0) := by
    intro e e0 e1
    have g := hV4 e e0 e1
    rw [hL e e0 (by omega), hF13 7 e (by omega), hF13 8 e (by omega), hF13 9 e (by omega), hF13 (x + 2) e (by omega)] at g
    unfold ySv
    rw [aN_51 e0 e1, aN_52 e0 e1, aN_53 e0 e1, aN_56 e0 e1, e5, gUp_ne2 (by omega), gUp_ne2 (by omega)]
    exact g
  refine ⟨?_, ?_, ?_, fun i i0 i1 => ?_, fun e e0 e1 => (h5m e e0 e1).2, hF5⟩
  · funext a b
    have q12 : v5 0 12 = v 0 12 := hF5 _ _ (by omega)
    have q32 : v5 0 32 = v 0 32 := hF5 _ _ (by omega)
    by_cases c1 : a = 38 ∧ b = 31
    · rw [c1.1, c1.2, yNx_y, aN_c31, hF5a x 2 (by omega), hyr, aN_c31]
    · by_cases c6 : a = 56
      · subst c6
        by_cases cr : 0 ≤ b ∧ b < v 0 12
        · rw [aN_56 cr.1 (by rw [q12]; exact cr.2), yNx_m cr.1 cr.2]
          exact (h5m b cr.1 cr.2).1
        · have l1 : aN v5 (gHd K) x 56 b = 0 := by
            show (if 0 ≤ b ∧ b < v5 0 12 then v5 (x + 2) b else 0) = 0
            rw [q12, if_neg cr]
          have l2 : aN v (gHd K) x 56 b = 0 := by
            show (if 0 ≤ b ∧ b < v 0 12 then v (x + 2) b else 0) = 0
            rw [if_neg cr]
          rw [l1]
          unfold yNx
          rw [if_neg (by omega), if_neg (by omega), aN_c22, if_neg (fun z => cr z.2), l2]
      · by_cases c8 : a = 58
        · subst c8
          by_cases cr : 0 ≤ b ∧ b < v 0 32
          · rw [aN_58 cr.1 (by rw [q32]; exact cr.2), yNx_s cr.1 cr.2, hF5a (x + 1) b (by omega)]
            exact (hall b cr.1 cr.2).2.1
          · have l1 : aN v5 (gHd K) x 58 b = 0 := by
              show (if 0 ≤ b ∧ b < v5 0 32 then v5 (x + 1) b else 0) = 0
              rw [q32, if_neg cr]
            have l2 : aN v (gHd K) x 58 b = 0 := by
              show (if 0 ≤ b ∧ b < v 0 32 then v (x + 1) b else 0) = 0
              rw [if_neg cr]
            rw [l1]
            unfold yNx
            rw [if_neg (by omega), aN_c33, if_neg (fun z => cr z.2), if_neg (by omega), l2]
        · rw [aN_congr hW (fun c d hcd => hF5 c d (by omega)) a b (by omega)]
          unfold yNx
          rw [if_neg c1, if_neg (fun z => c8 z.1), if_neg (fun z => c6 z.1)]
  · rw [hF5a x 6 (by omega)]; exact hAc
  · rw [e5, gUp_eq2 rfl rfl, hL _ (by omega) (Int.le_refl _)]
    unfold ySd
    rw [aN_c22, aN_c26, aN_c27, ← hfd]
  · rw [hF5a (x + 3) i (by omega), hF5a (x + 4) i (by omega)]
    exact ⟨(hall i i0 i1).2.2, (hall i i0 i1).1⟩
end
