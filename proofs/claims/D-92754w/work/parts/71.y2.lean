/-! what a year of the model is, as the function -/
section
variable {Γ : gC} {v : gM} {K : gH} {t : Nat} {Q : gQ}
/-- a year of the model, told by the function -/
def oYr (v v3 : gM) (w h pg : Int) : Prop := mN v3 = yNx (mN v) w h pg ∧ v3 38 38 = yAc (mN v) w h ∧ v3 38 39 = ySd (mN v) w h pg ∧ v3 38 40 = yCnt (yB (mN v) w) (v 38 33).toNat ∧ (∀ k, 0 ≤ k → k < 32 → gHas (v3 38 41) k = (decide (k < v 38 33) && yB (mN v) w k)) ∧ (∀ k, 0 ≤ k → k < v 38 33 → v3 61 k = yGv (mN v) w h k) ∧ (∀ k, 0 ≤ k → k < v 38 22 → v3 62 k = (if ySv (mN v) w h pg k = true then 1 else 0)) ∧ (∀ k, 0 ≤ k → k < v 38 33 → v3 59 k = (if yB (mN v) w k = true then w32 (v 59 k + 1) else v 59 k) ∧ v3 60 k = (if yB (mN v) w k = true then v 38 31 + 1 else v 60 k)) ∧ ∀ a k, ¬ ((a = 38 ∧ (k = 31 ∨ k = 38 ∨ k = 39 ∨ k = 40 ∨ k = 41)) ∨ ((a = 56 ∨ a = 62) ∧ 0 ≤ k ∧ k < v 38 22) ∨ ((a = 58 ∨ a = 59 ∨ a = 60 ∨ a = 61) ∧ 0 ≤ k ∧ k < v 38 33)) → v3 a k = v a k
set_option maxHeartbeats 4000000 in
theorem oYear_fn {v v3 : gM} {w h pg : Int} (hw : 0 ≤ w ∧ w ≤ 2) (hT : oTr v) (hE : oEat v) (hS : oSo v) (hY : oYear v v3 w h pg) : oYr v v3 w h pg := by
  obtain ⟨v1, v2, ⟨f1, g1, c1, b1⟩, ⟨f2, g2, c2⟩, f3, s3, g3⟩ := hY
  have hn := hT.1
  have hne := hE.1
  have e33 : yS0 v 38 33 = v 38 33 := rfl
  have F1 : ∀ a k, ¬ ((a = 38 ∧ (k = 31 ∨ k = 40 ∨ k = 41)) ∨ ((a = 58 ∨ a = 59 ∨ a = 60) ∧ 0 ≤ k ∧ k < v 38 33)) → v1 a k = v a k := by
    intro a k hk
    rw [f1 a k (by omega)]
    simp (disch := omega) only [gUp_ne2]
  have F2 : ∀ a k, ¬ ((a = 38 ∧ (k = 31 ∨ k = 38 ∨ k = 40 ∨ k = 41)) ∨ ((a = 58 ∨ a = 59 ∨ a = 60 ∨ a = 61) ∧ 0 ≤ k ∧ k < v 38 33)) → v2 a k = v a k := by
    intro a k hk
    rw [f2 a k (by omega), gUp_ne2 (by omega), F1 a k (by omega)]
  have u22 : v2 38 22 = v 38 22 := F2 38 22 (by omega)
  rw [u22] at f3 s3 g3
  have bl : ∀ k, 0 ≤ k → k < v 38 33 → gHas (gUp v1 38 38 0 38 41) k = yB (mN v) w k := by
    intro k k0 k1
    rw [gUp_ne2 (by omega), b1 k k0 (by omega), yB_N hw hS k0 k1, decide_eq_true k1]
    rfl
  have U50 : ∀ k, gUp v1 38 38 0 50 k = v 50 k := fun k => by rw [gUp_ne2 (by omega), F1 50 k (by omega)]
  have U57 : ∀ k, gUp v1 38 38 0 57 k = v 57 k := fun k => by rw [gUp_ne2 (by omega), F1 57 k (by omega)]
  have U33 : gUp v1 38 38 0 38 33 = v 38 33 := by rw [gUp_ne2 (by omega), F1 38 33 (by omega)]
  have cn : ∀ i bm, 0 ≤ i → i < v 38 33 → yCnt (mHf (gUp v1 38 38 0 38 41) h i bm) (v 38 33).toNat = yCnt (yHf (yB (mN v) w) h i bm) (v 38 33).toNat := by
    intro i bm i0 i1
    refine yCnt_congr _ (fun o o0 o1 => ?_)
    unfold mHf yHf
    rw [bl o o0 (by omega)]
  have dO : ∀ i, 0 ≤ i → i < v 38 33 → mDo (gUp v1 38 38 0) i h = yDo (mN v) w h i := by
    intro i i0 i1
    have hs := hS i i0 i1
    unfold yDo
    show (decide (gUp v1 38 38 0 50 (7 * gUp v1 38 38 0 57 i) ≠ 4) || decide (gUp v1 38 38 0 50 (7 * gUp v1 38 38 0 57 i + 6) * yCnt (mHf (gUp v1 38 38 0 38 41) h i 0) (gUp v1 38 38 0 38 33).toNat ≤ 100 * yCnt (mHf (gUp v1 38 38 0 38 41) h i 1) (gUp v1 38 38 0 38 33).toNat)) = _
    rw [U33, cn i 0 i0 i1, cn i 1 i0 i1, U57, U50, U50, mN_so i0 i1, mN_c (by omega), mN_S0 hs.1 hs.2, mN_S hs.1 hs.2 (by omega)]
  have gV : ∀ i, 0 ≤ i → i < v 38 33 → mGv (gUp v1 38 38 0) w h i = yGv (mN v) w h i := by
    intro i i0 i1
    have hs := hS i i0 i1
    unfold mGv yGv sGv
    rw [bl i i0 i1, dO i i0 i1, U57, U50, U50, U50, mN_so i0 i1, mN_S0 hs.1 hs.2, mN_S hs.1 hs.2 (by omega), show 7 * v 57 i + 1 + w = 7 * v 57 i + (1 + w) by omega, mN_S hs.1 hs.2 (by omega)]
  have ac : ySum (mGv (gUp v1 38 38 0) w h) (v 38 33).toNat = yAc (mN v) w h := by
    unfold yAc
    rw [mN_c (by omega)]
    exact ySum_congr _ (fun i i0 i1 => gV i i0 (by omega))
  have sT : ∀ i, 0 ≤ i → i < v 38 33 → v2 58 i = ySt (mN v) w h i := by
    intro i i0 i1
    have hs := hS i i0 i1
    rw [(g2 i i0 i1).2, bl i i0 i1]
    have e58 : gUp v1 38 38 0 58 i = mG (mN v) w i := by rw [gUp_ne2 (by omega), (g1 i i0 i1).1, yG_N hw hS i0 i1]; rfl
    unfold ySt sSt
    rw [e58, dO i i0 i1, U57, U50, U50, mN_so i0 i1, mN_S0 hs.1 hs.2, mN_S hs.1 hs.2 (by omega)]
  rw [ac] at s3 g3
  have th : (if pg = 0 then yAc (mN v) w h else 0) = yTh (mN v) w h pg := rfl
  rw [th] at s3 g3
  have lf : ∀ e, e ≤ v 38 22 → yLeft (v2 51) (v2 56) (yTh (mN v) w h pg - min (v2 38 26) (yTh (mN v) w h pg)) e.toNat = yL (mN v) w h pg e := by
    intro e he
    unfold yL
    rw [mN_c (by omega), F2 38 26 (by omega)]
    refine yLeft_congr _ (fun i i0 i1 => ⟨?_, ?_⟩)
    · rw [F2 51 i (by omega), mN_e (by omega) i0 (by omega)]
    · rw [F2 56 i (by omega), mN_e (by omega) i0 (by omega)]
  have sd : v3 38 39 = ySd (mN v) w h pg := by
    rw [s3, lf _ (Int.le_refl _)]
    unfold ySd
    rw [mN_c (by omega), mN_c (by omega), mN_c (by omega), F2 38 26 (by omega), F2 38 27 (by omega)]
  have FF : ∀ a k, ¬ ((a = 38 ∧ (k = 31 ∨ k = 38 ∨ k = 39 ∨ k = 40 ∨ k = 41)) ∨ ((a = 56 ∨ a = 62) ∧ 0 ≤ k ∧ k < v 38 22) ∨ ((a = 58 ∨ a = 59 ∨ a = 60 ∨ a = 61) ∧ 0 ≤ k ∧ k < v 38 33)) → v3 a k = v a k := by
    intro a k hk
    rw [f3 a k (by omega), F2 a k (by omega)]
  refine ⟨?_, ?_, sd, ?_, ?_, ?_, ?_, ?_, FF⟩
  · have q20 := FF 38 20 (by omega)
    have q22 := FF 38 22 (by omega)
    have q28 := FF 38 28 (by omega)
    have q33 := FF 38 33 (by omega)
    have q31 : v3 38 31 = v 38 31 + 1 := by
      rw [f3 38 31 (by omega), f2 38 31 (by omega), gUp_ne2 (by omega), f1 38 31 (by omega)]
      rfl
    funext a k
    unfold yNx
    rw [mN_c (by omega), mN_c (by omega), mN_c (by omega)]
    by_cases h1 : a = 38 ∧ k = 31
    · rw [if_pos h1, h1.1, h1.2, mN_c (by omega), q31]
    rw [if_neg h1]
    by_cases h2 : a = 58 ∧ 0 ≤ k ∧ k < v 38 33
    · rw [if_pos h2, h2.1, mN_st h2.2.1 (by omega), f3 58 k (by omega), sT k h2.2.1 h2.2.2]
    rw [if_neg h2]
    by_cases h3 : a = 56 ∧ 0 ≤ k ∧ k < v 38 22
    · rw [if_pos h3, h3.1, mN_e (by omega) h3.2.1 (by omega), (g3 k h3.2.1 h3.2.2).1, lf k (by omega), F2 51 k (by omega), F2 52 k (by omega), F2 53 k (by omega), F2 56 k (by omega), mN_e (by omega) h3.2.1 h3.2.2, mN_e (by omega) h3.2.1 h3.2.2, mN_e (by omega) h3.2.1 h3.2.2, mN_e (by omega) h3.2.1 h3.2.2]
    rw [if_neg h3]
    by_cases hr : yR v a k
    · rw [mN_at hr, mN_at (by unfold yR at hr ⊢; omega)]
      exact FF a k (by unfold yR at hr; omega)
    · rw [mN_no hr, mN_no (by unfold yR at hr ⊢; omega)]
  · rw [f3 38 38 (by omega), c2, ac]
  · rw [f3 38 40 (by omega), f2 38 40 (by omega), gUp_ne2 (by omega), c1]
    exact yCnt_congr _ (fun i i0 i1 => (yB_N hw hS i0 (by omega)).symm)
  · intro k k0 k1
    rw [f3 38 41 (by omega), f2 38 41 (by omega), gUp_ne2 (by omega), b1 k k0 k1]
    by_cases hk : k < v 38 33
    · rw [yB_N hw hS k0 hk]
    · rw [decide_eq_false hk]
      rfl
  · intro k k0 k1
    rw [f3 61 k (by omega), (g2 k k0 k1).1, gV k k0 k1]
  · intro k k0 k1
    rw [(g3 k k0 k1).2, lf k (by omega), F2 51 k (by omega), F2 56 k (by omega)]
    unfold ySv
    rw [mN_e (by omega) k0 k1, mN_e (by omega) k0 k1]
  · intro k k0 k1
    rw [f3 59 k (by omega), f3 60 k (by omega), f2 59 k (by omega), f2 60 k (by omega), gUp_ne2 (by omega), gUp_ne2 (by omega), (g1 k k0 k1).2.1, (g1 k k0 k1).2.2, yB_N hw hS k0 k1]
    exact ⟨rfl, rfl⟩

end
