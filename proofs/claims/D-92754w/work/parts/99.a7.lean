/-! AcornYears: a year as the function -/
section
variable {Γ : gC} {v : gM} {K : gH} {t : Nat} {Q : gQ}
/-- off the year, the stores and the mice a wood is read alike -/
theorem aN_congr {v v1 : gM} {h : gH} {x : Int} (hW : aWf v h) (hF : ∀ a k, ¬ ((17 ≤ a ∧ a ≤ 36) ∨ (38 ≤ a ∧ a ≤ 65) ∨ (1 ≤ a ∧ a ≤ 3) ∨ a = 0 ∧ k ≠ 7 ∧ k ≠ 8 ∧ k ≠ 10 ∧ k ≠ 11 ∧ k ≠ 12 ∧ k ≠ 32 ∧ k ≠ 35) → v1 a k = v a k) (a k : Int) (hak : ¬ ((a = 38 ∧ k = 31) ∨ a = 56 ∨ a = 58)) : aN v1 h x a k = aN v h x a k := by
  obtain ⟨⟨w7, -, -, -⟩, wS, ⟨w8, -⟩, wT, -⟩ := hW
  have e7 : v1 0 7 = v 0 7 := hF 0 7 (by omega)
  have e8 : v1 0 8 = v 0 8 := hF 0 8 (by omega)
  have e10 : v1 0 10 = v 0 10 := hF 0 10 (by omega)
  have e11 : v1 0 11 = v 0 11 := hF 0 11 (by omega)
  have e12 : v1 0 12 = v 0 12 := hF 0 12 (by omega)
  have e32 : v1 0 32 = v 0 32 := hF 0 32 (by omega)
  have e35 : v1 0 35 = v 0 35 := hF 0 35 (by omega)
  unfold aN
  rw [e7, e8, e10, e11, e12, e32]
  by_cases c38 : a = 38
  · rw [if_pos c38, if_pos c38]
    by_cases c31 : k = 31
    · exact absurd (Or.inl ⟨c38, c31⟩) hak
    · rw [if_neg c31, if_neg c31]
  · rw [if_neg c38, if_neg c38]
    by_cases c50 : a = 50
    · rw [if_pos c50, if_pos c50]
      by_cases cr : 0 ≤ k ∧ k < 7 * (h (v 0 7)).2
      · rw [if_pos cr, if_pos cr, hF (v 0 7) (k / 7) (by omega)]
        obtain ⟨g1, g2, g3, -⟩ := wS (k / 7) (by omega) (by omega)
        unfold aS
        rw [e35, hF (v (v 0 7) (k / 7)) 0 (by omega), hF (v (v (v 0 7) (k / 7)) 0) (k % 7 - 1) (by omega), hF (v (v 0 7) (k / 7)) 1 (by omega), hF (v (v 0 7) (k / 7)) 2 (by omega), hF (v (v 0 7) (k / 7)) 3 (by omega)]
      · rw [if_neg cr, if_neg cr]
    · rw [if_neg c50, if_neg c50, hF 7 k (by omega), hF 8 k (by omega), hF 9 k (by omega), hF (v 0 8) k (by omega), hF 5 k (by omega), hF 16 k (by omega)]
      by_cases c57 : a = 57
      · subst c57
        show (if 0 ≤ k ∧ k < v 0 32 then v1 (v 16 k) 0 else 0) = (if 0 ≤ k ∧ k < v 0 32 then v (v 16 k) 0 else 0)
        by_cases cr : 0 ≤ k ∧ k < v 0 32
        · rw [if_pos cr, if_pos cr, hF (v 16 k) 0 (by have := (wT k cr.1 cr.2).1; omega)]
        · rw [if_neg cr, if_neg cr]
      · have n56 : a ≠ 56 := by omega
        have n58 : a ≠ 58 := by omega
        rw [if_neg n56, if_neg c57, if_neg n58, if_neg n56, if_neg c57, if_neg n58]

theorem aKd_4 {k : Nat} (hk : 3 ≤ k ∧ k ≤ 7) : aKd k = 4 ↔ k = 6 := by
  rcases (by omega : k = 3 ∨ k = 4 ∨ k = 5 ∨ k = 6 ∨ k = 7) with z | z | z | z | z <;> rw [z] <;> decide
/-- what bears is what the year says: v the memory behind grow, u the wood ahead of the year, read alike off year, stores and mice -/
theorem bGv_y {v u : gM} {h : gH} {x w i : Int} (hx : x = 17 ∨ x = 23) (hW : aWf v h) (hu : yOK u) (hw : 0 ≤ w ∧ w ≤ 2) (hr : ∀ a k, ¬ ((a = 38 ∧ k = 31) ∨ a = 56 ∨ a = 58) → aN v h x a k = u a k) (hb : ∀ k, 0 ≤ k → k < v 0 32 → bB v x k = yB u w k) (h0 : 0 ≤ i) (h1 : i < v 0 32) (hst : v (x + 1) i = mG u w i) : bGv v h x w i = yGv u w (aHf v) i ∧ bSt v h x w i = ySt u w (aHf v) i := by
  have e33 : u 38 33 = v 0 32 := (hr 38 33 (by omega)).symm
  have e57 : u 57 i = v (v 16 i) 0 := by rw [← hr 57 i (by omega)]; exact aN_57 h0 h1
  have hs0 := (hu.2.2.2.1 i h0 (by rw [e33]; exact h1)).1
  have e20 : u 38 20 = (h (v 0 7)).2 := (hr 38 20 (by omega)).symm
  rw [e57, e20] at hs0
  obtain ⟨o, ho⟩ : ∃ o, v (v 0 7) (v (v 16 i) 0) = o := ⟨_, rfl⟩
  have hk := (hW.2.1 _ hs0.1 hs0.2).2.1
  rw [ho] at hk
  have f0 : u 50 (7 * u 57 i) = aKd (h o).1 := by rw [e57, ← hr 50 _ (by omega), aN_S0 hs0.1 hs0.2, ho]
  have fw : u 50 (7 * u 57 i + 1 + w) = v (v o 0) w := by rw [e57, ← hr 50 _ (by omega), aN_Sw hs0.1 hs0.2 hw, ho]
  have f5 : u 50 (7 * u 57 i + 5) = aS v h o 5 := by rw [e57, ← hr 50 _ (by omega), aN_S hs0.1 hs0.2 (by omega), ho]
  have f6 : u 50 (7 * u 57 i + 6) = aS v h o 6 := by rw [e57, ← hr 50 _ (by omega), aN_S hs0.1 hs0.2 (by omega), ho]
  have hcn (bm : Int) : yCnt (yHf (bB v x) (aHf v) i bm) (v 0 32).toNat = yCnt (yHf (yB u w) (aHf v) i bm) (u 38 33).toNat := by
    rw [e33]
    refine yCnt_congr _ (fun k k0 k1 => ?_)
    unfold yHf
    rw [hb k k0 (by omega)]
  have hdo : bDo v h x o i = yDo u w (aHf v) i := by
    unfold bDo yDo
    rw [hcn 0, hcn 1, f0, f6]
    by_cases c : (h o).1 = 6
    · rw [aS_6 c, c]
      rfl
    · have c4 : aKd (h o).1 ≠ 4 := fun z => c ((aKd_4 hk).1 z)
      rw [decide_eq_true c, decide_eq_true c4]
      rfl
  have hgi : bGi v h o w = if (h o).1 = 3 then v (v o 0) w else aS v h o 5 := by
    unfold bGi
    by_cases c : (h o).1 = 3
    · rw [if_pos c, if_pos c]
    · rw [if_neg c, if_neg c, aS_5 c]
  have hd3 : (h o).1 = 3 → yDo u w (aHf v) i = true := by
    intro z
    unfold yDo
    rw [f0, z]
    rfl
  unfold bGv bSt yGv ySt
  rw [ho, hb i h0 h1, hdo, hgi, f0, fw, f5, hst]
  by_cases cb : yB u w i = true
  · rw [if_pos cb, if_pos cb, if_pos cb, if_pos cb]
    by_cases c3 : (h o).1 = 3
    · rw [if_pos (hd3 c3), if_pos c3, if_pos ((aKd_1 hk).2 c3), if_pos c3, if_pos ((aKd_1 hk).2 c3)]
      exact ⟨rfl, rfl⟩
    · rw [if_neg c3, if_neg (fun z => c3 ((aKd_1 hk).1 z)), if_neg c3, if_neg (fun z => c3 ((aKd_1 hk).1 z))]
      exact ⟨rfl, rfl⟩
  · rw [if_neg cb, if_neg cb, if_neg cb, if_neg cb]
    exact ⟨rfl, rfl⟩

set_option maxHeartbeats 1000000 in
theorem ct_X0_bear {x w : Int} (hx : x = 17 ∨ x = 23) (hw : 0 ≤ w ∧ w ≤ 2) (hn : 0 ≤ v 0 32 ∧ v 0 32 ≤ 24) (hW : aWf v (gHd K)) (hsr : (∀ i, 0 ≤ i → i < v 0 32 → (0 ≤ v (v 16 i) 0 ∧ v (v 16 i) 0 < (gHd K (v 0 7)).2) ∧ (0 ≤ v (x + 1) i ∧ v (x + 1) i ≤ 60) ∧ ∀ o, v (v 0 7) (v (v 16 i) 0) = o → (0 ≤ bGi v (gHd K) o w ∧ bGi v (gHd K) o w ≤ 60) ∧ ((gHd K o).1 = 6 → 0 ≤ v o 3 ∧ v o 3 ≤ 99))) (h35 : v 0 35 ≤ 99) (k : ∀ v1, oBe v v1 (gHd K) x w (v 0 32) → Q (9, 0) v1 (gHd K) t) : Ctr Γ mX0_bear [(2, 0), (2, x), (0, w)] v (gHd K) t Q := by
  refine Ctr.ofG (ls := [(2, 0), (2, x), (0, w), (9, 0), (9, 0), (9, 0), (9, 0)]) rfl rfl rfl rfl rfl ?_
  refine Gx_aload_n (i := 0) dX0_bear_0 rfl rfl ?_
  refine Gx_aload_n (i := 1) dX0_bear_1 rfl rfl ?_
  refine cl_X0_370 dX0_bear_2 rfl rfl ⟨(Nat.le_of_ble_eq_true rfl), (Nat.le_of_ble_eq_true rfl)⟩ rfl ?_
  refine ct_X0_countHalves hx hn (fun vH hv => ?_)
  refine Gx_aload_n (i := 1) dX0_bear_5 rfl rfl ?_
  refine Gx_iconst ⟨by decide, by decide⟩ dX0_bear_6 ?_
  refine pf_X0_374_21 dX0_bear_7 rfl (hdx (K := K) hx).1 ?_
  refine Gx_iconst ⟨by decide, by decide⟩ dX0_bear_10 ?_
  refine Gx_istore_n_3 dX0_bear_11 (Nat.le_of_ble_eq_true rfl) (Nat.ne_of_beq_eq_false rfl) ?_
  refine lp_X0_bear (v0 := v) (vH := vH) hx hw rfl hn.2 hW hv hsr h35 k (v 0 32).toNat 0 _ _ _ _ (by omega) (by omega) ⟨(by show (9 : Nat) ≠ 1; decide), (by show (9 : Nat) ≠ 1; decide)⟩ ⟨fun a k hk => ?_, fun k k0 k1 => by omega, ?_⟩ (fun k => ?_)
  · rw [gUp_ne2 (fun z => hk (Or.inr (Or.inl z)))]
    exact hv.1 a k (fun z => hk (Or.inl z))
  · rw [gUp_eq2 rfl rfl]
    rfl
  · rw [gUp_ne2 (nbH (i := 0) hx (Or.inl rfl)).2.2, gUp_ne2 (nbH (i := 0) hx (Or.inr rfl)).2.2]
    exact ⟨rfl, rfl⟩
end
