/-! AcornYears: tear, mix, mixWood -/
section
variable {Γ : gC} {v : gM} {K : gH} {t : Nat} {Q : gQ}
theorem ct_X0_tear {r n : Int} (hro : 0 ≤ r ∧ r ≤ 5 → v 2 r = -1 ∨ aRo v (gHd K) r n) (kB : ¬ (0 ≤ r ∧ r ≤ 5) → Q (0, -1) v (gHd K) t) (kN : 0 ≤ r ∧ r ≤ 5 → v 2 r = -1 → Q (0, -3) (aMet v 1) (gHd K) t) (k1 : 0 ≤ r ∧ r ≤ 5 → aRo v (gHd K) r n → Q (0, 1) (gUp v 2 r (-1)) (gHd K) t) : Ctr Γ mX0_tear [(2, 0), (0, r)] v (gHd K) t Q := by
  refine Ctr.ofG (ls := [(2, 0), (0, r)]) rfl rfl rfl rfl rfl ?_
  refine Gx_iload_n (i := 1) dX0_tear_0 rfl rfl ?_
  refine cl_X0_133 dX0_tear_1 rfl ⟨(Nat.le_of_ble_eq_true rfl), (Nat.le_of_ble_eq_true rfl)⟩ rfl ?_
  refine ct_X0_isRow (fun hr => ?_) (fun hr => ?_)
  · refine Gx_if_ne (tgt := 9) dX0_tear_4 (by decide) (fun _ => ?_) (fun hz => absurd hz (by decide))
    refine Gx_aload_n (i := 0) dX0_tear_9 rfl rfl ?_
    refine gf_X0_28_20 dX0_tear_10 rfl rfl ?_
    refine Gx_iload_n (i := 1) dX0_tear_13 rfl rfl ?_
    refine Gx_aaload15 dX0_tear_14 rfl (by first | omega | (simp (disch := omega) only [w32_id]; omega)) ?_
    refine Gx_ifnonnull (tgt := 24) dX0_tear_15 (by decide) (fun c15 => ?_) (fun c15 => ?_)
    · refine Gx_aload_n (i := 0) dX0_tear_24 rfl rfl ?_
      refine gf_X0_28_20 dX0_tear_25 rfl rfl ?_
      refine Gx_iload_n (i := 1) dX0_tear_28 rfl rfl ?_
      refine Gx_null dX0_tear_29 ?_
      refine Gx_aastN15 dX0_tear_30 rfl (by omega) ?_
      refine Gx_iconst ⟨by decide, by decide⟩ dX0_tear_31 ?_
      refine Gx_ireturn dX0_tear_32 trivial ?_
      exact k1 hr ((hro hr).resolve_left (by omega))
    · refine Gx_aload_n (i := 0) dX0_tear_18 rfl rfl ?_
      refine Gx_iconst ⟨by decide, by decide⟩ dX0_tear_19 ?_
      refine cl_X0_139 dX0_tear_20 rfl rfl ⟨(Nat.le_of_ble_eq_true rfl), (Nat.le_of_ble_eq_true rfl)⟩ rfl ?_
      refine ct_X0_met (by omega) ?_
      refine Gx_ireturn dX0_tear_23 trivial ?_
      exact kN hr (by rcases hro hr with z | z <;> omega)
  · refine Gx_if_ne (tgt := 9) dX0_tear_4 (by decide) (fun hz => absurd hz (by decide)) (fun _ => ?_)
    refine Gx_iconst ⟨by decide, by decide⟩ dX0_tear_7 ?_
    refine Gx_ireturn dX0_tear_8 trivial ?_
    exact kB hr
theorem ct_X0_mix {x : Int} (k : Q (9, 0) (gUp v 0 53 (hMix (v 0 53) x)) (gHd K) t) : Ctr Γ mX0_mix [(2, 0), (0, x)] v (gHd K) t Q := by
  refine Ctr.ofG (ls := [(2, 0), (0, x)]) rfl rfl rfl rfl rfl ?_
  refine Gx_aload_n (i := 0) dX0_mix_0 rfl rfl ?_
  refine Gx_ldc2 (n := 31) dX0_mix_1 rfl q1182 (by decide) ?_
  refine Gx_aload_n (i := 0) dX0_mix_4 rfl rfl ?_
  refine gf_X0_514_20 dX0_mix_5 rfl rfl ?_
  refine Gx_lmul dX0_mix_8 ?_
  refine Gx_iload_n (i := 1) dX0_mix_9 rfl rfl ?_
  refine Gx_i2l dX0_mix_10 ?_
  refine Gx_ladd dX0_mix_11 ?_
  refine pf_X0_514_20 dX0_mix_12 rfl rfl ?_
  refine Gx_return dX0_mix_15 rfl ?_
  exact k
theorem gH53 {v : gM} {h x : Int} : gUp (gUp v 0 53 h) 0 53 x = gUp v 0 53 x := gUp_up
theorem r53 {v : gM} {x : Int} (b k : Int) (h : ¬ (b = 0 ∧ k = 53)) : gUp v 0 53 x b k = v b k := gUp_ne2 h
theorem aWf_53 {v : gM} {h : gH} {x : Int} (hW : aWf v h) : aWf (gUp v 0 53 x) h := aWf_congr hW (fun a k hk => gUp_ne2 (by omega))
def aAb (v : gM) (h : gH) (s q : Int) : Int := if q < 3 then v (v (v (v 0 7) s) 0) q else aKd (h (v (v 0 7) s)).1
def aTl (v : gM) (h : gH) (s : Int) : Int := if (h (v (v 0 7) s)).1 = 3 then v (v (v (v 0 7) s) 0) 0 + v (v (v (v 0 7) s) 0) 1 + v (v (v (v 0 7) s) 0) 2 else if (h (v (v 0 7) s)).1 ≤ 5 then 100 * v (v (v 0 7) s) 1 + v (v (v 0 7) s) 2 else v (v (v 0 7) s) 3
theorem aAb_53 {v : gM} {h : gH} {s q x : Int} (hW : aWf v h) (h0 : 0 ≤ s) (h1 : s < (h (v 0 7)).2) : (if q < 3 then gUp v 0 53 x (gUp v 0 53 x (gUp v 0 53 x (gUp v 0 53 x 0 7) s) 0) q else aKd (h (gUp v 0 53 x (gUp v 0 53 x 0 7) s)).1) = aAb v h s q := by
  obtain ⟨w1, -, w3, -⟩ := hW.2.1 s h0 h1
  have w7 := hW.1.1
  unfold aAb
  rw [r53 0 7 (by omega), r53 (v 0 7) _ (by omega), r53 (v (v 0 7) s) _ (by omega), r53 (v (v (v 0 7) s) 0) _ (by omega)]
/-- what tells takes: a sort's bounds -/
def aTb (v : gM) (h : gH) : Prop := ∀ s, 0 ≤ s → s < (h (v 0 7)).2 → (∀ j, 0 ≤ j → j ≤ 2 → 0 ≤ v (v (v (v 0 7) s) 0) j ∧ v (v (v (v 0 7) s) 0) j ≤ 9) ∧ ((h (v (v 0 7) s)).1 ≠ 3 → (0 ≤ v (v (v 0 7) s) 1 ∧ v (v (v 0 7) s) 1 ≤ 60) ∧ 0 ≤ v (v (v 0 7) s) 2 ∧ v (v (v 0 7) s) 2 ≤ 60)
theorem aTb_of {v : gM} {h : gH} {x : Int} (hu : yOK (aN v h x)) : aTb v h := by
  intro s h0 h1
  have hs := hu.2.1 s h0 h1
  obtain ⟨-, b1, b2, -, -, -, b3⟩ := hs
  refine ⟨fun j j0 j1 => ?_, fun hk => ?_⟩
  · have := b1 j j0 j1
    rw [aN_Sw h0 h1 ⟨j0, j1⟩] at this
    exact this
  · rw [aN_S h0 h1 (by omega)] at b2 b3
    unfold aS at b2 b3
    rw [if_neg (by omega), if_neg (by omega), if_neg (by omega), if_pos rfl, if_neg hk] at b2
    rw [if_neg (by omega), if_neg (by omega), if_pos rfl, if_neg hk] at b3
    exact ⟨b3, b2⟩
theorem aTold_53 {v : gM} {h : gH} {i q x : Int} (hW : aWf v h) (h0 : 0 ≤ i) (h1 : i < v 0 32) : aTold (gUp v 0 53 x) i q = aTold v i q := by
  have w := (hW.2.2.2.1 i h0 h1).1
  unfold aTold
  rw [r53 16 _ (by omega), r53 18 _ (by omega), r53 (v 16 i) 0 (by omega), r53 (v 16 i) 1 (by omega), r53 (v 16 i) 2 (by omega)]
abbrev aWood (v : gM) (h : gH) (g : Int) : Int := hWood (h (v 0 7)).2 (aAb v h) (fun s => aAb v h s 3) (aTl v h) (v 0 12) (v 7) (v 8) (v 9) (aNow v (h (v 0 8)).2) (h (v 0 8)).2 (v (v 0 8)) (v 0 32) (aTold v) g

set_option maxHeartbeats 4000000 in
theorem lp_X0_mixWood1 {n h : Int} {bc bs : Nat} (hn : (gHd K (v 0 7)).2 = n) (hb : 0 ≤ n ∧ n ≤ 6) (hW : aWf v (gHd K)) (hT : aTb v (gHd K)) (cont : ∀ z2 z3 z4 : gV, Gx Γ mX0_mixWood 53 [(2, 0), (0, n), z2, z3, z4] [] (gUp v 0 53 (hIt (hSort (aAb v (gHd K)) (fun s => aAb v (gHd K) s 3) (aTl v (gHd K))) n.toNat h)) (gHd K) t bc bs Q) : ∀ (j : Nat) (i : Int) (z2 z3 z4 : gV), 0 ≤ i → i + j = n → Gx Γ mX0_mixWood 2 [(2, 0), (0, i), z2, z3, z4] [] (gUp v 0 53 (hIt (hSort (aAb v (gHd K)) (fun s => aAb v (gHd K) s 3) (aTl v (gHd K))) i.toNat h)) (gHd K) t bc bs Q := by
  intro j
  induction j with
  | zero =>
    intro i z2 z3 z4 h0 h1
    refine Gx_iload_n (i := 1) dX0_mixWood_2 rfl rfl ?_
    refine Gx_aload_n (i := 0) dX0_mixWood_3 rfl rfl ?_
    refine gf_X0_40_20 dX0_mixWood_4 rfl rfl ?_
    try simp (disch := omega) only [gUp_ne2]
    refine Gx_alen dX0_mixWood_7 (pairEq hW.1.2.1) (by decide) (by decide) ?_
    refine Gx_icmp_ge (tgt := 53) dX0_mixWood_8 (by decide) (fun c8 => ?_) (fun c8 => ?_)
    · have e0 : i = n := by omega
      rw [e0]
      exact cont z2 z3 z4
    · exfalso
      omega
  | succ j ih =>
    intro i z2 z3 z4 h0 h1
    obtain ⟨w1, hk3, w3, hA⟩ := hW.2.1 i h0 (by omega)
    have w7 := hW.1.1
    have hh7 := pairEq hW.1.2.1
    have hho : gHd K (v (v 0 7) i) = ((gHd K (v (v 0 7) i)).1, (gHd K (v (v 0 7) i)).2) := rfl
    obtain ⟨tb1, tb2⟩ := hT i h0 (by omega)
    refine Gx_iload_n (i := 1) dX0_mixWood_2 rfl rfl ?_
    refine Gx_aload_n (i := 0) dX0_mixWood_3 rfl rfl ?_
    refine gf_X0_40_20 dX0_mixWood_4 rfl rfl ?_
    try simp (disch := omega) only [gUp_ne2]
    refine Gx_alen dX0_mixWood_7 (pairEq hW.1.2.1) (by decide) (by decide) ?_
    refine Gx_icmp_ge (tgt := 53) dX0_mixWood_8 (by decide) (fun c8 => ?_) (fun c8 => ?_)
    · exfalso
      omega
    · refine Gx_iconst ⟨by decide, by decide⟩ dX0_mixWood_11 ?_
      refine Gx_istore_n_2 dX0_mixWood_12 (Nat.le_of_ble_eq_true rfl) (Nat.ne_of_beq_eq_false rfl) ?_
      refine Gx_iload_n (i := 2) dX0_mixWood_13 rfl rfl ?_
      refine Gx_iconst ⟨by decide, by decide⟩ dX0_mixWood_14 ?_
      refine Gx_icmp_gt (tgt := 34) dX0_mixWood_15 (by decide) (fun hz => absurd hz (by decide)) (fun _ => ?_)
      refine Gx_aload_n (i := 0) dX0_mixWood_18 rfl rfl ?_
      refine Gx_aload_n (i := 0) dX0_mixWood_19 rfl rfl ?_
      refine Gx_iload_n (i := 1) dX0_mixWood_20 rfl rfl ?_
      refine Gx_iload_n (i := 2) dX0_mixWood_21 rfl rfl ?_
      refine cl_X0_303 dX0_mixWood_22 rfl rfl ⟨(Nat.le_of_ble_eq_true rfl), (Nat.le_of_ble_eq_true rfl)⟩ rfl ?_
      refine ct_X0_aboutOf (aWf_53 hW) (by first | omega | (rw [gUp_ne2 (by omega)]; omega)) (by omega) ?_
      rw [aAb_53 hW h0 (by omega)]
      refine cl_X0_517 dX0_mixWood_25 rfl rfl ⟨(Nat.le_of_ble_eq_true rfl), (Nat.le_of_ble_eq_true rfl)⟩ rfl ?_
      refine ct_X0_mix ?_
      rw [gH53, gUp_eq2 rfl rfl]
      refine Gx_iinc_2 dX0_mixWood_28 (Nat.le_of_ble_eq_true rfl) (Nat.ne_of_beq_eq_false rfl) ?_
      rw [show w32 (0 + 1) = (1 : Int) from by decide]
      refine Gx_goto (tgt := 13) dX0_mixWood_31 (by decide) ?_
      refine Gx_iload_n (i := 2) dX0_mixWood_13 rfl rfl ?_
      refine Gx_iconst ⟨by decide, by decide⟩ dX0_mixWood_14 ?_
      refine Gx_icmp_gt (tgt := 34) dX0_mixWood_15 (by decide) (fun hz => absurd hz (by decide)) (fun _ => ?_)
      refine Gx_aload_n (i := 0) dX0_mixWood_18 rfl rfl ?_
      refine Gx_aload_n (i := 0) dX0_mixWood_19 rfl rfl ?_
      refine Gx_iload_n (i := 1) dX0_mixWood_20 rfl rfl ?_
      refine Gx_iload_n (i := 2) dX0_mixWood_21 rfl rfl ?_
      refine cl_X0_303 dX0_mixWood_22 rfl rfl ⟨(Nat.le_of_ble_eq_true rfl), (Nat.le_of_ble_eq_true rfl)⟩ rfl ?_
      refine ct_X0_aboutOf (aWf_53 hW) (by first | omega | (rw [gUp_ne2 (by omega)]; omega)) (by omega) ?_
      rw [aAb_53 hW h0 (by omega)]
      refine cl_X0_517 dX0_mixWood_25 rfl rfl ⟨(Nat.le_of_ble_eq_true rfl), (Nat.le_of_ble_eq_true rfl)⟩ rfl ?_
      refine ct_X0_mix ?_
      rw [gH53, gUp_eq2 rfl rfl]
      refine Gx_iinc_2 dX0_mixWood_28 (Nat.le_of_ble_eq_true rfl) (Nat.ne_of_beq_eq_false rfl) ?_
      rw [show w32 (1 + 1) = (2 : Int) from by decide]
      refine Gx_goto (tgt := 13) dX0_mixWood_31 (by decide) ?_
      refine Gx_iload_n (i := 2) dX0_mixWood_13 rfl rfl ?_
      refine Gx_iconst ⟨by decide, by decide⟩ dX0_mixWood_14 ?_
      refine Gx_icmp_gt (tgt := 34) dX0_mixWood_15 (by decide) (fun hz => absurd hz (by decide)) (fun _ => ?_)
      refine Gx_aload_n (i := 0) dX0_mixWood_18 rfl rfl ?_
      refine Gx_aload_n (i := 0) dX0_mixWood_19 rfl rfl ?_
      refine Gx_iload_n (i := 1) dX0_mixWood_20 rfl rfl ?_
      refine Gx_iload_n (i := 2) dX0_mixWood_21 rfl rfl ?_
      refine cl_X0_303 dX0_mixWood_22 rfl rfl ⟨(Nat.le_of_ble_eq_true rfl), (Nat.le_of_ble_eq_true rfl)⟩ rfl ?_
      refine ct_X0_aboutOf (aWf_53 hW) (by first | omega | (rw [gUp_ne2 (by omega)]; omega)) (by omega) ?_
      rw [aAb_53 hW h0 (by omega)]
      refine cl_X0_517 dX0_mixWood_25 rfl rfl ⟨(Nat.le_of_ble_eq_true rfl), (Nat.le_of_ble_eq_true rfl)⟩ rfl ?_
      refine ct_X0_mix ?_
      rw [gH53, gUp_eq2 rfl rfl]
      refine Gx_iinc_2 dX0_mixWood_28 (Nat.le_of_ble_eq_true rfl) (Nat.ne_of_beq_eq_false rfl) ?_
      rw [show w32 (2 + 1) = (3 : Int) from by decide]
      refine Gx_goto (tgt := 13) dX0_mixWood_31 (by decide) ?_
      refine Gx_iload_n (i := 2) dX0_mixWood_13 rfl rfl ?_
      refine Gx_iconst ⟨by decide, by decide⟩ dX0_mixWood_14 ?_
      refine Gx_icmp_gt (tgt := 34) dX0_mixWood_15 (by decide) (fun hz => absurd hz (by decide)) (fun _ => ?_)
      refine Gx_aload_n (i := 0) dX0_mixWood_18 rfl rfl ?_
      refine Gx_aload_n (i := 0) dX0_mixWood_19 rfl rfl ?_
      refine Gx_iload_n (i := 1) dX0_mixWood_20 rfl rfl ?_
      refine Gx_iload_n (i := 2) dX0_mixWood_21 rfl rfl ?_
      refine cl_X0_303 dX0_mixWood_22 rfl rfl ⟨(Nat.le_of_ble_eq_true rfl), (Nat.le_of_ble_eq_true rfl)⟩ rfl ?_
      refine ct_X0_aboutOf (aWf_53 hW) (by first | omega | (rw [gUp_ne2 (by omega)]; omega)) (by omega) ?_
      rw [aAb_53 hW h0 (by omega)]
      refine cl_X0_517 dX0_mixWood_25 rfl rfl ⟨(Nat.le_of_ble_eq_true rfl), (Nat.le_of_ble_eq_true rfl)⟩ rfl ?_
      refine ct_X0_mix ?_
      rw [gH53, gUp_eq2 rfl rfl]
      refine Gx_iinc_2 dX0_mixWood_28 (Nat.le_of_ble_eq_true rfl) (Nat.ne_of_beq_eq_false rfl) ?_
      rw [show w32 (3 + 1) = (4 : Int) from by decide]
      refine Gx_goto (tgt := 13) dX0_mixWood_31 (by decide) ?_
      refine Gx_iload_n (i := 2) dX0_mixWood_13 rfl rfl ?_
      refine Gx_iconst ⟨by decide, by decide⟩ dX0_mixWood_14 ?_
      refine Gx_icmp_gt (tgt := 34) dX0_mixWood_15 (by decide) (fun _ => ?_) (fun hz => absurd hz (by decide))
      refine Gx_aload_n (i := 0) dX0_mixWood_34 rfl rfl ?_
      refine Gx_aload_n (i := 0) dX0_mixWood_35 rfl rfl ?_
      refine gf_X0_40_20 dX0_mixWood_36 rfl rfl ?_
      refine Gx_iload_n (i := 1) dX0_mixWood_39 rfl rfl ?_
      try simp (disch := omega) only [gUp_ne2]
      refine Gx_aaload17 dX0_mixWood_40 hh7 (by first | omega | (simp (disch := omega) only [w32_id]; omega)) ?_
      try simp (disch := omega) only [gUp_ne2]
      refine gv_X0_419 dX0_mixWood_41 rfl hho hk3 (by rw [gUp_ne2 (by omega)]; exact hA) (fun j j0 j1 => by rw [r53 (v (v 0 7) i) 0 (by omega), gUp_ne2 (by omega)]; exact tb1 j j0 j1) (fun hk => by rw [gUp_ne2 (by omega), gUp_ne2 (by omega)]; exact tb2 hk) ⟨(Nat.le_of_ble_eq_true rfl), (Nat.le_of_ble_eq_true rfl)⟩ rfl ?_
      rw [r53 (v (v 0 7) i) 0 (by omega), r53 (v (v 0 7) i) 1 (by omega), r53 (v (v 0 7) i) 2 (by omega), r53 (v (v 0 7) i) 3 (by omega), r53 (v (v (v 0 7) i) 0) 0 (by omega), r53 (v (v (v 0 7) i) 0) 1 (by omega), r53 (v (v (v 0 7) i) 0) 2 (by omega), show (if (gHd K (v (v 0 7) i)).1 = 3 then v (v (v (v 0 7) i) 0) 0 + v (v (v (v 0 7) i) 0) 1 + v (v (v (v 0 7) i) 0) 2 else if (gHd K (v (v 0 7) i)).1 ≤ 5 then 100 * v (v (v 0 7) i) 1 + v (v (v 0 7) i) 2 else v (v (v 0 7) i) 3) = aTl v (gHd K) i from rfl]
      refine cl_X0_517 dX0_mixWood_44 rfl rfl ⟨(Nat.le_of_ble_eq_true rfl), (Nat.le_of_ble_eq_true rfl)⟩ rfl ?_
      refine ct_X0_mix ?_
      rw [gH53, gUp_eq2 rfl rfl]
      refine Gx_iinc_1 dX0_mixWood_47 (Nat.le_of_ble_eq_true rfl) (Nat.ne_of_beq_eq_false rfl) ?_
      try simp (disch := omega) only [w32_id]
      refine Gx_goto (tgt := 2) dX0_mixWood_50 (by decide) ?_
      have hx := hIt_s (f := hSort (aAb v (gHd K)) (fun s => aAb v (gHd K) s 3) (aTl v (gHd K))) (h := h) h0
      have hi := fun z2 z3 z4 => ih (i + 1) z2 z3 z4 (by omega) (by omega)
      rw [hx] at hi
      exact hi _ _ _
set_option maxHeartbeats 4000000 in
theorem lp_X0_mixWood2 {n h : Int} {bc bs : Nat} (hn : v 0 12 = n) (hb : 0 ≤ n ∧ n ≤ 2) (cont : ∀ z2 z3 z4 : gV, Gx Γ mX0_mixWood 99 [(2, 0), (0, n), z2, z3, z4] [] (gUp v 0 53 (hIt (hThree (v 7) (v 8) (v 9)) n.toNat h)) (gHd K) t bc bs Q) : ∀ (j : Nat) (i : Int) (z2 z3 z4 : gV), 0 ≤ i → i + j = n → Gx Γ mX0_mixWood 55 [(2, 0), (0, i), z2, z3, z4] [] (gUp v 0 53 (hIt (hThree (v 7) (v 8) (v 9)) i.toNat h)) (gHd K) t bc bs Q := by
  intro j
  induction j with
  | zero =>
    intro i z2 z3 z4 h0 h1
    refine Gx_iload_n (i := 1) dX0_mixWood_55 rfl rfl ?_
    refine Gx_aload_n (i := 0) dX0_mixWood_56 rfl rfl ?_
    refine gf_X0_273_20 dX0_mixWood_57 rfl rfl ?_
    try simp (disch := omega) only [gUp_ne2, gUp_eq2]
    refine Gx_icmp_ge (tgt := 99) dX0_mixWood_60 (by decide) (fun c60 => ?_) (fun c60 => ?_)
    · have e0 : i = n := by omega
      rw [e0]
      exact cont z2 z3 z4
    · exfalso
      omega
  | succ j ih =>
    intro i z2 z3 z4 h0 h1
    refine Gx_iload_n (i := 1) dX0_mixWood_55 rfl rfl ?_
    refine Gx_aload_n (i := 0) dX0_mixWood_56 rfl rfl ?_
    refine gf_X0_273_20 dX0_mixWood_57 rfl rfl ?_
    try simp (disch := omega) only [gUp_ne2, gUp_eq2]
    refine Gx_icmp_ge (tgt := 99) dX0_mixWood_60 (by decide) (fun c60 => ?_) (fun c60 => ?_)
    · exfalso
      omega
    · refine Gx_aload_n (i := 0) dX0_mixWood_63 rfl rfl ?_
      refine Gx_aload_n (i := 0) dX0_mixWood_64 rfl rfl ?_
      refine gf_X0_50_20 dX0_mixWood_65 rfl rfl ?_
      refine Gx_iload_n (i := 1) dX0_mixWood_68 rfl rfl ?_
      refine Gx_iaload dX0_mixWood_69 rfl (by first | omega | (simp (disch := omega) only [w32_id]; omega)) ?_
      try simp (disch := omega) only [gUp_ne2, gUp_eq2]
      refine cl_X0_517 dX0_mixWood_70 rfl rfl ⟨(Nat.le_of_ble_eq_true rfl), (Nat.le_of_ble_eq_true rfl)⟩ rfl ?_
      refine ct_X0_mix ?_
      rw [gH53, gUp_eq2 rfl rfl]
      refine Gx_aload_n (i := 0) dX0_mixWood_73 rfl rfl ?_
      refine Gx_aload_n (i := 0) dX0_mixWood_74 rfl rfl ?_
      refine gf_X0_53_20 dX0_mixWood_75 rfl rfl ?_
      refine Gx_iload_n (i := 1) dX0_mixWood_78 rfl rfl ?_
      refine Gx_iaload dX0_mixWood_79 rfl (by first | omega | (simp (disch := omega) only [w32_id]; omega)) ?_
      try simp (disch := omega) only [gUp_ne2, gUp_eq2]
      refine cl_X0_517 dX0_mixWood_80 rfl rfl ⟨(Nat.le_of_ble_eq_true rfl), (Nat.le_of_ble_eq_true rfl)⟩ rfl ?_
      refine ct_X0_mix ?_
      rw [gH53, gUp_eq2 rfl rfl]
      refine Gx_aload_n (i := 0) dX0_mixWood_83 rfl rfl ?_
      refine Gx_aload_n (i := 0) dX0_mixWood_84 rfl rfl ?_
      refine gf_X0_56_20 dX0_mixWood_85 rfl rfl ?_
      refine Gx_iload_n (i := 1) dX0_mixWood_88 rfl rfl ?_
      refine Gx_iaload dX0_mixWood_89 rfl (by first | omega | (simp (disch := omega) only [w32_id]; omega)) ?_
      try simp (disch := omega) only [gUp_ne2, gUp_eq2]
      refine cl_X0_517 dX0_mixWood_90 rfl rfl ⟨(Nat.le_of_ble_eq_true rfl), (Nat.le_of_ble_eq_true rfl)⟩ rfl ?_
      refine ct_X0_mix ?_
      rw [gH53, gUp_eq2 rfl rfl]
      refine Gx_iinc_1 dX0_mixWood_93 (Nat.le_of_ble_eq_true rfl) (Nat.ne_of_beq_eq_false rfl) ?_
      try simp (disch := omega) only [w32_id]
      refine Gx_goto (tgt := 55) dX0_mixWood_96 (by decide) ?_
      have hx := hIt_s (f := hThree (v 7) (v 8) (v 9)) (h := h) h0
      have hi := fun z2 z3 z4 => ih (i + 1) z2 z3 z4 (by omega) (by omega)
      rw [hx] at hi
      exact hi _ _ _
set_option maxHeartbeats 4000000 in
theorem lp_X0_mixWood3 {n h : Int} {bc bs : Nat} (hn : (gHd K (v 0 8)).2 = n) (hb : 0 ≤ n ∧ n ≤ 8) (hW : aWf v (gHd K)) (cont : ∀ z4 : gV, Gx Γ mX0_mixWood 154 [(2, 0), (2, v 0 8), (0, n), (0, n), z4] [] (gUp v 0 53 (hIt (hOne (v (v 0 8))) n.toNat h)) (gHd K) t bc bs Q) : ∀ (j : Nat) (i : Int) (z4 : gV), 0 ≤ i → i + j = n → Gx Γ mX0_mixWood 132 [(2, 0), (2, v 0 8), (0, n), (0, i), z4] [] (gUp v 0 53 (hIt (hOne (v (v 0 8))) i.toNat h)) (gHd K) t bc bs Q := by
  intro j
  induction j with
  | zero =>
    intro i z4 h0 h1
    refine Gx_iload_n (i := 3) dX0_mixWood_132 rfl rfl ?_
    refine Gx_iload_n (i := 2) dX0_mixWood_133 rfl rfl ?_
    refine Gx_icmp_ge (tgt := 154) dX0_mixWood_134 (by decide) (fun c134 => ?_) (fun c134 => ?_)
    · have e0 : i = n := by omega
      rw [e0]
      exact cont z4
    · exfalso
      omega
  | succ j ih =>
    intro i z4 h0 h1
    have w8 := hW.2.2.1.1
    refine Gx_iload_n (i := 3) dX0_mixWood_132 rfl rfl ?_
    refine Gx_iload_n (i := 2) dX0_mixWood_133 rfl rfl ?_
    refine Gx_icmp_ge (tgt := 154) dX0_mixWood_134 (by decide) (fun c134 => ?_) (fun c134 => ?_)
    · exfalso
      omega
    · refine Gx_aload_n (i := 1) dX0_mixWood_137 rfl rfl ?_
      refine Gx_iload_n (i := 3) dX0_mixWood_138 rfl rfl ?_
      refine Gx_baload dX0_mixWood_139 (pairEq hW.2.2.1.2) (by first | omega | (simp (disch := omega) only [w32_id]; omega)) ?_
      try simp (disch := omega) only [gUp_ne2, gUp_eq2]
      refine Gx_istore_4 dX0_mixWood_140 (Nat.le_of_ble_eq_true rfl) (Nat.ne_of_beq_eq_false rfl) ?_
      refine Gx_aload_n (i := 0) dX0_mixWood_142 rfl rfl ?_
      refine Gx_iload dX0_mixWood_143 rfl ?_
      refine cl_X0_517 dX0_mixWood_145 rfl rfl ⟨(Nat.le_of_ble_eq_true rfl), (Nat.le_of_ble_eq_true rfl)⟩ rfl ?_
      refine ct_X0_mix ?_
      rw [gH53, gUp_eq2 rfl rfl]
      refine Gx_iinc_3 dX0_mixWood_148 (Nat.le_of_ble_eq_true rfl) (Nat.ne_of_beq_eq_false rfl) ?_
      try simp (disch := omega) only [w32_id]
      refine Gx_goto (tgt := 132) dX0_mixWood_151 (by decide) ?_
      have hx := hIt_s (f := hOne (v (v 0 8))) (h := h) h0
      have hi := fun z4 => ih (i + 1) z4 (by omega) (by omega)
      rw [hx] at hi
      exact hi _
set_option maxHeartbeats 4000000 in
theorem lp_X0_mixWood4 {n h : Int} {bc bs : Nat} (hn : v 0 32 = n) (hb : 0 ≤ n ∧ n ≤ 24) (hW : aWf v (gHd K)) (cont : ∀ z2 z3 z4 : gV, Gx Γ mX0_mixWood 193 [(2, 0), (0, n), z2, z3, z4] [] (gUp v 0 53 (hIt (hFour (aTold v)) n.toNat h)) (gHd K) t bc bs Q) : ∀ (j : Nat) (i : Int) (z2 z3 z4 : gV), 0 ≤ i → i + j = n → Gx Γ mX0_mixWood 156 [(2, 0), (0, i), z2, z3, z4] [] (gUp v 0 53 (hIt (hFour (aTold v)) i.toNat h)) (gHd K) t bc bs Q := by
  intro j
  induction j with
  | zero =>
    intro i z2 z3 z4 h0 h1
    refine Gx_iload_n (i := 1) dX0_mixWood_156 rfl rfl ?_
    refine Gx_aload_n (i := 0) dX0_mixWood_157 rfl rfl ?_
    refine gf_X0_276_20 dX0_mixWood_158 rfl rfl ?_
    try simp (disch := omega) only [gUp_ne2, gUp_eq2]
    refine Gx_icmp_ge (tgt := 193) dX0_mixWood_161 (by decide) (fun c161 => ?_) (fun c161 => ?_)
    · have e0 : i = n := by omega
      rw [e0]
      exact cont z2 z3 z4
    · exfalso
      omega
  | succ j ih =>
    intro i z2 z3 z4 h0 h1
    refine Gx_iload_n (i := 1) dX0_mixWood_156 rfl rfl ?_
    refine Gx_aload_n (i := 0) dX0_mixWood_157 rfl rfl ?_
    refine gf_X0_276_20 dX0_mixWood_158 rfl rfl ?_
    try simp (disch := omega) only [gUp_ne2, gUp_eq2]
    refine Gx_icmp_ge (tgt := 193) dX0_mixWood_161 (by decide) (fun c161 => ?_) (fun c161 => ?_)
    · exfalso
      omega
    · refine Gx_iconst ⟨by decide, by decide⟩ dX0_mixWood_164 ?_
      refine Gx_istore_n_2 dX0_mixWood_165 (Nat.le_of_ble_eq_true rfl) (Nat.ne_of_beq_eq_false rfl) ?_
      refine Gx_iload_n (i := 2) dX0_mixWood_166 rfl rfl ?_
      refine Gx_iconst ⟨by decide, by decide⟩ dX0_mixWood_167 ?_
      refine Gx_icmp_gt (tgt := 187) dX0_mixWood_168 (by decide) (fun hz => absurd hz (by decide)) (fun _ => ?_)
      refine Gx_aload_n (i := 0) dX0_mixWood_171 rfl rfl ?_
      refine Gx_aload_n (i := 0) dX0_mixWood_172 rfl rfl ?_
      refine Gx_iload_n (i := 1) dX0_mixWood_173 rfl rfl ?_
      refine Gx_iload_n (i := 2) dX0_mixWood_174 rfl rfl ?_
      refine cl_X0_333 dX0_mixWood_175 rfl rfl ⟨(Nat.le_of_ble_eq_true rfl), (Nat.le_of_ble_eq_true rfl)⟩ rfl ?_
      refine ct_X0_toldOf (m := (gHd K (v 16 i)).2) (by omega) (by rw [gUp_ne2 (by omega)]; exact pairEq (hW.2.2.2.1 i h0 (by omega)).2) ?_
      rw [aTold_53 hW h0 (by omega)]
      refine cl_X0_517 dX0_mixWood_178 rfl rfl ⟨(Nat.le_of_ble_eq_true rfl), (Nat.le_of_ble_eq_true rfl)⟩ rfl ?_
      refine ct_X0_mix ?_
      rw [gH53, gUp_eq2 rfl rfl]
      refine Gx_iinc_2 dX0_mixWood_181 (Nat.le_of_ble_eq_true rfl) (Nat.ne_of_beq_eq_false rfl) ?_
      rw [show w32 (0 + 1) = (1 : Int) from by decide]
      refine Gx_goto (tgt := 166) dX0_mixWood_184 (by decide) ?_
      refine Gx_iload_n (i := 2) dX0_mixWood_166 rfl rfl ?_
      refine Gx_iconst ⟨by decide, by decide⟩ dX0_mixWood_167 ?_
      refine Gx_icmp_gt (tgt := 187) dX0_mixWood_168 (by decide) (fun hz => absurd hz (by decide)) (fun _ => ?_)
      refine Gx_aload_n (i := 0) dX0_mixWood_171 rfl rfl ?_
      refine Gx_aload_n (i := 0) dX0_mixWood_172 rfl rfl ?_
      refine Gx_iload_n (i := 1) dX0_mixWood_173 rfl rfl ?_
      refine Gx_iload_n (i := 2) dX0_mixWood_174 rfl rfl ?_
      refine cl_X0_333 dX0_mixWood_175 rfl rfl ⟨(Nat.le_of_ble_eq_true rfl), (Nat.le_of_ble_eq_true rfl)⟩ rfl ?_
      refine ct_X0_toldOf (m := (gHd K (v 16 i)).2) (by omega) (by rw [gUp_ne2 (by omega)]; exact pairEq (hW.2.2.2.1 i h0 (by omega)).2) ?_
      rw [aTold_53 hW h0 (by omega)]
      refine cl_X0_517 dX0_mixWood_178 rfl rfl ⟨(Nat.le_of_ble_eq_true rfl), (Nat.le_of_ble_eq_true rfl)⟩ rfl ?_
      refine ct_X0_mix ?_
      rw [gH53, gUp_eq2 rfl rfl]
      refine Gx_iinc_2 dX0_mixWood_181 (Nat.le_of_ble_eq_true rfl) (Nat.ne_of_beq_eq_false rfl) ?_
      rw [show w32 (1 + 1) = (2 : Int) from by decide]
      refine Gx_goto (tgt := 166) dX0_mixWood_184 (by decide) ?_
      refine Gx_iload_n (i := 2) dX0_mixWood_166 rfl rfl ?_
      refine Gx_iconst ⟨by decide, by decide⟩ dX0_mixWood_167 ?_
      refine Gx_icmp_gt (tgt := 187) dX0_mixWood_168 (by decide) (fun hz => absurd hz (by decide)) (fun _ => ?_)
      refine Gx_aload_n (i := 0) dX0_mixWood_171 rfl rfl ?_
      refine Gx_aload_n (i := 0) dX0_mixWood_172 rfl rfl ?_
      refine Gx_iload_n (i := 1) dX0_mixWood_173 rfl rfl ?_
      refine Gx_iload_n (i := 2) dX0_mixWood_174 rfl rfl ?_
      refine cl_X0_333 dX0_mixWood_175 rfl rfl ⟨(Nat.le_of_ble_eq_true rfl), (Nat.le_of_ble_eq_true rfl)⟩ rfl ?_
      refine ct_X0_toldOf (m := (gHd K (v 16 i)).2) (by omega) (by rw [gUp_ne2 (by omega)]; exact pairEq (hW.2.2.2.1 i h0 (by omega)).2) ?_
      rw [aTold_53 hW h0 (by omega)]
      refine cl_X0_517 dX0_mixWood_178 rfl rfl ⟨(Nat.le_of_ble_eq_true rfl), (Nat.le_of_ble_eq_true rfl)⟩ rfl ?_
      refine ct_X0_mix ?_
      rw [gH53, gUp_eq2 rfl rfl]
      refine Gx_iinc_2 dX0_mixWood_181 (Nat.le_of_ble_eq_true rfl) (Nat.ne_of_beq_eq_false rfl) ?_
      rw [show w32 (2 + 1) = (3 : Int) from by decide]
      refine Gx_goto (tgt := 166) dX0_mixWood_184 (by decide) ?_
      refine Gx_iload_n (i := 2) dX0_mixWood_166 rfl rfl ?_
      refine Gx_iconst ⟨by decide, by decide⟩ dX0_mixWood_167 ?_
      refine Gx_icmp_gt (tgt := 187) dX0_mixWood_168 (by decide) (fun hz => absurd hz (by decide)) (fun _ => ?_)
      refine Gx_aload_n (i := 0) dX0_mixWood_171 rfl rfl ?_
      refine Gx_aload_n (i := 0) dX0_mixWood_172 rfl rfl ?_
      refine Gx_iload_n (i := 1) dX0_mixWood_173 rfl rfl ?_
      refine Gx_iload_n (i := 2) dX0_mixWood_174 rfl rfl ?_
      refine cl_X0_333 dX0_mixWood_175 rfl rfl ⟨(Nat.le_of_ble_eq_true rfl), (Nat.le_of_ble_eq_true rfl)⟩ rfl ?_
      refine ct_X0_toldOf (m := (gHd K (v 16 i)).2) (by omega) (by rw [gUp_ne2 (by omega)]; exact pairEq (hW.2.2.2.1 i h0 (by omega)).2) ?_
      rw [aTold_53 hW h0 (by omega)]
      refine cl_X0_517 dX0_mixWood_178 rfl rfl ⟨(Nat.le_of_ble_eq_true rfl), (Nat.le_of_ble_eq_true rfl)⟩ rfl ?_
      refine ct_X0_mix ?_
      rw [gH53, gUp_eq2 rfl rfl]
      refine Gx_iinc_2 dX0_mixWood_181 (Nat.le_of_ble_eq_true rfl) (Nat.ne_of_beq_eq_false rfl) ?_
      rw [show w32 (3 + 1) = (4 : Int) from by decide]
      refine Gx_goto (tgt := 166) dX0_mixWood_184 (by decide) ?_
      refine Gx_iload_n (i := 2) dX0_mixWood_166 rfl rfl ?_
      refine Gx_iconst ⟨by decide, by decide⟩ dX0_mixWood_167 ?_
      refine Gx_icmp_gt (tgt := 187) dX0_mixWood_168 (by decide) (fun _ => ?_) (fun hz => absurd hz (by decide))
      refine Gx_iinc_1 dX0_mixWood_187 (Nat.le_of_ble_eq_true rfl) (Nat.ne_of_beq_eq_false rfl) ?_
      try simp (disch := omega) only [w32_id]
      refine Gx_goto (tgt := 156) dX0_mixWood_190 (by decide) ?_
      have hx := hIt_s (f := hFour (aTold v)) (h := h) h0
      have hi := fun z2 z3 z4 => ih (i + 1) z2 z3 z4 (by omega) (by omega)
      rw [hx] at hi
      exact hi _ _ _
set_option maxHeartbeats 4000000 in
theorem ct_X0_mixWood  (hW : aWf v (gHd K)) (hT : aTb v (gHd K)) (h22 : 0 ≤ v 0 12 ∧ v 0 12 ≤ 2) (h28 : 0 ≤ (gHd K (v 0 8)).2 ∧ (gHd K (v 0 8)).2 ≤ 8) (h33 : 0 ≤ v 0 32 ∧ v 0 32 ≤ 24) (k : Q (9, 0) (gUp v 0 53 (aWood v (gHd K) (v 0 53))) (gHd K) t) : Ctr Γ mX0_mixWood [(2, 0)] v (gHd K) t Q := by
  refine Ctr.ofG (ls := [(2, 0), (9, 0), (9, 0), (9, 0), (9, 0)]) rfl rfl rfl rfl rfl ?_
  refine Gx_iconst ⟨by decide, by decide⟩ dX0_mixWood_0 ?_
  refine Gx_istore_n_1 dX0_mixWood_1 (Nat.le_of_ble_eq_true rfl) (Nat.ne_of_beq_eq_false rfl) ?_
  have ev : v = gUp v 0 53 (v 0 53) := by
    funext a j
    unfold gUp
    by_cases h1 : a = 0 <;> by_cases h2 : j = 53 <;> simp [h1, h2]
  rw [ev]
  have h7 := hW.1.2.2
  refine lp_X0_mixWood1 (h := v 0 53) rfl h7 hW hT (fun z2 z3 z4 => ?_) (gHd K (v 0 7)).2.toNat 0 _ _ _ (by omega) (by omega)
  refine Gx_iconst ⟨by decide, by decide⟩ dX0_mixWood_53 ?_
  refine Gx_istore_n_1 dX0_mixWood_54 (Nat.le_of_ble_eq_true rfl) (Nat.ne_of_beq_eq_false rfl) ?_
  refine lp_X0_mixWood2 rfl h22 (fun z2 z3 z4 => ?_) (v 0 12).toNat 0 _ _ _ (by omega) (by omega)
  refine Gx_iconst ⟨by decide, by decide⟩ dX0_mixWood_99 ?_
  refine Gx_istore_n_1 dX0_mixWood_100 (Nat.le_of_ble_eq_true rfl) (Nat.ne_of_beq_eq_false rfl) ?_
  refine Gx_iload_n (i := 1) dX0_mixWood_101 rfl rfl ?_
  refine Gx_bipush dX0_mixWood_102 ⟨by decide, by decide⟩ ?_
  refine Gx_icmp_gt (tgt := 122) dX0_mixWood_104 (by decide) (fun hz => absurd hz (by decide)) (fun _ => ?_)
  refine Gx_aload_n (i := 0) dX0_mixWood_107 rfl rfl ?_
  refine Gx_aload_n (i := 0) dX0_mixWood_108 rfl rfl ?_
  refine Gx_iload_n (i := 1) dX0_mixWood_109 rfl rfl ?_
  refine cl_X0_342 dX0_mixWood_110 rfl rfl ⟨(Nat.le_of_ble_eq_true rfl), (Nat.le_of_ble_eq_true rfl)⟩ rfl ?_
  refine ct_X0_nowOf (cl := (gHd K (v 0 8)).2) h22 (pairEq hW.2.2.1.2) (by omega) ?_
  rw [show aNow (gUp v 0 53 _) (gHd K (v 0 8)).2 _ = aNow v (gHd K (v 0 8)).2 _ from rfl]
  refine cl_X0_517 dX0_mixWood_113 rfl rfl ⟨(Nat.le_of_ble_eq_true rfl), (Nat.le_of_ble_eq_true rfl)⟩ rfl ?_
  refine ct_X0_mix ?_
  rw [gH53, gUp_eq2 rfl rfl]
  refine Gx_iinc_1 dX0_mixWood_116 (Nat.le_of_ble_eq_true rfl) (Nat.ne_of_beq_eq_false rfl) ?_
  rw [show w32 (0 + 1) = (1 : Int) from by decide]
  refine Gx_goto (tgt := 101) dX0_mixWood_119 (by decide) ?_
  refine Gx_iload_n (i := 1) dX0_mixWood_101 rfl rfl ?_
  refine Gx_bipush dX0_mixWood_102 ⟨by decide, by decide⟩ ?_
  refine Gx_icmp_gt (tgt := 122) dX0_mixWood_104 (by decide) (fun hz => absurd hz (by decide)) (fun _ => ?_)
  refine Gx_aload_n (i := 0) dX0_mixWood_107 rfl rfl ?_
  refine Gx_aload_n (i := 0) dX0_mixWood_108 rfl rfl ?_
  refine Gx_iload_n (i := 1) dX0_mixWood_109 rfl rfl ?_
  refine cl_X0_342 dX0_mixWood_110 rfl rfl ⟨(Nat.le_of_ble_eq_true rfl), (Nat.le_of_ble_eq_true rfl)⟩ rfl ?_
  refine ct_X0_nowOf (cl := (gHd K (v 0 8)).2) h22 (pairEq hW.2.2.1.2) (by omega) ?_
  rw [show aNow (gUp v 0 53 _) (gHd K (v 0 8)).2 _ = aNow v (gHd K (v 0 8)).2 _ from rfl]
  refine cl_X0_517 dX0_mixWood_113 rfl rfl ⟨(Nat.le_of_ble_eq_true rfl), (Nat.le_of_ble_eq_true rfl)⟩ rfl ?_
  refine ct_X0_mix ?_
  rw [gH53, gUp_eq2 rfl rfl]
  refine Gx_iinc_1 dX0_mixWood_116 (Nat.le_of_ble_eq_true rfl) (Nat.ne_of_beq_eq_false rfl) ?_
  rw [show w32 (1 + 1) = (2 : Int) from by decide]
  refine Gx_goto (tgt := 101) dX0_mixWood_119 (by decide) ?_
  refine Gx_iload_n (i := 1) dX0_mixWood_101 rfl rfl ?_
  refine Gx_bipush dX0_mixWood_102 ⟨by decide, by decide⟩ ?_
  refine Gx_icmp_gt (tgt := 122) dX0_mixWood_104 (by decide) (fun hz => absurd hz (by decide)) (fun _ => ?_)
  refine Gx_aload_n (i := 0) dX0_mixWood_107 rfl rfl ?_
  refine Gx_aload_n (i := 0) dX0_mixWood_108 rfl rfl ?_
  refine Gx_iload_n (i := 1) dX0_mixWood_109 rfl rfl ?_
  refine cl_X0_342 dX0_mixWood_110 rfl rfl ⟨(Nat.le_of_ble_eq_true rfl), (Nat.le_of_ble_eq_true rfl)⟩ rfl ?_
  refine ct_X0_nowOf (cl := (gHd K (v 0 8)).2) h22 (pairEq hW.2.2.1.2) (by omega) ?_
  rw [show aNow (gUp v 0 53 _) (gHd K (v 0 8)).2 _ = aNow v (gHd K (v 0 8)).2 _ from rfl]
  refine cl_X0_517 dX0_mixWood_113 rfl rfl ⟨(Nat.le_of_ble_eq_true rfl), (Nat.le_of_ble_eq_true rfl)⟩ rfl ?_
  refine ct_X0_mix ?_
  rw [gH53, gUp_eq2 rfl rfl]
  refine Gx_iinc_1 dX0_mixWood_116 (Nat.le_of_ble_eq_true rfl) (Nat.ne_of_beq_eq_false rfl) ?_
  rw [show w32 (2 + 1) = (3 : Int) from by decide]
  refine Gx_goto (tgt := 101) dX0_mixWood_119 (by decide) ?_
  refine Gx_iload_n (i := 1) dX0_mixWood_101 rfl rfl ?_
  refine Gx_bipush dX0_mixWood_102 ⟨by decide, by decide⟩ ?_
  refine Gx_icmp_gt (tgt := 122) dX0_mixWood_104 (by decide) (fun hz => absurd hz (by decide)) (fun _ => ?_)
  refine Gx_aload_n (i := 0) dX0_mixWood_107 rfl rfl ?_
  refine Gx_aload_n (i := 0) dX0_mixWood_108 rfl rfl ?_
  refine Gx_iload_n (i := 1) dX0_mixWood_109 rfl rfl ?_
  refine cl_X0_342 dX0_mixWood_110 rfl rfl ⟨(Nat.le_of_ble_eq_true rfl), (Nat.le_of_ble_eq_true rfl)⟩ rfl ?_
  refine ct_X0_nowOf (cl := (gHd K (v 0 8)).2) h22 (pairEq hW.2.2.1.2) (by omega) ?_
  rw [show aNow (gUp v 0 53 _) (gHd K (v 0 8)).2 _ = aNow v (gHd K (v 0 8)).2 _ from rfl]
  refine cl_X0_517 dX0_mixWood_113 rfl rfl ⟨(Nat.le_of_ble_eq_true rfl), (Nat.le_of_ble_eq_true rfl)⟩ rfl ?_
  refine ct_X0_mix ?_
  rw [gH53, gUp_eq2 rfl rfl]
  refine Gx_iinc_1 dX0_mixWood_116 (Nat.le_of_ble_eq_true rfl) (Nat.ne_of_beq_eq_false rfl) ?_
  rw [show w32 (3 + 1) = (4 : Int) from by decide]
  refine Gx_goto (tgt := 101) dX0_mixWood_119 (by decide) ?_
  refine Gx_iload_n (i := 1) dX0_mixWood_101 rfl rfl ?_
  refine Gx_bipush dX0_mixWood_102 ⟨by decide, by decide⟩ ?_
  refine Gx_icmp_gt (tgt := 122) dX0_mixWood_104 (by decide) (fun hz => absurd hz (by decide)) (fun _ => ?_)
  refine Gx_aload_n (i := 0) dX0_mixWood_107 rfl rfl ?_
  refine Gx_aload_n (i := 0) dX0_mixWood_108 rfl rfl ?_
  refine Gx_iload_n (i := 1) dX0_mixWood_109 rfl rfl ?_
  refine cl_X0_342 dX0_mixWood_110 rfl rfl ⟨(Nat.le_of_ble_eq_true rfl), (Nat.le_of_ble_eq_true rfl)⟩ rfl ?_
  refine ct_X0_nowOf (cl := (gHd K (v 0 8)).2) h22 (pairEq hW.2.2.1.2) (by omega) ?_
  rw [show aNow (gUp v 0 53 _) (gHd K (v 0 8)).2 _ = aNow v (gHd K (v 0 8)).2 _ from rfl]
  refine cl_X0_517 dX0_mixWood_113 rfl rfl ⟨(Nat.le_of_ble_eq_true rfl), (Nat.le_of_ble_eq_true rfl)⟩ rfl ?_
  refine ct_X0_mix ?_
  rw [gH53, gUp_eq2 rfl rfl]
  refine Gx_iinc_1 dX0_mixWood_116 (Nat.le_of_ble_eq_true rfl) (Nat.ne_of_beq_eq_false rfl) ?_
  rw [show w32 (4 + 1) = (5 : Int) from by decide]
  refine Gx_goto (tgt := 101) dX0_mixWood_119 (by decide) ?_
  refine Gx_iload_n (i := 1) dX0_mixWood_101 rfl rfl ?_
  refine Gx_bipush dX0_mixWood_102 ⟨by decide, by decide⟩ ?_
  refine Gx_icmp_gt (tgt := 122) dX0_mixWood_104 (by decide) (fun hz => absurd hz (by decide)) (fun _ => ?_)
  refine Gx_aload_n (i := 0) dX0_mixWood_107 rfl rfl ?_
  refine Gx_aload_n (i := 0) dX0_mixWood_108 rfl rfl ?_
  refine Gx_iload_n (i := 1) dX0_mixWood_109 rfl rfl ?_
  refine cl_X0_342 dX0_mixWood_110 rfl rfl ⟨(Nat.le_of_ble_eq_true rfl), (Nat.le_of_ble_eq_true rfl)⟩ rfl ?_
  refine ct_X0_nowOf (cl := (gHd K (v 0 8)).2) h22 (pairEq hW.2.2.1.2) (by omega) ?_
  rw [show aNow (gUp v 0 53 _) (gHd K (v 0 8)).2 _ = aNow v (gHd K (v 0 8)).2 _ from rfl]
  refine cl_X0_517 dX0_mixWood_113 rfl rfl ⟨(Nat.le_of_ble_eq_true rfl), (Nat.le_of_ble_eq_true rfl)⟩ rfl ?_
  refine ct_X0_mix ?_
  rw [gH53, gUp_eq2 rfl rfl]
  refine Gx_iinc_1 dX0_mixWood_116 (Nat.le_of_ble_eq_true rfl) (Nat.ne_of_beq_eq_false rfl) ?_
  rw [show w32 (5 + 1) = (6 : Int) from by decide]
  refine Gx_goto (tgt := 101) dX0_mixWood_119 (by decide) ?_
  refine Gx_iload_n (i := 1) dX0_mixWood_101 rfl rfl ?_
  refine Gx_bipush dX0_mixWood_102 ⟨by decide, by decide⟩ ?_
  refine Gx_icmp_gt (tgt := 122) dX0_mixWood_104 (by decide) (fun hz => absurd hz (by decide)) (fun _ => ?_)
  refine Gx_aload_n (i := 0) dX0_mixWood_107 rfl rfl ?_
  refine Gx_aload_n (i := 0) dX0_mixWood_108 rfl rfl ?_
  refine Gx_iload_n (i := 1) dX0_mixWood_109 rfl rfl ?_
  refine cl_X0_342 dX0_mixWood_110 rfl rfl ⟨(Nat.le_of_ble_eq_true rfl), (Nat.le_of_ble_eq_true rfl)⟩ rfl ?_
  refine ct_X0_nowOf (cl := (gHd K (v 0 8)).2) h22 (pairEq hW.2.2.1.2) (by omega) ?_
  rw [show aNow (gUp v 0 53 _) (gHd K (v 0 8)).2 _ = aNow v (gHd K (v 0 8)).2 _ from rfl]
  refine cl_X0_517 dX0_mixWood_113 rfl rfl ⟨(Nat.le_of_ble_eq_true rfl), (Nat.le_of_ble_eq_true rfl)⟩ rfl ?_
  refine ct_X0_mix ?_
  rw [gH53, gUp_eq2 rfl rfl]
  refine Gx_iinc_1 dX0_mixWood_116 (Nat.le_of_ble_eq_true rfl) (Nat.ne_of_beq_eq_false rfl) ?_
  rw [show w32 (6 + 1) = (7 : Int) from by decide]
  refine Gx_goto (tgt := 101) dX0_mixWood_119 (by decide) ?_
  refine Gx_iload_n (i := 1) dX0_mixWood_101 rfl rfl ?_
  refine Gx_bipush dX0_mixWood_102 ⟨by decide, by decide⟩ ?_
  refine Gx_icmp_gt (tgt := 122) dX0_mixWood_104 (by decide) (fun hz => absurd hz (by decide)) (fun _ => ?_)
  refine Gx_aload_n (i := 0) dX0_mixWood_107 rfl rfl ?_
  refine Gx_aload_n (i := 0) dX0_mixWood_108 rfl rfl ?_
  refine Gx_iload_n (i := 1) dX0_mixWood_109 rfl rfl ?_
  refine cl_X0_342 dX0_mixWood_110 rfl rfl ⟨(Nat.le_of_ble_eq_true rfl), (Nat.le_of_ble_eq_true rfl)⟩ rfl ?_
  refine ct_X0_nowOf (cl := (gHd K (v 0 8)).2) h22 (pairEq hW.2.2.1.2) (by omega) ?_
  rw [show aNow (gUp v 0 53 _) (gHd K (v 0 8)).2 _ = aNow v (gHd K (v 0 8)).2 _ from rfl]
  refine cl_X0_517 dX0_mixWood_113 rfl rfl ⟨(Nat.le_of_ble_eq_true rfl), (Nat.le_of_ble_eq_true rfl)⟩ rfl ?_
  refine ct_X0_mix ?_
  rw [gH53, gUp_eq2 rfl rfl]
  refine Gx_iinc_1 dX0_mixWood_116 (Nat.le_of_ble_eq_true rfl) (Nat.ne_of_beq_eq_false rfl) ?_
  rw [show w32 (7 + 1) = (8 : Int) from by decide]
  refine Gx_goto (tgt := 101) dX0_mixWood_119 (by decide) ?_
  refine Gx_iload_n (i := 1) dX0_mixWood_101 rfl rfl ?_
  refine Gx_bipush dX0_mixWood_102 ⟨by decide, by decide⟩ ?_
  refine Gx_icmp_gt (tgt := 122) dX0_mixWood_104 (by decide) (fun hz => absurd hz (by decide)) (fun _ => ?_)
  refine Gx_aload_n (i := 0) dX0_mixWood_107 rfl rfl ?_
  refine Gx_aload_n (i := 0) dX0_mixWood_108 rfl rfl ?_
  refine Gx_iload_n (i := 1) dX0_mixWood_109 rfl rfl ?_
  refine cl_X0_342 dX0_mixWood_110 rfl rfl ⟨(Nat.le_of_ble_eq_true rfl), (Nat.le_of_ble_eq_true rfl)⟩ rfl ?_
  refine ct_X0_nowOf (cl := (gHd K (v 0 8)).2) h22 (pairEq hW.2.2.1.2) (by omega) ?_
  rw [show aNow (gUp v 0 53 _) (gHd K (v 0 8)).2 _ = aNow v (gHd K (v 0 8)).2 _ from rfl]
  refine cl_X0_517 dX0_mixWood_113 rfl rfl ⟨(Nat.le_of_ble_eq_true rfl), (Nat.le_of_ble_eq_true rfl)⟩ rfl ?_
  refine ct_X0_mix ?_
  rw [gH53, gUp_eq2 rfl rfl]
  refine Gx_iinc_1 dX0_mixWood_116 (Nat.le_of_ble_eq_true rfl) (Nat.ne_of_beq_eq_false rfl) ?_
  rw [show w32 (8 + 1) = (9 : Int) from by decide]
  refine Gx_goto (tgt := 101) dX0_mixWood_119 (by decide) ?_
  refine Gx_iload_n (i := 1) dX0_mixWood_101 rfl rfl ?_
  refine Gx_bipush dX0_mixWood_102 ⟨by decide, by decide⟩ ?_
  refine Gx_icmp_gt (tgt := 122) dX0_mixWood_104 (by decide) (fun _ => ?_) (fun hz => absurd hz (by decide))
  refine Gx_aload_n (i := 0) dX0_mixWood_122 rfl rfl ?_
  refine gf_X0_126_20 dX0_mixWood_123 rfl rfl ?_
  try simp (disch := omega) only [gUp_ne2]
  refine Gx_astore_n_1 dX0_mixWood_126 (Nat.le_of_ble_eq_true rfl) (Nat.ne_of_beq_eq_false rfl) ?_
  refine Gx_aload_n (i := 1) dX0_mixWood_127 rfl rfl ?_
  refine Gx_alen dX0_mixWood_128 (pairEq hW.2.2.1.2) (by decide) (by decide) ?_
  refine Gx_istore_n_2 dX0_mixWood_129 (Nat.le_of_ble_eq_true rfl) (Nat.ne_of_beq_eq_false rfl) ?_
  refine Gx_iconst ⟨by decide, by decide⟩ dX0_mixWood_130 ?_
  refine Gx_istore_n_3 dX0_mixWood_131 (Nat.le_of_ble_eq_true rfl) (Nat.ne_of_beq_eq_false rfl) ?_
  refine lp_X0_mixWood3 rfl h28 hW (fun z4 => ?_) (gHd K (v 0 8)).2.toNat 0 _ (by omega) (by omega)
  refine Gx_iconst ⟨by decide, by decide⟩ dX0_mixWood_154 ?_
  refine Gx_istore_n_1 dX0_mixWood_155 (Nat.le_of_ble_eq_true rfl) (Nat.ne_of_beq_eq_false rfl) ?_
  refine lp_X0_mixWood4 rfl h33 hW (fun z2 z3 z4 => ?_) (v 0 32).toNat 0 _ _ _ (by omega) (by omega)
  refine Gx_return dX0_mixWood_193 rfl ?_
  exact k
end
