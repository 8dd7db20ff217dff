/-! AcornYearsModel: what a ring tells -/
section
variable {Γ : gC} {v : gM} {K : gH} {t : Nat} {Q : gQ}
/-- a ring short enough from a wood, and none -/
abbrev oHas (u : gM) (m l : Nat) : Prop := gRg (yRr u) m l ∧ m + l ≤ 2000
abbrev oNo (u : gM) : Prop := ∀ m l : Nat, gRg (yRr u) m l → ¬ m + l ≤ 2000
theorem oHas_u {u : gM} (hu : yOK u) {m l m' l' : Nat} (h : oHas u m l) (h' : oHas u m' l') : m = m' ∧ l = l' := gRg_uniq (yRr_eqv hu) h.1 h'.1
theorem oScr_ok {v v1 : gM} (h : oScr v v1) (hok : yOK v) : yOK v1 := yOK_of (by rw [oScr_m h]; exact yOK_N hok)
theorem oSm_of {v v1 u : gM} {tr ea : Int} {n : Nat} (h : oSm v u tr ea n) (hF : ∀ k, 48 ≤ k → k ≤ 56 → v1 38 k = v 38 k) : oSm v1 u tr ea n := by
  unfold oSm
  rw [hF 48 (by omega) (by omega), hF 49 (by omega) (by omega), hF 50 (by omega) (by omega), hF 51 (by omega) (by omega), hF 52 (by omega) (by omega), hF 53 (by omega) (by omega), hF 54 (by omega) (by omega), hF 55 (by omega) (by omega), hF 56 (by omega) (by omega)]
  exact h

set_option maxHeartbeats 2000000 in
theorem ct_X2_laySums {tr ea : Int} (hok : yOK v) (hy : v 38 31 ≤ 9999) (htr : tr < v 38 33) (hea : ea < v 38 22) (k1 : ∀ (v1 : gM) (m l : Nat), oHas (mN v) m l → oScr v v1 → v1 38 47 = l → oSm v1 (yIt (mN v) m) tr ea l → Q (0, 1) v1 (gHd K) t) (k0 : oNo (mN v) → ∀ v1, oScr v v1 → Q (0, 0) v1 (gHd K) t) : Ctr Γ mX2_laySums [(2, 38), (0, tr), (0, ea)] v (gHd K) t Q := by
  refine Ctr.ofG (ls := [(2, 38), (0, tr), (0, ea), (9, 0)]) rfl rfl rfl rfl rfl ?_
  refine Gx_aload_n (i := 0) dX2_laySums_0 rfl rfl ?_
  refine cl_X2_305 dX2_laySums_1 rfl rfl ⟨(Nat.le_of_ble_eq_true rfl), (Nat.le_of_ble_eq_true rfl)⟩ rfl ?_
  refine ct_X2_layRing hok hy (fun v1 m l hrg hml hT1 hm1 h46 h47 => ?_) (fun hno v1 hS1 => ?_)
  · refine Gx_if_ne (tgt := 9) dX2_laySums_4 (by decide) (fun _ => ?_) (fun hz => absurd hz (by decide))
    refine Gx_aload_n (i := 0) dX2_laySums_9 rfl rfl ?_
    refine Gx_lconst0 dX2_laySums_10 ?_
    refine pf_X2_309_22 dX2_laySums_11 rfl rfl ?_
    refine Gx_aload_n (i := 0) dX2_laySums_14 rfl rfl ?_
    refine Gx_iconst ⟨by decide, by decide⟩ dX2_laySums_15 ?_
    refine pf_X2_312_22 dX2_laySums_16 rfl rfl ?_
    refine Gx_aload_n (i := 0) dX2_laySums_19 rfl rfl ?_
    refine Gx_lconst0 dX2_laySums_20 ?_
    refine pf_X2_315_22 dX2_laySums_21 rfl rfl ?_
    refine Gx_aload_n (i := 0) dX2_laySums_24 rfl rfl ?_
    refine Gx_lconst0 dX2_laySums_25 ?_
    refine pf_X2_318_22 dX2_laySums_26 rfl rfl ?_
    refine Gx_aload_n (i := 0) dX2_laySums_29 rfl rfl ?_
    refine Gx_lconst0 dX2_laySums_30 ?_
    refine pf_X2_321_22 dX2_laySums_31 rfl rfl ?_
    refine Gx_aload_n (i := 0) dX2_laySums_34 rfl rfl ?_
    refine Gx_lconst0 dX2_laySums_35 ?_
    refine pf_X2_324_22 dX2_laySums_36 rfl rfl ?_
    refine Gx_aload_n (i := 0) dX2_laySums_39 rfl rfl ?_
    refine Gx_lconst0 dX2_laySums_40 ?_
    refine pf_X2_327_22 dX2_laySums_41 rfl rfl ?_
    refine Gx_aload_n (i := 0) dX2_laySums_44 rfl rfl ?_
    refine Gx_lconst0 dX2_laySums_45 ?_
    refine pf_X2_330_22 dX2_laySums_46 rfl rfl ?_
    refine Gx_aload_n (i := 0) dX2_laySums_49 rfl rfl ?_
    refine Gx_iconst ⟨by decide, by decide⟩ dX2_laySums_50 ?_
    refine pf_X2_333_22 dX2_laySums_51 rfl rfl ?_
    refine Gx_iconst ⟨by decide, by decide⟩ dX2_laySums_54 ?_
    refine Gx_istore_n_3 dX2_laySums_55 (Nat.le_of_ble_eq_true rfl) (Nat.ne_of_beq_eq_false rfl) ?_
    refine Gx_name (fun vN eN => ?_)
    have hNF : ∀ a k, ¬ (a = 38 ∧ 48 ≤ k ∧ k ≤ 56) → vN a k = v1 a k := by
      intro a k hk
      rw [eN]
      simp (disch := omega) only [gUp_ne2]
    have z33 := (yIt_o (u := mN v) (a := 38) (j := 33) (by omega) m).1
    have z22 := (yIt_o (u := mN v) (a := 38) (j := 22) (by omega) m).1
    have z31 := yIt_y (u := mN v) m
    rw [mN_c (by omega)] at z33 z22 z31
    refine lp_X2_sums (l := l) (u := yIt (mN v) m) (v0 := v) hok (yOK_it (yOK_N hok) m) (by omega) (by omega) z33 z22 htr hea (fun v2 hT2 h472 hS2 => ?_) l 0 vN (by omega) (by omega) (oTrip_of hT1 (fun k => hNF 64 k (by omega)) (fun a k hk => hNF a k (by omega))) ?_ ?_ ?_
    rotate_left
    · rw [mN_congr (fun a k hR => hNF a k (by unfold yR at hR; omega)), hm1]
      rfl
    · rw [hNF 38 47 (by omega), h47]
    · rw [eN]
      refine ⟨?_, ?_, ?_, ?_, ?_, ?_, ?_, ?_, ?_⟩
      all_goals simp (disch := omega) only [gUp_ne2, gUp_eq2]
      all_goals rfl
    refine Gx_aload_n (i := 0) dX2_laySums_266 rfl rfl ?_
    refine cl_X2_296 dX2_laySums_267 rfl rfl ⟨(Nat.le_of_ble_eq_true rfl), (Nat.le_of_ble_eq_true rfl)⟩ rfl ?_
    refine ct_X2_back (oTrip_cs hok hT2).2.2.2.1 (fun v3 hb => ?_)
    refine Gx_iconst ⟨by decide, by decide⟩ dX2_laySums_270 ?_
    refine Gx_ireturn dX2_laySums_271 (Or.inr rfl) ?_
    exact k1 v3 m l ⟨hrg, hml⟩ (oTrip_back hT2 hb).1 (by rw [hb.1 38 47 (by omega), h472]) (oSm_of hS2 (fun k k0 k1 => hb.1 38 k (by omega)))
  · refine Gx_if_ne (tgt := 9) dX2_laySums_4 (by decide) (fun hz => absurd hz (by decide)) (fun _ => ?_)
    refine Gx_iconst ⟨by decide, by decide⟩ dX2_laySums_7 ?_
    refine Gx_ireturn dX2_laySums_8 (Or.inl rfl) ?_
    exact k0 hno v1 hS1
def yM1 (most : Int) (u : gM) : Int := if 0 < yA1 u ∧ most ≤ 2 * yA1 u then 1 else 0
theorem yM1_le {u : gM} {x : Int} : 0 ≤ yM1 x u ∧ yM1 x u ≤ 1 := by
  unfold yM1
  split <;> omega

set_option maxHeartbeats 2000000 in
theorem lp_X2_masts {ms : Int} {l : Nat} {bc bs : Nat} {v0 u : gM} (hok : yOK v0) (hu : yOK u) (hl : l ≤ 2000) (hy : u 38 31 ≤ 12000) (cont : ∀ v1, oTrip v0 v1 → Gx Γ mX2_masts 77 [(2, 38), (0, ms), (0, yTot (yM1 ms) u l), (0, (l : Int))] [] v1 (gHd K) t bc bs Q) : ∀ (j : Nat) (x : Int) (v : gM), 0 ≤ x → x + j = l → oTrip v0 v → mN v = yIt u x.toNat → v 38 47 = l → Gx Γ mX2_masts 28 [(2, 38), (0, ms), (0, yTot (yM1 ms) u x.toNat), (0, x)] [] v (gHd K) t bc bs Q := by
  intro j
  induction j with
  | zero =>
    intro x v h0 h1 hT hm h47
    have hoN := yOK_it hu x.toNat
    have hov : yOK v := yOK_m hu hm
    have hyy := yYr_m hm
    have cs := oTrip_cs hok hT
    have q22 := oTrip_22 hT
    have bM := yTot_le (F := yM1 ms) (u := u) (B := 1) (fun k => yM1_le) x.toNat
    have a1 := yA1_le hoN
    refine Gx_iload_n (i := 3) dX2_masts_28 rfl rfl ?_
    refine Gx_aload_n (i := 0) dX2_masts_29 rfl rfl ?_
    refine gf_X2_302_22 dX2_masts_30 rfl rfl ?_
    rw [h47]
    refine Gx_icmp_ge (tgt := 77) dX2_masts_33 (by decide) (fun c33 => ?_) (fun c33 => ?_)
    · have e0 : x = l := by omega
      rw [show x.toNat = l by omega, e0]
      exact cont v hT
    · exfalso
      omega
  | succ j ih =>
    intro x v h0 h1 hT hm h47
    have hoN := yOK_it hu x.toNat
    have hov : yOK v := yOK_m hu hm
    have hyy := yYr_m hm
    have cs := oTrip_cs hok hT
    have q22 := oTrip_22 hT
    have bM := yTot_le (F := yM1 ms) (u := u) (B := 1) (fun k => yM1_le) x.toNat
    have a1 := yA1_le hoN
    refine Gx_iload_n (i := 3) dX2_masts_28 rfl rfl ?_
    refine Gx_aload_n (i := 0) dX2_masts_29 rfl rfl ?_
    refine gf_X2_302_22 dX2_masts_30 rfl rfl ?_
    rw [h47]
    refine Gx_icmp_ge (tgt := 77) dX2_masts_33 (by decide) (fun c33 => ?_) (fun c33 => ?_)
    · exfalso
      omega
    · refine Gx_aload_n (i := 0) dX2_masts_36 rfl rfl ?_
      refine Gx_aload_n (i := 0) dX2_masts_37 rfl rfl ?_
      refine cl_X2_273 dX2_masts_38 rfl rfl ⟨(Nat.le_of_ble_eq_true rfl), (Nat.le_of_ble_eq_true rfl)⟩ rfl ?_
      refine ct_X2_mayY hov ?_
      refine Gx_iconst ⟨by decide, by decide⟩ dX2_masts_41 ?_
      refine Gx_iconst ⟨by decide, by decide⟩ dX2_masts_42 ?_
      refine cl_X2_269 dX2_masts_43 rfl rfl ⟨(Nat.le_of_ble_eq_true rfl), (Nat.le_of_ble_eq_true rfl)⟩ rfl ?_
      refine ct_X2_passY (yMay_le (yOK_N hov)) hov (by omega) (fun v3 h3 => ?_)
      have hT3 := oTrip_yr hT (by omega) h3
      have hm3 : mN v3 = yIt u (x + 1).toNat := by
        rw [h3.1, hm, show (x + 1).toNat = x.toNat + 1 by omega]
        rfl
      have d38 : v3 38 38 = yA1 (yIt u x.toNat) := by rw [h3.2.1, hm]; rfl
      have h473 : v3 38 47 = l := by rw [h3.2.2.2.2.2.2.2.2 38 47 (by omega)]; exact h47
      refine Gx_iload_n (i := 2) dX2_masts_46 rfl rfl ?_
      refine Gx_aload_n (i := 0) dX2_masts_47 rfl rfl ?_
      refine gf_X2_251_22 dX2_masts_48 rfl rfl ?_
      rw [d38]
      refine Gx_if_le (tgt := 68) dX2_masts_51 (by decide) (fun c51 => ?_) (fun c51 => ?_)
      · refine Gx_iconst ⟨by decide, by decide⟩ dX2_masts_68 ?_
        refine Gx_iadd dX2_masts_69 ?_
        try simp (disch := omega) only [w32_id]
        refine Gx_istore_n_2 dX2_masts_70 (Nat.le_of_ble_eq_true rfl) (Nat.ne_of_beq_eq_false rfl) ?_
        refine Gx_iinc_3 dX2_masts_71 (Nat.le_of_ble_eq_true rfl) (Nat.ne_of_beq_eq_false rfl) ?_
        try simp (disch := omega) only [w32_id]
        refine Gx_goto (tgt := 28) dX2_masts_74 (by decide) ?_
        have hi := ih (x + 1) v3 (by omega) (by omega) hT3 hm3 h473
        rw [show (x + 1).toNat = x.toNat + 1 by omega] at hi
        have e1 : yTot (yM1 ms) u (x.toNat + 1) = yTot (yM1 ms) u x.toNat + yM1 ms (yIt u x.toNat) := rfl
        first
        | (have e2 : yM1 ms (yIt u x.toNat) = 1 := if_pos (by omega)
           rw [e1, e2] at hi
           exact hi)
        | (have e2 : yM1 ms (yIt u x.toNat) = 0 := if_neg (by omega)
           rw [e1, e2] at hi
           exact hi)
      · refine Gx_iconst ⟨by decide, by decide⟩ dX2_masts_54 ?_
        refine Gx_aload_n (i := 0) dX2_masts_55 rfl rfl ?_
        refine gf_X2_251_22 dX2_masts_56 rfl rfl ?_
        rw [d38]
        refine Gx_imul dX2_masts_59 ?_
        try simp (disch := omega) only [w32_id]
        refine Gx_iload_n (i := 1) dX2_masts_60 rfl rfl ?_
        refine Gx_icmp_lt (tgt := 68) dX2_masts_61 (by decide) (fun c61 => ?_) (fun c61 => ?_)
        · refine Gx_iconst ⟨by decide, by decide⟩ dX2_masts_68 ?_
          refine Gx_iadd dX2_masts_69 ?_
          try simp (disch := omega) only [w32_id]
          refine Gx_istore_n_2 dX2_masts_70 (Nat.le_of_ble_eq_true rfl) (Nat.ne_of_beq_eq_false rfl) ?_
          refine Gx_iinc_3 dX2_masts_71 (Nat.le_of_ble_eq_true rfl) (Nat.ne_of_beq_eq_false rfl) ?_
          try simp (disch := omega) only [w32_id]
          refine Gx_goto (tgt := 28) dX2_masts_74 (by decide) ?_
          have hi := ih (x + 1) v3 (by omega) (by omega) hT3 hm3 h473
          rw [show (x + 1).toNat = x.toNat + 1 by omega] at hi
          have e1 : yTot (yM1 ms) u (x.toNat + 1) = yTot (yM1 ms) u x.toNat + yM1 ms (yIt u x.toNat) := rfl
          first
          | (have e2 : yM1 ms (yIt u x.toNat) = 1 := if_pos (by omega)
             rw [e1, e2] at hi
             exact hi)
          | (have e2 : yM1 ms (yIt u x.toNat) = 0 := if_neg (by omega)
             rw [e1, e2] at hi
             exact hi)
        · refine Gx_iconst ⟨by decide, by decide⟩ dX2_masts_64 ?_
          refine Gx_goto (tgt := 69) dX2_masts_65 (by decide) ?_
          refine Gx_iadd dX2_masts_69 ?_
          try simp (disch := omega) only [w32_id]
          refine Gx_istore_n_2 dX2_masts_70 (Nat.le_of_ble_eq_true rfl) (Nat.ne_of_beq_eq_false rfl) ?_
          refine Gx_iinc_3 dX2_masts_71 (Nat.le_of_ble_eq_true rfl) (Nat.ne_of_beq_eq_false rfl) ?_
          try simp (disch := omega) only [w32_id]
          refine Gx_goto (tgt := 28) dX2_masts_74 (by decide) ?_
          have hi := ih (x + 1) v3 (by omega) (by omega) hT3 hm3 h473
          rw [show (x + 1).toNat = x.toNat + 1 by omega] at hi
          have e1 : yTot (yM1 ms) u (x.toNat + 1) = yTot (yM1 ms) u x.toNat + yM1 ms (yIt u x.toNat) := rfl
          first
          | (have e2 : yM1 ms (yIt u x.toNat) = 1 := if_pos (by omega)
             rw [e1, e2] at hi
             exact hi)
          | (have e2 : yM1 ms (yIt u x.toNat) = 0 := if_neg (by omega)
             rw [e1, e2] at hi
             exact hi)
set_option maxHeartbeats 2000000 in
theorem ct_X2_masts  (hok : yOK v) (hy : v 38 31 ≤ 9999) (k1 : ∀ (v1 : gM) (m l : Nat), oHas (mN v) m l → oScr v v1 → Q (0, yTot (yM1 (yMax (yIt (mN v) m) l)) (yIt (mN v) m) l) (gUp v1 38 2 (yMax (yIt (mN v) m) l)) (gHd K) t) (k0 : oNo (mN v) → ∀ v1, oScr v v1 → Q (0, -6) v1 (gHd K) t) : Ctr Γ mX2_masts [(2, 38)] v (gHd K) t Q := by
  refine Ctr.ofG (ls := [(2, 38), (9, 0), (9, 0), (9, 0)]) rfl rfl rfl rfl rfl ?_
  refine Gx_aload_n (i := 0) dX2_masts_0 rfl rfl ?_
  refine Gx_bipush dX2_masts_1 ⟨by decide, by decide⟩ ?_
  refine Gx_bipush dX2_masts_3 ⟨by decide, by decide⟩ ?_
  refine cl_X2_339 dX2_masts_5 rfl rfl ⟨(Nat.le_of_ble_eq_true rfl), (Nat.le_of_ble_eq_true rfl)⟩ rfl ?_
  refine ct_X2_laySums hok hy (by have := hok.2.2.1; omega) (by have := hok.2.2.2.2.1.1; omega) (fun v1 m l hml hS1 h47 hSm => ?_) (fun hno v1 hS1 => ?_)
  · refine Gx_if_ne (tgt := 14) dX2_masts_8 (by decide) (fun _ => ?_) (fun hz => absurd hz (by decide))
    refine Gx_aload_n (i := 0) dX2_masts_14 rfl rfl ?_
    refine gf_X2_312_22 dX2_masts_15 rfl rfl ?_
    rw [hSm.2.1]
    refine Gx_istore_n_1 dX2_masts_18 (Nat.le_of_ble_eq_true rfl) (Nat.ne_of_beq_eq_false rfl) ?_
    refine Gx_aload_n (i := 0) dX2_masts_19 rfl rfl ?_
    refine cl_X2_305 dX2_masts_20 rfl rfl ⟨(Nat.le_of_ble_eq_true rfl), (Nat.le_of_ble_eq_true rfl)⟩ rfl ?_
    have hok1 := oScr_ok hS1 hok
    have hU := yOK_it (yOK_N hok) m
    refine ct_X2_layRing hok1 (by rw [hS1 38 31 (by omega)]; exact hy) (fun v2 m2 l2 hrg2 hml2 hT2 hm2 h462 h472 => ?_) (fun hno v2 hS2 => ?_)
    · rw [oScr_m hS1] at hrg2 hm2
      have hu2 := oHas_u (yOK_N hok) hml ⟨hrg2, hml2⟩
      rw [← hu2.1] at hm2
      rw [← hu2.2] at h472
      refine Gx_pop (Nat.ne_of_beq_eq_false rfl) dX2_masts_23 ?_
      refine Gx_iconst ⟨by decide, by decide⟩ dX2_masts_24 ?_
      refine Gx_istore_n_2 dX2_masts_25 (Nat.le_of_ble_eq_true rfl) (Nat.ne_of_beq_eq_false rfl) ?_
      refine Gx_iconst ⟨by decide, by decide⟩ dX2_masts_26 ?_
      refine Gx_istore_n_3 dX2_masts_27 (Nat.le_of_ble_eq_true rfl) (Nat.ne_of_beq_eq_false rfl) ?_
      have z31 := yIt_y (u := mN v) m
      rw [mN_c (by omega)] at z31
      refine lp_X2_masts (ms := yMax (yIt (mN v) m) l) (l := l) (v0 := v1) (u := yIt (mN v) m) hok1 hU (by omega) (by omega) (fun v3 hT3 => ?_) l 0 v2 (by omega) (by omega) hT2 hm2 h472
      refine Gx_aload_n (i := 0) dX2_masts_77 rfl rfl ?_
      refine cl_X2_296 dX2_masts_78 rfl rfl ⟨(Nat.le_of_ble_eq_true rfl), (Nat.le_of_ble_eq_true rfl)⟩ rfl ?_
      refine ct_X2_back (oTrip_cs hok1 hT3).2.2.2.1 (fun v4 hb => ?_)
      refine Gx_aload_n (i := 0) dX2_masts_81 rfl rfl ?_
      refine Gx_iload_n (i := 1) dX2_masts_82 rfl rfl ?_
      refine Gx_iload_n (i := 2) dX2_masts_83 rfl rfl ?_
      refine cl_X2_126 dX2_masts_84 rfl rfl ⟨(Nat.le_of_ble_eq_true rfl), (Nat.le_of_ble_eq_true rfl)⟩ rfl ?_
      refine ct_X2_tells ?_
      refine Gx_ireturn dX2_masts_87 trivial ?_
      exact k1 v4 m l hml (oScr_t hS1 (oTrip_back hT3 hb).1)
    · exfalso
      rw [oScr_m hS1] at hno
      exact hno m l hml.1 hml.2
  · refine Gx_if_ne (tgt := 14) dX2_masts_8 (by decide) (fun hz => absurd hz (by decide)) (fun _ => ?_)
    refine Gx_bipush dX2_masts_11 ⟨by decide, by decide⟩ ?_
    refine Gx_ireturn dX2_masts_13 trivial ?_
    exact k0 hno v1 hS1
set_option maxHeartbeats 1000000 in
theorem ct_X2_together  (hok : yOK v) (hy : v 38 31 ≤ 9999) (k1 : ∀ (v1 : gM) (m l : Nat), oHas (mN v) m l → oScr v v1 → (yTot yO1 (yIt (mN v) m) l = 0 → Q (0, -3) (sMeet v1 4) (gHd K) t) ∧ (yTot yO1 (yIt (mN v) m) l ≠ 0 → Q (0, yTot yN1 (yIt (mN v) m) l) (sFrac v1 (yTot yP1 (yIt (mN v) m) l) (yTot yO1 (yIt (mN v) m) l)) (gHd K) t)) (k0 : oNo (mN v) → ∀ v1, oScr v v1 → Q (0, -6) v1 (gHd K) t) : Ctr Γ mX2_together [(2, 38)] v (gHd K) t Q := by
  refine Ctr.ofG (ls := [(2, 38)]) rfl rfl rfl rfl rfl ?_
  refine Gx_aload_n (i := 0) dX2_together_0 rfl rfl ?_
  refine Gx_bipush dX2_together_1 ⟨by decide, by decide⟩ ?_
  refine Gx_bipush dX2_together_3 ⟨by decide, by decide⟩ ?_
  refine cl_X2_339 dX2_together_5 rfl rfl ⟨(Nat.le_of_ble_eq_true rfl), (Nat.le_of_ble_eq_true rfl)⟩ rfl ?_
  refine ct_X2_laySums hok hy (by have := hok.2.2.1; omega) (by have := hok.2.2.2.2.1.1; omega) (fun v1 m l hml hS1 h47 hSm => ?_) (fun hno v1 hS1 => ?_)
  · have hU := yOK_it (yOK_N hok) m
    obtain ⟨s48, s49, s50, s51, s52, s53, s54, s55, s56⟩ := hSm
    have bN := yTot_le (F := yN1) (u := yIt (mN v) m) (B := 24) (fun k => by have h1 := yN1_le (yOK_it hU k); have h2 := (yOK_it hU k).2.2.1; omega) l
    refine Gx_if_ne (tgt := 14) dX2_together_8 (by decide) (fun _ => ?_) (fun hz => absurd hz (by decide))
    refine Gx_aload_n (i := 0) dX2_together_14 rfl rfl ?_
    refine gf_X2_321_22 dX2_together_15 rfl rfl ?_
    rw [s52]
    refine Gx_lconst0 dX2_together_18 ?_
    try simp (disch := omega) only [w64_id]
    refine Gx_lcmpif_ne (tgt := 31) dX2_together_19 dX2_together_20 (by decide) (fun c19 => ?_) (fun c19 => ?_)
    · refine Gx_aload_n (i := 0) dX2_together_31 rfl rfl ?_
      refine Gx_aload_n (i := 0) dX2_together_32 rfl rfl ?_
      refine gf_X2_324_22 dX2_together_33 rfl rfl ?_
      rw [s53]
      refine Gx_aload_n (i := 0) dX2_together_36 rfl rfl ?_
      refine gf_X2_321_22 dX2_together_37 rfl rfl ?_
      rw [s52]
      refine Gx_aload_n (i := 0) dX2_together_40 rfl rfl ?_
      refine gf_X2_318_22 dX2_together_41 rfl rfl ?_
      rw [s51]
      refine Gx_l2i dX2_together_44 ?_
      rw [w32_id (by omega) (by omega)]
      refine cl_X2_342 dX2_together_45 rfl rfl ⟨(Nat.le_of_ble_eq_true rfl), (Nat.le_of_ble_eq_true rfl)⟩ rfl ?_
      refine ct_X2_fraction (by omega) ?_
      refine Gx_ireturn dX2_together_48 trivial ?_
      first
      | exact (k1 v1 m l hml hS1).2 (by omega)
      | exact (k1 v1 m l hml hS1).1 (by omega)
    · refine Gx_aload_n (i := 0) dX2_together_23 rfl rfl ?_
      refine Gx_iconst ⟨by decide, by decide⟩ dX2_together_24 ?_
      refine cl_X2_118 dX2_together_25 rfl rfl ⟨(Nat.le_of_ble_eq_true rfl), (Nat.le_of_ble_eq_true rfl)⟩ rfl ?_
      refine ct_X2_meets ⟨by decide, by decide⟩ ?_
      refine Gx_goto (tgt := 48) dX2_together_28 (by decide) ?_
      refine Gx_ireturn dX2_together_48 trivial ?_
      first
      | exact (k1 v1 m l hml hS1).2 (by omega)
      | exact (k1 v1 m l hml hS1).1 (by omega)
  · refine Gx_if_ne (tgt := 14) dX2_together_8 (by decide) (fun hz => absurd hz (by decide)) (fun _ => ?_)
    refine Gx_bipush dX2_together_11 ⟨by decide, by decide⟩ ?_
    refine Gx_ireturn dX2_together_13 trivial ?_
    exact k0 hno v1 hS1
set_option maxHeartbeats 1000000 in
theorem ct_X2_share {x : Int} (hok : yOK v) (hy : v 38 31 ≤ 9999) (kB : ¬ (0 ≤ x ∧ x < v 38 33) → Q (0, -1) v (gHd K) t) (k1 : 0 ≤ x ∧ x < v 38 33 → ∀ (v1 : gM) (m l : Nat), oHas (mN v) m l → oScr v v1 → (yTot yA1 (yIt (mN v) m) l = 0 → Q (0, -3) (sMeet v1 4) (gHd K) t) ∧ (yTot yA1 (yIt (mN v) m) l ≠ 0 → Q (0, yTot (yT1 x) (yIt (mN v) m) l) (sFrac v1 (yTot (yT1 x) (yIt (mN v) m) l) (yTot yA1 (yIt (mN v) m) l)) (gHd K) t)) (k0 : 0 ≤ x ∧ x < v 38 33 → oNo (mN v) → ∀ v1, oScr v v1 → Q (0, -6) v1 (gHd K) t) : Ctr Γ mX2_share [(2, 38), (0, x)] v (gHd K) t Q := by
  refine Ctr.ofG (ls := [(2, 38), (0, x)]) rfl rfl rfl rfl rfl ?_
  refine Gx_aload_n (i := 0) dX2_share_0 rfl rfl ?_
  refine Gx_iload_n (i := 1) dX2_share_1 rfl rfl ?_
  refine cl_X2_227 dX2_share_2 rfl rfl ⟨(Nat.le_of_ble_eq_true rfl), (Nat.le_of_ble_eq_true rfl)⟩ rfl ?_
  refine ct_X2_isTree (by have := hok.2.2.1; omega) (fun hx => ?_) (fun hx => ?_)
  · refine Gx_if_ne (tgt := 10) dX2_share_5 (by decide) (fun _ => ?_) (fun hz => absurd hz (by decide))
    refine Gx_aload_n (i := 0) dX2_share_10 rfl rfl ?_
    refine Gx_iload_n (i := 1) dX2_share_11 rfl rfl ?_
    refine Gx_bipush dX2_share_12 ⟨by decide, by decide⟩ ?_
    refine cl_X2_339 dX2_share_14 rfl rfl ⟨(Nat.le_of_ble_eq_true rfl), (Nat.le_of_ble_eq_true rfl)⟩ rfl ?_
    refine ct_X2_laySums hok hy (by have := hok.2.2.1; omega) (by have := hok.2.2.2.2.1.1; omega) (fun v1 m l hml hS1 h47 hSm => ?_) (fun hno v1 hS1 => ?_)
    · have hU := yOK_it (yOK_N hok) m
      obtain ⟨s48, s49, s50, s51, s52, s53, s54, s55, s56⟩ := hSm
      have bT := yTot_le (F := yT1 x) (u := yIt (mN v) m) (B := 60) (fun k => yT1_le (yOK_it hU k) (by rw [(yIt_o (u := yIt (mN v) m) (a := 38) (j := 33) (by omega) k).1, (yIt_o (u := mN v) (a := 38) (j := 33) (by omega) m).1, mN_c (by omega)]; omega)) l
      refine Gx_if_ne (tgt := 23) dX2_share_17 (by decide) (fun _ => ?_) (fun hz => absurd hz (by decide))
      refine Gx_aload_n (i := 0) dX2_share_23 rfl rfl ?_
      refine gf_X2_309_22 dX2_share_24 rfl rfl ?_
      rw [s48]
      refine Gx_lconst0 dX2_share_27 ?_
      try simp (disch := omega) only [w64_id]
      refine Gx_lcmpif_ne (tgt := 40) dX2_share_28 dX2_share_29 (by decide) (fun c28 => ?_) (fun c28 => ?_)
      · refine Gx_aload_n (i := 0) dX2_share_40 rfl rfl ?_
        refine Gx_aload_n (i := 0) dX2_share_41 rfl rfl ?_
        refine gf_X2_327_22 dX2_share_42 rfl rfl ?_
        rw [s54]
        refine Gx_aload_n (i := 0) dX2_share_45 rfl rfl ?_
        refine gf_X2_309_22 dX2_share_46 rfl rfl ?_
        rw [s48]
        refine Gx_aload_n (i := 0) dX2_share_49 rfl rfl ?_
        refine gf_X2_327_22 dX2_share_50 rfl rfl ?_
        rw [s54]
        refine Gx_l2i dX2_share_53 ?_
        rw [w32_id (by omega) (by omega)]
        refine cl_X2_342 dX2_share_54 rfl rfl ⟨(Nat.le_of_ble_eq_true rfl), (Nat.le_of_ble_eq_true rfl)⟩ rfl ?_
        refine ct_X2_fraction (by omega) ?_
        refine Gx_ireturn dX2_share_57 trivial ?_
        first
        | exact (k1 hx v1 m l hml hS1).2 (by omega)
        | exact (k1 hx v1 m l hml hS1).1 (by omega)
      · refine Gx_aload_n (i := 0) dX2_share_32 rfl rfl ?_
        refine Gx_iconst ⟨by decide, by decide⟩ dX2_share_33 ?_
        refine cl_X2_118 dX2_share_34 rfl rfl ⟨(Nat.le_of_ble_eq_true rfl), (Nat.le_of_ble_eq_true rfl)⟩ rfl ?_
        refine ct_X2_meets ⟨by decide, by decide⟩ ?_
        refine Gx_goto (tgt := 57) dX2_share_37 (by decide) ?_
        refine Gx_ireturn dX2_share_57 trivial ?_
        first
        | exact (k1 hx v1 m l hml hS1).2 (by omega)
        | exact (k1 hx v1 m l hml hS1).1 (by omega)
    · refine Gx_if_ne (tgt := 23) dX2_share_17 (by decide) (fun hz => absurd hz (by decide)) (fun _ => ?_)
      refine Gx_bipush dX2_share_20 ⟨by decide, by decide⟩ ?_
      refine Gx_ireturn dX2_share_22 trivial ?_
      exact k0 hx hno v1 hS1
  · refine Gx_if_ne (tgt := 10) dX2_share_5 (by decide) (fun hz => absurd hz (by decide)) (fun _ => ?_)
    refine Gx_iconst ⟨by decide, by decide⟩ dX2_share_8 ?_
    refine Gx_ireturn dX2_share_9 trivial ?_
    exact kB hx
set_option maxHeartbeats 1000000 in
theorem ct_X2_seedlings  (hok : yOK v) (hy : v 38 31 ≤ 9999) (k1 : ∀ (v1 : gM) (m l : Nat), oHas (mN v) m l → oScr v v1 → Q (0, 1) (sFrac v1 (yTot yD1 (yIt (mN v) m) l) l) (gHd K) t) (k0 : oNo (mN v) → ∀ v1, oScr v v1 → Q (0, -6) v1 (gHd K) t) : Ctr Γ mX2_seedlings [(2, 38)] v (gHd K) t Q := by
  refine Ctr.ofG (ls := [(2, 38)]) rfl rfl rfl rfl rfl ?_
  refine Gx_aload_n (i := 0) dX2_seedlings_0 rfl rfl ?_
  refine Gx_bipush dX2_seedlings_1 ⟨by decide, by decide⟩ ?_
  refine Gx_bipush dX2_seedlings_3 ⟨by decide, by decide⟩ ?_
  refine cl_X2_339 dX2_seedlings_5 rfl rfl ⟨(Nat.le_of_ble_eq_true rfl), (Nat.le_of_ble_eq_true rfl)⟩ rfl ?_
  refine ct_X2_laySums hok hy (by have := hok.2.2.1; omega) (by have := hok.2.2.2.2.1.1; omega) (fun v1 m l hml hS1 h47 hSm => ?_) (fun hno v1 hS1 => ?_)
  · have hU := yOK_it (yOK_N hok) m
    obtain ⟨s48, s49, s50, s51, s52, s53, s54, s55, s56⟩ := hSm
    have hl1 := hml.1.1
    refine Gx_if_eq (tgt := 28) dX2_seedlings_8 (by decide) (fun hz => absurd hz (by decide)) (fun _ => ?_)
    refine Gx_aload_n (i := 0) dX2_seedlings_11 rfl rfl ?_
    refine Gx_aload_n (i := 0) dX2_seedlings_12 rfl rfl ?_
    refine gf_X2_315_22 dX2_seedlings_13 rfl rfl ?_
    rw [s50]
    refine Gx_aload_n (i := 0) dX2_seedlings_16 rfl rfl ?_
    refine gf_X2_302_22 dX2_seedlings_17 rfl rfl ?_
    rw [h47]
    refine Gx_i2l dX2_seedlings_20 ?_
    refine Gx_iconst ⟨by decide, by decide⟩ dX2_seedlings_21 ?_
    refine cl_X2_342 dX2_seedlings_22 rfl rfl ⟨(Nat.le_of_ble_eq_true rfl), (Nat.le_of_ble_eq_true rfl)⟩ rfl ?_
    refine ct_X2_fraction (by omega) ?_
    refine Gx_goto (tgt := 30) dX2_seedlings_25 (by decide) ?_
    refine Gx_ireturn dX2_seedlings_30 trivial ?_
    first
    | exact k0 hno v1 hS1
    | exact k1 v1 m l hml hS1
  · refine Gx_if_eq (tgt := 28) dX2_seedlings_8 (by decide) (fun _ => ?_) (fun hz => absurd hz (by decide))
    refine Gx_bipush dX2_seedlings_28 ⟨by decide, by decide⟩ ?_
    refine Gx_ireturn dX2_seedlings_30 trivial ?_
    first
    | exact k0 hno v1 hS1
    | exact k1 v1 m l hml hS1
set_option maxHeartbeats 1000000 in
theorem ct_X2_gain {x : Int} (hok : yOK v) (hy : v 38 31 ≤ 9999) (kB : ¬ (0 ≤ x ∧ x < v 38 33) → Q (0, -1) v (gHd K) t) (k1 : 0 ≤ x ∧ x < v 38 33 → ∀ (v1 : gM) (m l : Nat), oHas (mN v) m l → oScr v v1 → Q (0, 1) (sFrac v1 (yTot (yG1 x) (yIt (mN v) m) l) l) (gHd K) t) (k0 : 0 ≤ x ∧ x < v 38 33 → oNo (mN v) → ∀ v1, oScr v v1 → Q (0, -6) v1 (gHd K) t) : Ctr Γ mX2_gain [(2, 38), (0, x)] v (gHd K) t Q := by
  refine Ctr.ofG (ls := [(2, 38), (0, x)]) rfl rfl rfl rfl rfl ?_
  refine Gx_aload_n (i := 0) dX2_gain_0 rfl rfl ?_
  refine Gx_iload_n (i := 1) dX2_gain_1 rfl rfl ?_
  refine cl_X2_227 dX2_gain_2 rfl rfl ⟨(Nat.le_of_ble_eq_true rfl), (Nat.le_of_ble_eq_true rfl)⟩ rfl ?_
  refine ct_X2_isTree (by have := hok.2.2.1; omega) (fun hx => ?_) (fun hx => ?_)
  · refine Gx_if_ne (tgt := 10) dX2_gain_5 (by decide) (fun _ => ?_) (fun hz => absurd hz (by decide))
    refine Gx_aload_n (i := 0) dX2_gain_10 rfl rfl ?_
    refine Gx_iload_n (i := 1) dX2_gain_11 rfl rfl ?_
    refine Gx_bipush dX2_gain_12 ⟨by decide, by decide⟩ ?_
    refine cl_X2_339 dX2_gain_14 rfl rfl ⟨(Nat.le_of_ble_eq_true rfl), (Nat.le_of_ble_eq_true rfl)⟩ rfl ?_
    refine ct_X2_laySums hok hy (by have := hok.2.2.1; omega) (by have := hok.2.2.2.2.1.1; omega) (fun v1 m l hml hS1 h47 hSm => ?_) (fun hno v1 hS1 => ?_)
    · have hU := yOK_it (yOK_N hok) m
      obtain ⟨s48, s49, s50, s51, s52, s53, s54, s55, s56⟩ := hSm
      have hl1 := hml.1.1
      refine Gx_if_eq (tgt := 37) dX2_gain_17 (by decide) (fun hz => absurd hz (by decide)) (fun _ => ?_)
      refine Gx_aload_n (i := 0) dX2_gain_20 rfl rfl ?_
      refine Gx_aload_n (i := 0) dX2_gain_21 rfl rfl ?_
      refine gf_X2_330_22 dX2_gain_22 rfl rfl ?_
      rw [s55]
      refine Gx_aload_n (i := 0) dX2_gain_25 rfl rfl ?_
      refine gf_X2_302_22 dX2_gain_26 rfl rfl ?_
      rw [h47]
      refine Gx_i2l dX2_gain_29 ?_
      refine Gx_iconst ⟨by decide, by decide⟩ dX2_gain_30 ?_
      refine cl_X2_342 dX2_gain_31 rfl rfl ⟨(Nat.le_of_ble_eq_true rfl), (Nat.le_of_ble_eq_true rfl)⟩ rfl ?_
      refine ct_X2_fraction (by omega) ?_
      refine Gx_goto (tgt := 39) dX2_gain_34 (by decide) ?_
      refine Gx_ireturn dX2_gain_39 trivial ?_
      first
      | exact k0 hx hno v1 hS1
      | exact k1 hx v1 m l hml hS1
    · refine Gx_if_eq (tgt := 37) dX2_gain_17 (by decide) (fun _ => ?_) (fun hz => absurd hz (by decide))
      refine Gx_bipush dX2_gain_37 ⟨by decide, by decide⟩ ?_
      refine Gx_ireturn dX2_gain_39 trivial ?_
      first
      | exact k0 hx hno v1 hS1
      | exact k1 hx v1 m l hml hS1
  · refine Gx_if_ne (tgt := 10) dX2_gain_5 (by decide) (fun hz => absurd hz (by decide)) (fun _ => ?_)
    refine Gx_iconst ⟨by decide, by decide⟩ dX2_gain_8 ?_
    refine Gx_ireturn dX2_gain_9 trivial ?_
    exact kB hx
set_option maxHeartbeats 1000000 in
theorem ct_X2_starve {x : Int} (hok : yOK v) (hy : v 38 31 ≤ 9999) (kB : ¬ (0 ≤ x ∧ x < v 38 22) → Q (0, -1) v (gHd K) t) (k1 : 0 ≤ x ∧ x < v 38 22 → ∀ (v1 : gM) (m l : Nat), oHas (mN v) m l → oScr v v1 → Q (0, yTot (yS1 x) (yIt (mN v) m) l) v1 (gHd K) t) (k0 : 0 ≤ x ∧ x < v 38 22 → oNo (mN v) → ∀ v1, oScr v v1 → Q (0, -6) v1 (gHd K) t) : Ctr Γ mX2_starve [(2, 38), (0, x)] v (gHd K) t Q := by
  refine Ctr.ofG (ls := [(2, 38), (0, x)]) rfl rfl rfl rfl rfl ?_
  refine Gx_aload_n (i := 0) dX2_starve_0 rfl rfl ?_
  refine Gx_iload_n (i := 1) dX2_starve_1 rfl rfl ?_
  refine cl_X2_221 dX2_starve_2 rfl rfl ⟨(Nat.le_of_ble_eq_true rfl), (Nat.le_of_ble_eq_true rfl)⟩ rfl ?_
  refine ct_X2_isEater (by have := hok.2.2.2.2.1.1; omega) (fun hx => ?_) (fun hx => ?_)
  · refine Gx_if_ne (tgt := 10) dX2_starve_5 (by decide) (fun _ => ?_) (fun hz => absurd hz (by decide))
    refine Gx_aload_n (i := 0) dX2_starve_10 rfl rfl ?_
    refine Gx_bipush dX2_starve_11 ⟨by decide, by decide⟩ ?_
    refine Gx_iload_n (i := 1) dX2_starve_13 rfl rfl ?_
    refine cl_X2_339 dX2_starve_14 rfl rfl ⟨(Nat.le_of_ble_eq_true rfl), (Nat.le_of_ble_eq_true rfl)⟩ rfl ?_
    refine ct_X2_laySums hok hy (by have := hok.2.2.1; omega) (by have := hok.2.2.2.2.1.1; omega) (fun v1 m l hml hS1 h47 hSm => ?_) (fun hno v1 hS1 => ?_)
    · have hU := yOK_it (yOK_N hok) m
      obtain ⟨s48, s49, s50, s51, s52, s53, s54, s55, s56⟩ := hSm
      refine Gx_if_eq (tgt := 27) dX2_starve_17 (by decide) (fun hz => absurd hz (by decide)) (fun _ => ?_)
      refine Gx_aload_n (i := 0) dX2_starve_20 rfl rfl ?_
      refine gf_X2_333_22 dX2_starve_21 rfl rfl ?_
      rw [s56]
      refine Gx_goto (tgt := 29) dX2_starve_24 (by decide) ?_
      refine Gx_ireturn dX2_starve_29 trivial ?_
      first
      | exact k0 hx hno v1 hS1
      | exact k1 hx v1 m l hml hS1
    · refine Gx_if_eq (tgt := 27) dX2_starve_17 (by decide) (fun _ => ?_) (fun hz => absurd hz (by decide))
      refine Gx_bipush dX2_starve_27 ⟨by decide, by decide⟩ ?_
      refine Gx_ireturn dX2_starve_29 trivial ?_
      first
      | exact k0 hx hno v1 hS1
      | exact k1 hx v1 m l hml hS1
  · refine Gx_if_ne (tgt := 10) dX2_starve_5 (by decide) (fun hz => absurd hz (by decide)) (fun _ => ?_)
    refine Gx_iconst ⟨by decide, by decide⟩ dX2_starve_8 ?_
    refine Gx_ireturn dX2_starve_9 trivial ?_
    exact kB hx
end
