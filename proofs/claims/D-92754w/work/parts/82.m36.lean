/-! AcornYearsModel: laySort, howBy, better, hold -/
section
variable {Γ : gC} {v : gM} {K : gH} {t : Nat} {Q : gQ}
theorem yR_57 {v : gM} {x s a k : Int} : yR (gUp v 57 x s) a k ↔ yR v a k := yR_congr (gUp_ne2 (by omega)) (gUp_ne2 (by omega)) (gUp_ne2 (by omega)) (gUp_ne2 (by omega))
theorem mN_57 {v : gM} {x s : Int} (h0 : 0 ≤ x) (h1 : x < v 38 33) : mN (gUp v 57 x s) = gUp (mN v) 57 x s := by
  funext a k
  by_cases c : a = 57 ∧ k = x
  · rw [c.1, c.2, gUp_eq2 rfl rfl, mN_at (yR_57.2 (by unfold yR; omega)), gUp_eq2 rfl rfl]
  · rw [gUp_ne2 c]
    by_cases hR : yR v a k
    · rw [mN_at hR, mN_at (yR_57.2 hR), gUp_ne2 c]
    · rw [mN_no hR, mN_no (fun z => hR (yR_57.1 z))]
theorem yOK_57 {v : gM} {x s : Int} (h : yOK v) (hs : 0 ≤ s ∧ s < v 38 20) : yOK (gUp v 57 x s) := by
  obtain ⟨h1, h2, h3, h4, h5, h6, h7, h8, h9, h10⟩ := h
  have q (k) : gUp v 57 x s 38 k = v 38 k := gUp_ne2 (by omega)
  have q50 (k) : gUp v 57 x s 50 k = v 50 k := gUp_ne2 (by omega)
  have q58 (k) : gUp v 57 x s 58 k = v 58 k := gUp_ne2 (by omega)
  have q54 (k) : gUp v 57 x s 54 k = v 54 k := gUp_ne2 (by omega)
  have q51 (k) : gUp v 57 x s 51 k = v 51 k := gUp_ne2 (by omega)
  have q52 (k) : gUp v 57 x s 52 k = v 52 k := gUp_ne2 (by omega)
  have q53 (k) : gUp v 57 x s 53 k = v 53 k := gUp_ne2 (by omega)
  have q56 (k) : gUp v 57 x s 56 k = v 56 k := gUp_ne2 (by omega)
  unfold yOK oSrt oEat
  simp only [q, q50, q58, q54, q51, q52, q53, q56]
  refine ⟨h1, h2, h3, fun i i0 i1 => ⟨?_, (h4 i i0 i1).2⟩, h5, h6, h7, h8, h9, h10⟩
  by_cases c : i = x
  · rw [gUp_eq2 rfl c]; exact hs
  · rw [gUp_ne2 (by omega)]; exact (h4 i i0 i1).1
theorem gUp_same {v : gM} {a j : Int} : gUp v a j (v a j) = v := by
  funext b k
  by_cases c : b = a ∧ k = j
  · rw [gUp_eq2 c.1 c.2, c.1, c.2]
  · rw [gUp_ne2 c]
theorem oScr_57 {v v1 : gM} {x s : Int} (h : oScr (gUp v 57 x s) v1) : oScr v (gUp v1 57 x (v 57 x)) := by
  intro a k hk
  by_cases c : a = 57 ∧ k = x
  · rw [gUp_eq2 c.1 c.2, c.1, c.2]
  · rw [gUp_ne2 c, h a k hk, gUp_ne2 c]
/-- a tree's gain on a ring -/
abbrev yGn (u : gM) (x : Int) (m l : Nat) : Int := yTot (yG1 x) (yIt u m) l
theorem yGn_le {u : gM} {x : Int} {m l : Nat} (hu : yOK u) (hx : x < u 38 33) : 0 ≤ yGn u x m l ∧ yGn u x m l ≤ 86400 * l :=
  yTot_le (B := 86400) (fun k => yG1_le (yOK_it (yOK_it hu m) k) (by rw [(yIt_o (u := yIt u m) (a := 38) (j := 33) (by omega) k).1, (yIt_o (u := u) (a := 38) (j := 33) (by omega) m).1]; exact hx)) l

set_option maxHeartbeats 2000000 in
theorem ct_X2_laySort {x s : Int} (hok : yOK v) (hy : v 38 31 ≤ 9999) (hx : 0 ≤ x ∧ x < v 38 33) (hs : 0 ≤ s ∧ s < v 38 20) (k1 : ∀ (v1 : gM) (m l : Nat), oHas (gUp (mN v) 57 x s) m l → oScr v v1 → v1 38 58 = yGn (gUp (mN v) 57 x s) x m l → v1 38 59 = l → Q (0, 1) v1 (gHd K) t) (k0 : oNo (gUp (mN v) 57 x s) → ∀ v1, oScr v v1 → Q (0, 0) v1 (gHd K) t) : Ctr Γ mX2_laySort [(2, 38), (0, x), (0, s)] v (gHd K) t Q := by
  refine Ctr.ofG (ls := [(2, 38), (0, x), (0, s), (9, 0), (9, 0)]) rfl rfl rfl rfl rfl ?_
  have h33 := hok.2.2.1
  refine Gx_aload_n (i := 0) dX2_laySort_0 rfl rfl ?_
  refine gf_X2_65_22 dX2_laySort_1 rfl rfl ?_
  refine Gx_iload_n (i := 1) dX2_laySort_4 rfl rfl ?_
  refine Gx_iaload dX2_laySort_5 rfl (by first | omega | (simp (disch := omega) only [w32_id]; omega)) ?_
  refine Gx_istore_n_3 dX2_laySort_6 (Nat.le_of_ble_eq_true rfl) (Nat.ne_of_beq_eq_false rfl) ?_
  refine Gx_aload_n (i := 0) dX2_laySort_7 rfl rfl ?_
  refine gf_X2_65_22 dX2_laySort_8 rfl rfl ?_
  refine Gx_iload_n (i := 1) dX2_laySort_11 rfl rfl ?_
  refine Gx_iload_n (i := 2) dX2_laySort_12 rfl rfl ?_
  refine Gx_iastore dX2_laySort_13 rfl (by first | omega | (simp (disch := omega) only [w32_id]; omega)) ?_
  refine Gx_aload_n (i := 0) dX2_laySort_14 rfl rfl ?_
  refine Gx_iload_n (i := 1) dX2_laySort_15 rfl rfl ?_
  refine Gx_bipush dX2_laySort_16 ⟨by decide, by decide⟩ ?_
  refine cl_X2_339 dX2_laySort_18 rfl rfl ⟨(Nat.le_of_ble_eq_true rfl), (Nat.le_of_ble_eq_true rfl)⟩ rfl ?_
  refine ct_X2_laySums (yOK_57 hok hs) (by rw [gUp_ne2 (by omega)]; exact hy) (by rw [gUp_ne2 (by omega)]; omega) (by rw [gUp_ne2 (by omega)]; have := hok.2.2.2.2.1.1; omega) (fun v1 m l hml hS1 h47 hSm => ?_) (fun hno v1 hS1 => ?_)
  · rw [mN_57 hx.1 hx.2] at hml hSm
    have s55 := hSm.2.2.2.2.2.2.2.1
    refine Gx_istore_4 dX2_laySort_21 (Nat.le_of_ble_eq_true rfl) (Nat.ne_of_beq_eq_false rfl) ?_
    refine Gx_aload_n (i := 0) dX2_laySort_23 rfl rfl ?_
    refine gf_X2_65_22 dX2_laySort_24 rfl rfl ?_
    refine Gx_iload_n (i := 1) dX2_laySort_27 rfl rfl ?_
    refine Gx_iload_n (i := 3) dX2_laySort_28 rfl rfl ?_
    refine Gx_iastore dX2_laySort_29 rfl (by first | omega | (simp (disch := omega) only [w32_id]; omega)) ?_
    refine Gx_aload_n (i := 0) dX2_laySort_30 rfl rfl ?_
    refine Gx_aload_n (i := 0) dX2_laySort_31 rfl rfl ?_
    refine gf_X2_330_22 dX2_laySort_32 rfl rfl ?_
    refine pf_X2_350_22 dX2_laySort_35 rfl rfl ?_
    refine Gx_aload_n (i := 0) dX2_laySort_38 rfl rfl ?_
    refine Gx_aload_n (i := 0) dX2_laySort_39 rfl rfl ?_
    refine gf_X2_302_22 dX2_laySort_40 rfl rfl ?_
    refine pf_X2_353_22 dX2_laySort_43 rfl rfl ?_
    refine Gx_iload dX2_laySort_46 rfl ?_
    refine Gx_ireturn dX2_laySort_48 (Or.inr rfl) ?_
    first
    | (refine k1 _ m l hml (oScr_up (oScr_up (oScr_57 hS1) (by omega)) (by omega)) ?_ ?_
       · rw [gUp_ne2 (by omega), gUp_eq2 rfl rfl, gUp_ne2 (by omega)]
         exact s55
       · rw [gUp_eq2 rfl rfl]
         simp (disch := omega) only [gUp_ne2]
         exact h47)
    | exact k0 hno _ (oScr_up (oScr_up (oScr_57 hS1) (by omega)) (by omega))
  · rw [mN_57 hx.1 hx.2] at hno
    refine Gx_istore_4 dX2_laySort_21 (Nat.le_of_ble_eq_true rfl) (Nat.ne_of_beq_eq_false rfl) ?_
    refine Gx_aload_n (i := 0) dX2_laySort_23 rfl rfl ?_
    refine gf_X2_65_22 dX2_laySort_24 rfl rfl ?_
    refine Gx_iload_n (i := 1) dX2_laySort_27 rfl rfl ?_
    refine Gx_iload_n (i := 3) dX2_laySort_28 rfl rfl ?_
    refine Gx_iastore dX2_laySort_29 rfl (by first | omega | (simp (disch := omega) only [w32_id]; omega)) ?_
    refine Gx_aload_n (i := 0) dX2_laySort_30 rfl rfl ?_
    refine Gx_aload_n (i := 0) dX2_laySort_31 rfl rfl ?_
    refine gf_X2_330_22 dX2_laySort_32 rfl rfl ?_
    refine pf_X2_350_22 dX2_laySort_35 rfl rfl ?_
    refine Gx_aload_n (i := 0) dX2_laySort_38 rfl rfl ?_
    refine Gx_aload_n (i := 0) dX2_laySort_39 rfl rfl ?_
    refine gf_X2_302_22 dX2_laySort_40 rfl rfl ?_
    refine pf_X2_353_22 dX2_laySort_43 rfl rfl ?_
    refine Gx_iload dX2_laySort_46 rfl ?_
    refine Gx_ireturn dX2_laySort_48 (Or.inl rfl) ?_
    first
    | (refine k1 _ m l hml (oScr_up (oScr_up (oScr_57 hS1) (by omega)) (by omega)) ?_ ?_
       · rw [gUp_ne2 (by omega), gUp_eq2 rfl rfl, gUp_ne2 (by omega)]
         exact s55
       · rw [gUp_eq2 rfl rfl]
         simp (disch := omega) only [gUp_ne2]
         exact h47)
    | exact k0 hno _ (oScr_up (oScr_up (oScr_57 hS1) (by omega)) (by omega))
def yHow (g l g' l' : Int) : Int := if g * l' < g' * l then 1 else if g' * l < g * l' then 2 else 0
theorem yHow_le {a b c d : Int} : 0 ≤ yHow a b c d ∧ yHow a b c d ≤ 2 := by
  unfold yHow
  repeat' split
  all_goals omega
theorem mN_58x {v v1 : gM} (h : oScr v v1) {a k : Int} (hk : ¬ oSq a k) : v1 a k = v a k := h a k hk

set_option maxHeartbeats 2000000 in
theorem ct_X2_howBy {x s : Int} (hok : yOK v) (hy : v 38 31 ≤ 9999) (hx : 0 ≤ x ∧ x < v 38 33) (hs : 0 ≤ s ∧ s < v 38 20) (k1 : ∀ (v1 : gM) (m l m' l' : Nat), oHas (mN v) m l → oHas (gUp (mN v) 57 x s) m' l' → oScr v v1 → v1 38 58 = yGn (gUp (mN v) 57 x s) x m' l' → v1 38 59 = l' → Q (0, yHow (yGn (mN v) x m l) l (yGn (gUp (mN v) 57 x s) x m' l') l') v1 (gHd K) t) (k0 : (oNo (mN v) ∨ oNo (gUp (mN v) 57 x s)) → ∀ v1, oScr v v1 → Q (0, -9) v1 (gHd K) t) : Ctr Γ mX2_howBy [(2, 38), (0, x), (0, s)] v (gHd K) t Q := by
  refine Ctr.ofG (ls := [(2, 38), (0, x), (0, s), (9, 0), (9, 0), (9, 0)]) rfl rfl rfl rfl rfl ?_
  have h33 := hok.2.2.1
  refine Gx_aload_n (i := 0) dX2_howBy_0 rfl rfl ?_
  refine Gx_iload_n (i := 1) dX2_howBy_1 rfl rfl ?_
  refine Gx_aload_n (i := 0) dX2_howBy_2 rfl rfl ?_
  refine gf_X2_65_22 dX2_howBy_3 rfl rfl ?_
  refine Gx_iload_n (i := 1) dX2_howBy_6 rfl rfl ?_
  refine Gx_iaload dX2_howBy_7 rfl (by first | omega | (simp (disch := omega) only [w32_id]; omega)) ?_
  refine cl_X2_356 dX2_howBy_8 rfl rfl ⟨(Nat.le_of_ble_eq_true rfl), (Nat.le_of_ble_eq_true rfl)⟩ rfl ?_
  refine ct_X2_laySort hok hy hx (hok.2.2.2.1 x hx.1 hx.2).1 (fun v1 m l hml hS1 h58 h59 => ?_) (fun hno v1 hS1 => ?_)
  · have e57 : gUp (mN v) 57 x (v 57 x) = mN v := by
      rw [← mN_so hx.1 hx.2]
      exact gUp_same
    rw [e57] at hml h58
    have hok1 := oScr_ok hS1 hok
    have hm1 := oScr_m hS1
    refine Gx_if_ne (tgt := 17) dX2_howBy_11 (by decide) (fun _ => ?_) (fun hz => absurd hz (by decide))
    refine Gx_aload_n (i := 0) dX2_howBy_17 rfl rfl ?_
    refine gf_X2_350_22 dX2_howBy_18 rfl rfl ?_
    rw [h58]
    refine Gx_lstore_n_3 dX2_howBy_21 (Nat.le_of_ble_eq_true rfl) (Nat.ne_of_beq_eq_false rfl) ?_
    refine Gx_aload_n (i := 0) dX2_howBy_22 rfl rfl ?_
    refine gf_X2_353_22 dX2_howBy_23 rfl rfl ?_
    rw [h59]
    refine Gx_istore_5 dX2_howBy_26 (Nat.le_of_ble_eq_true rfl) (Nat.ne_of_beq_eq_false rfl) ?_
    refine Gx_aload_n (i := 0) dX2_howBy_28 rfl rfl ?_
    refine Gx_iload_n (i := 1) dX2_howBy_29 rfl rfl ?_
    refine Gx_iload_n (i := 2) dX2_howBy_30 rfl rfl ?_
    refine cl_X2_356 dX2_howBy_31 rfl rfl ⟨(Nat.le_of_ble_eq_true rfl), (Nat.le_of_ble_eq_true rfl)⟩ rfl ?_
    refine ct_X2_laySort hok1 (by rw [hS1 38 31 (by omega)]; exact hy) (by rw [hS1 38 33 (by omega)]; exact hx) (by rw [hS1 38 20 (by omega)]; exact hs) (fun v2 m2 l2 hml2 hS2 h582 h592 => ?_) (fun hno v2 hS2 => ?_)
    · rw [hm1] at hml2 h582
      have hl1 := hml.1.1
      have hl2 := hml2.1.1
      have hoN := yOK_N hok
      have bg := yGn_le (x := x) (m := m) (l := l) hoN (by rw [mN_c (by omega)]; exact hx.2)
      have bg2 := yGn_le (x := x) (m := m2) (l := l2) (yOK_57 (x := x) (s := s) hoN (by rw [mN_c (by omega)]; exact hs)) (by rw [gUp_ne2 (by omega), mN_c (by omega)]; exact hx.2)
      have p1 := mul_le_of bg.1 (show _ ≤ 172800000 by omega) (show (0 : Int) ≤ (l2 : Int) by omega) (show (l2 : Int) ≤ 2000 by omega)
      have p2 := mul_le_of bg2.1 (show _ ≤ 172800000 by omega) (show (0 : Int) ≤ (l : Int) by omega) (show (l : Int) ≤ 2000 by omega)
      have w1 := w64_id (x := yGn (mN v) x m l * (l2 : Int)) (by omega) (by omega)
      have w2 := w64_id (x := yGn (gUp (mN v) 57 x s) x m2 l2 * (l : Int)) (by omega) (by omega)
      refine Gx_if_ne (tgt := 40) dX2_howBy_34 (by decide) (fun _ => ?_) (fun hz => absurd hz (by decide))
      refine Gx_lload_n (i := 3) dX2_howBy_40 rfl rfl ?_
      refine Gx_iload dX2_howBy_41 rfl ?_
      refine Gx_i2l dX2_howBy_43 ?_
      refine Gx_aload_n (i := 0) dX2_howBy_44 rfl rfl ?_
      refine gf_X2_350_22 dX2_howBy_45 rfl rfl ?_
      rw [h582]
      refine Gx_aload_n (i := 0) dX2_howBy_48 rfl rfl ?_
      refine gf_X2_353_22 dX2_howBy_49 rfl rfl ?_
      rw [h592]
      refine Gx_i2l dX2_howBy_52 ?_
      refine cl_X2_346 dX2_howBy_53 rfl ⟨(Nat.le_of_ble_eq_true rfl), (Nat.le_of_ble_eq_true rfl)⟩ rfl ?_
      refine ct_X2_isLess ?_
      rw [w1, w2]
      refine Gx_if_eq (tgt := 63) dX2_howBy_56 (by decide) (fun c56 => ?_) (fun c56 => ?_)
      · refine Gx_aload_n (i := 0) dX2_howBy_63 rfl rfl ?_
        refine gf_X2_350_22 dX2_howBy_64 rfl rfl ?_
        rw [h582]
        refine Gx_aload_n (i := 0) dX2_howBy_67 rfl rfl ?_
        refine gf_X2_353_22 dX2_howBy_68 rfl rfl ?_
        rw [h592]
        refine Gx_i2l dX2_howBy_71 ?_
        refine Gx_lload_n (i := 3) dX2_howBy_72 rfl rfl ?_
        refine Gx_iload dX2_howBy_73 rfl ?_
        refine Gx_i2l dX2_howBy_75 ?_
        refine cl_X2_346 dX2_howBy_76 rfl ⟨(Nat.le_of_ble_eq_true rfl), (Nat.le_of_ble_eq_true rfl)⟩ rfl ?_
        refine ct_X2_isLess ?_
        rw [w1, w2]
        refine Gx_if_eq (tgt := 86) dX2_howBy_79 (by decide) (fun c79 => ?_) (fun c79 => ?_)
        · refine Gx_iconst ⟨by decide, by decide⟩ dX2_howBy_86 ?_
          refine Gx_ireturn dX2_howBy_87 trivial ?_
          have kk := k1 v2 m l m2 l2 hml hml2 (oScr_t hS1 hS2) h582 h592
          unfold yHow at kk
          first
          | (rw [if_pos (by by_cases z : yGn (mN v) x m l * (l2 : Int) < yGn (gUp (mN v) 57 x s) x m2 l2 * (l : Int); exact z; rw [if_neg z] at c56; exact absurd rfl c56)] at kk
             exact kk)
          | (rw [if_neg (by intro z; rw [if_pos z] at c56; exact absurd c56 (by decide)), if_pos (by by_cases z : yGn (gUp (mN v) 57 x s) x m2 l2 * (l : Int) < yGn (mN v) x m l * (l2 : Int); exact z; rw [if_neg z] at c79; exact absurd rfl c79)] at kk
             exact kk)
          | (rw [if_neg (by intro z; rw [if_pos z] at c56; exact absurd c56 (by decide)), if_neg (by intro z; rw [if_pos z] at c79; exact absurd c79 (by decide))] at kk
             exact kk)
        · refine Gx_iconst ⟨by decide, by decide⟩ dX2_howBy_82 ?_
          refine Gx_goto (tgt := 87) dX2_howBy_83 (by decide) ?_
          refine Gx_ireturn dX2_howBy_87 trivial ?_
          have kk := k1 v2 m l m2 l2 hml hml2 (oScr_t hS1 hS2) h582 h592
          unfold yHow at kk
          first
          | (rw [if_pos (by by_cases z : yGn (mN v) x m l * (l2 : Int) < yGn (gUp (mN v) 57 x s) x m2 l2 * (l : Int); exact z; rw [if_neg z] at c56; exact absurd rfl c56)] at kk
             exact kk)
          | (rw [if_neg (by intro z; rw [if_pos z] at c56; exact absurd c56 (by decide)), if_pos (by by_cases z : yGn (gUp (mN v) 57 x s) x m2 l2 * (l : Int) < yGn (mN v) x m l * (l2 : Int); exact z; rw [if_neg z] at c79; exact absurd rfl c79)] at kk
             exact kk)
          | (rw [if_neg (by intro z; rw [if_pos z] at c56; exact absurd c56 (by decide)), if_neg (by intro z; rw [if_pos z] at c79; exact absurd c79 (by decide))] at kk
             exact kk)
      · refine Gx_iconst ⟨by decide, by decide⟩ dX2_howBy_59 ?_
        refine Gx_goto (tgt := 87) dX2_howBy_60 (by decide) ?_
        refine Gx_ireturn dX2_howBy_87 trivial ?_
        have kk := k1 v2 m l m2 l2 hml hml2 (oScr_t hS1 hS2) h582 h592
        unfold yHow at kk
        first
        | (rw [if_pos (by by_cases z : yGn (mN v) x m l * (l2 : Int) < yGn (gUp (mN v) 57 x s) x m2 l2 * (l : Int); exact z; rw [if_neg z] at c56; exact absurd rfl c56)] at kk
           exact kk)
        | (rw [if_neg (by intro z; rw [if_pos z] at c56; exact absurd c56 (by decide)), if_pos (by by_cases z : yGn (gUp (mN v) 57 x s) x m2 l2 * (l : Int) < yGn (mN v) x m l * (l2 : Int); exact z; rw [if_neg z] at c79; exact absurd rfl c79)] at kk
           exact kk)
        | (rw [if_neg (by intro z; rw [if_pos z] at c56; exact absurd c56 (by decide)), if_neg (by intro z; rw [if_pos z] at c79; exact absurd c79 (by decide))] at kk
           exact kk)
    · rw [hm1] at hno
      refine Gx_if_ne (tgt := 40) dX2_howBy_34 (by decide) (fun hz => absurd hz (by decide)) (fun _ => ?_)
      refine Gx_bipush dX2_howBy_37 ⟨by decide, by decide⟩ ?_
      refine Gx_ireturn dX2_howBy_39 trivial ?_
      exact k0 (Or.inr hno) v2 (oScr_t hS1 hS2)
  · have e57 : gUp (mN v) 57 x (v 57 x) = mN v := by
      rw [← mN_so hx.1 hx.2]
      exact gUp_same
    rw [e57] at hno
    refine Gx_if_ne (tgt := 17) dX2_howBy_11 (by decide) (fun hz => absurd hz (by decide)) (fun _ => ?_)
    refine Gx_bipush dX2_howBy_14 ⟨by decide, by decide⟩ ?_
    refine Gx_ireturn dX2_howBy_16 trivial ?_
    exact k0 (Or.inl hno) v1 hS1
set_option maxHeartbeats 2000000 in
theorem ct_X2_better {x s : Int} (hok : yOK v) (hy : v 38 31 ≤ 9999) (kB : ¬ ((0 ≤ x ∧ x < v 38 33) ∧ 0 ≤ s ∧ s < v 38 20) → Q (0, -1) v (gHd K) t) (k1 : (0 ≤ x ∧ x < v 38 33) → (0 ≤ s ∧ s < v 38 20) → ∀ (v1 : gM) (m l m' l' : Nat), oHas (mN v) m l → oHas (gUp (mN v) 57 x s) m' l' → oScr v v1 → Q (0, yHow (yGn (mN v) x m l) l (yGn (gUp (mN v) 57 x s) x m' l') l') (sFrac v1 (yGn (gUp (mN v) 57 x s) x m' l') l') (gHd K) t) (k0 : (0 ≤ x ∧ x < v 38 33) → (0 ≤ s ∧ s < v 38 20) → (oNo (mN v) ∨ oNo (gUp (mN v) 57 x s)) → ∀ v1, oScr v v1 → Q (0, -6) v1 (gHd K) t) : Ctr Γ mX2_better [(2, 38), (0, x), (0, s)] v (gHd K) t Q := by
  refine Ctr.ofG (ls := [(2, 38), (0, x), (0, s), (9, 0)]) rfl rfl rfl rfl rfl ?_
  refine Gx_aload_n (i := 0) dX2_better_0 rfl rfl ?_
  refine Gx_iload_n (i := 1) dX2_better_1 rfl rfl ?_
  refine cl_X2_227 dX2_better_2 rfl rfl ⟨(Nat.le_of_ble_eq_true rfl), (Nat.le_of_ble_eq_true rfl)⟩ rfl ?_
  refine ct_X2_isTree (by have := hok.2.2.1; omega) (fun hx => ?_) (fun hx => ?_)
  · refine Gx_if_eq (tgt := 16) dX2_better_5 (by decide) (fun hz => absurd hz (by decide)) (fun _ => ?_)
    refine Gx_aload_n (i := 0) dX2_better_8 rfl rfl ?_
    refine Gx_iload_n (i := 2) dX2_better_9 rfl rfl ?_
    refine cl_X2_212 dX2_better_10 rfl rfl ⟨(Nat.le_of_ble_eq_true rfl), (Nat.le_of_ble_eq_true rfl)⟩ rfl ?_
    refine ct_X2_isSort (by have := hok.1; omega) (fun hs => ?_) (fun hs => ?_)
    · refine Gx_if_ne (tgt := 18) dX2_better_13 (by decide) (fun _ => ?_) (fun hz => absurd hz (by decide))
      refine Gx_aload_n (i := 0) dX2_better_18 rfl rfl ?_
      refine Gx_iload_n (i := 1) dX2_better_19 rfl rfl ?_
      refine Gx_iload_n (i := 2) dX2_better_20 rfl rfl ?_
      refine cl_X2_359 dX2_better_21 rfl rfl ⟨(Nat.le_of_ble_eq_true rfl), (Nat.le_of_ble_eq_true rfl)⟩ rfl ?_
      refine ct_X2_howBy hok hy hx hs (fun v1 m l m2 l2 hml hml2 hS1 h58 h59 => ?_) (fun hno v1 hS1 => ?_)
      · have hh := yHow_le (a := yGn (mN v) x m l) (b := l) (c := yGn (gUp (mN v) 57 x s) x m2 l2) (d := l2)
        have hl2 := hml2.1.1
        refine Gx_istore_n_3 dX2_better_24 (Nat.le_of_ble_eq_true rfl) (Nat.ne_of_beq_eq_false rfl) ?_
        refine Gx_iload_n (i := 3) dX2_better_25 rfl rfl ?_
        refine Gx_bipush dX2_better_26 ⟨by decide, by decide⟩ ?_
        refine Gx_icmp_ne (tgt := 36) dX2_better_28 (by decide) (fun c28 => ?_) (fun c28 => ?_)
        · refine Gx_aload_n (i := 0) dX2_better_36 rfl rfl ?_
          refine Gx_aload_n (i := 0) dX2_better_37 rfl rfl ?_
          refine gf_X2_350_22 dX2_better_38 rfl rfl ?_
          rw [h58]
          refine Gx_aload_n (i := 0) dX2_better_41 rfl rfl ?_
          refine gf_X2_353_22 dX2_better_42 rfl rfl ?_
          rw [h59]
          refine Gx_i2l dX2_better_45 ?_
          refine Gx_iload_n (i := 3) dX2_better_46 rfl rfl ?_
          refine cl_X2_342 dX2_better_47 rfl rfl ⟨(Nat.le_of_ble_eq_true rfl), (Nat.le_of_ble_eq_true rfl)⟩ rfl ?_
          refine ct_X2_fraction (by omega) ?_
          refine Gx_ireturn dX2_better_50 trivial ?_
          first
          | exact k1 hx hs v1 m l m2 l2 hml hml2 hS1
          | exact k0 hx hs hno v1 hS1
          | (exfalso; omega)
        · refine Gx_bipush dX2_better_31 ⟨by decide, by decide⟩ ?_
          refine Gx_goto (tgt := 50) dX2_better_33 (by decide) ?_
          refine Gx_ireturn dX2_better_50 trivial ?_
          first
          | exact k1 hx hs v1 m l m2 l2 hml hml2 hS1
          | exact k0 hx hs hno v1 hS1
          | (exfalso; omega)
      · refine Gx_istore_n_3 dX2_better_24 (Nat.le_of_ble_eq_true rfl) (Nat.ne_of_beq_eq_false rfl) ?_
        refine Gx_iload_n (i := 3) dX2_better_25 rfl rfl ?_
        refine Gx_bipush dX2_better_26 ⟨by decide, by decide⟩ ?_
        refine Gx_icmp_ne (tgt := 36) dX2_better_28 (by decide) (fun hz => absurd hz (by decide)) (fun _ => ?_)
        refine Gx_bipush dX2_better_31 ⟨by decide, by decide⟩ ?_
        refine Gx_goto (tgt := 50) dX2_better_33 (by decide) ?_
        refine Gx_ireturn dX2_better_50 trivial ?_
        first
        | exact k1 hx hs v1 m l m2 l2 hml hml2 hS1
        | exact k0 hx hs hno v1 hS1
        | (exfalso; omega)
    · refine Gx_if_ne (tgt := 18) dX2_better_13 (by decide) (fun hz => absurd hz (by decide)) (fun _ => ?_)
      refine Gx_iconst ⟨by decide, by decide⟩ dX2_better_16 ?_
      refine Gx_ireturn dX2_better_17 trivial ?_
      exact kB (by omega)
  · refine Gx_if_eq (tgt := 16) dX2_better_5 (by decide) (fun _ => ?_) (fun hz => absurd hz (by decide))
    refine Gx_iconst ⟨by decide, by decide⟩ dX2_better_16 ?_
    refine Gx_ireturn dX2_better_17 trivial ?_
    exact kB (by omega)
/-- a tree does better by another sort -/
def yBet (u : gM) (x s : Int) : Prop := ∃ m l m' l' : Nat, oHas u m l ∧ oHas (gUp u 57 x s) m' l' ∧ yGn u x m l * l' < yGn (gUp u 57 x s) x m' l' * l
theorem yBet_iff {u : gM} {x s : Int} {m l m' l' : Nat} (hu : yOK u) (hs : 0 ≤ s ∧ s < u 38 20) (h : oHas u m l) (h' : oHas (gUp u 57 x s) m' l') : yHow (yGn u x m l) l (yGn (gUp u 57 x s) x m' l') l' = 1 ↔ yBet u x s := by
  constructor
  · intro e
    refine ⟨m, l, m', l', h, h', ?_⟩
    unfold yHow at e
    by_cases z : yGn u x m l * (l' : Int) < yGn (gUp u 57 x s) x m' l' * (l : Int)
    · exact z
    · rw [if_neg z] at e
      split at e <;> omega
  · rintro ⟨m1, l1, m2, l2, g, g', e⟩
    have e1 := oHas_u hu h g
    have e2 := oHas_u (yOK_57 hu hs) h' g'
    rw [e1.1, e1.2, e2.1, e2.2]
    exact if_pos e
theorem yBet_no {u : gM} {x s : Int} (h : oNo u ∨ oNo (gUp u 57 x s)) : ¬ yBet u x s := by
  rintro ⟨m1, l1, m2, l2, g, g', e⟩
  rcases h with h | h
  · exact h _ _ g.1 g.2
  · exact h _ _ g'.1 g'.2
/-- the first tree and sort of a kind by 10 t + s, or none -/
def oFst (P : Int → Int → Prop) (n k r : Int) : Prop := (r = -9 ∧ ∀ t s, 0 ≤ t → t < n → 0 ≤ s → s < k → ¬ P t s) ∨ ∃ t s, (0 ≤ t ∧ t < n) ∧ (0 ≤ s ∧ s < k) ∧ r = 10 * t + s ∧ P t s ∧ ∀ t' s', 0 ≤ t' → t' < n → 0 ≤ s' → s' < k → 10 * t' + s' < r → ¬ P t' s'
theorem oFst_u {P : Int → Int → Prop} {n k r r' : Int} (h : oFst P n k r) (h' : oFst P n k r') : r = r' := by
  rcases h with ⟨e, h⟩ | ⟨a, b, ha, hb, e, hp, hq⟩
  · rcases h' with ⟨e', h'⟩ | ⟨a', b', ha', hb', e', hp', hq'⟩
    · omega
    · exact absurd hp' (h a' b' ha'.1 ha'.2 hb'.1 hb'.2)
  · rcases h' with ⟨e', h'⟩ | ⟨a', b', ha', hb', e', hp', hq'⟩
    · exact absurd hp (h' a b ha.1 ha.2 hb.1 hb.2)
    · rcases Int.lt_trichotomy r r' with c | c | c
      · exact absurd hp (hq' a b ha.1 ha.2 hb.1 hb.2 (by omega))
      · exact c
      · exact absurd hp' (hq a' b' ha'.1 ha'.2 hb'.1 hb'.2 (by omega))

set_option maxHeartbeats 2000000 in
theorem lp_X2_hold1 {x : Int} {bc bs : Nat} {v0 : gM} (hok : yOK v0) (hy : v0 38 31 ≤ 9999) (hx : 0 ≤ x ∧ x < v0 38 33) (k1 : ∀ (v1 : gM) (r : Int), oScr v0 v1 → oFst (yBet (mN v0)) (v0 38 33) (v0 38 20) r → Q (0, r) v1 (gHd K) t) (cont : ∀ v1, oScr v0 v1 → (∀ t' s', 0 ≤ t' → t' < v0 38 33 → 0 ≤ s' → s' < v0 38 20 → 10 * t' + s' < 10 * (x + 1) → ¬ yBet (mN v0) t' s') → Gx Γ mX2_hold 57 [(2, 38), (0, x), (0, v0 38 20)] [] v1 (gHd K) t bc bs Q) : ∀ (j : Nat) (s : Int) (v : gM), 0 ≤ s → s + j = v0 38 20 → oScr v0 v → (∀ t' s', 0 ≤ t' → t' < v0 38 33 → 0 ≤ s' → s' < v0 38 20 → 10 * t' + s' < 10 * x + s → ¬ yBet (mN v0) t' s') → Gx Γ mX2_hold 26 [(2, 38), (0, x), (0, s)] [] v (gHd K) t bc bs Q := by
  intro j
  induction j with
  | zero =>
    intro s v h0 h1 hS hN
    have q20 := hS 38 20 (by omega)
    have h20 := hok.1
    have h33 := hok.2.2.1
    refine Gx_iload_n (i := 2) dX2_hold_26 rfl rfl ?_
    refine Gx_aload_n (i := 0) dX2_hold_27 rfl rfl ?_
    refine gf_X2_191_22 dX2_hold_28 rfl rfl ?_
    rw [q20]
    refine Gx_icmp_ge (tgt := 57) dX2_hold_31 (by decide) (fun c31 => ?_) (fun c31 => ?_)
    · have e0 : s = v0 38 20 := by omega
      rw [e0] at hN ⊢
      exact cont v hS (fun a b a0 a1 b0 b1 hab => hN a b a0 a1 b0 b1 (by omega))
    · exfalso
      omega
  | succ j ih =>
    intro s v h0 h1 hS hN
    have q20 := hS 38 20 (by omega)
    have h20 := hok.1
    have h33 := hok.2.2.1
    refine Gx_iload_n (i := 2) dX2_hold_26 rfl rfl ?_
    refine Gx_aload_n (i := 0) dX2_hold_27 rfl rfl ?_
    refine gf_X2_191_22 dX2_hold_28 rfl rfl ?_
    rw [q20]
    refine Gx_icmp_ge (tgt := 57) dX2_hold_31 (by decide) (fun c31 => ?_) (fun c31 => ?_)
    · exfalso
      omega
    · refine Gx_aload_n (i := 0) dX2_hold_34 rfl rfl ?_
      refine Gx_iload_n (i := 1) dX2_hold_35 rfl rfl ?_
      refine Gx_iload_n (i := 2) dX2_hold_36 rfl rfl ?_
      refine cl_X2_359 dX2_hold_37 rfl rfl ⟨(Nat.le_of_ble_eq_true rfl), (Nat.le_of_ble_eq_true rfl)⟩ rfl ?_
      have hov := oScr_ok hS hok
      have hm := oScr_m hS
      refine ct_X2_howBy hov (by rw [hS 38 31 (by omega)]; exact hy) (by rw [hS 38 33 (by omega)]; exact hx) (by rw [q20]; omega) (fun v1 m l m2 l2 hml hml2 hS1 h58 h59 => ?_) (fun hno v1 hS1 => ?_)
      · rw [hm] at hml hml2 ⊢
        have hb := yBet_iff (x := x) (s := s) (yOK_N hok) (by rw [mN_c (by omega)]; omega) hml hml2
        have hh := yHow_le (a := yGn (mN v0) x m l) (b := l) (c := yGn (gUp (mN v0) 57 x s) x m2 l2) (d := l2)
        refine Gx_iconst ⟨by decide, by decide⟩ dX2_hold_40 ?_
        refine Gx_icmp_ne (tgt := 51) dX2_hold_41 (by decide) (fun c41 => ?_) (fun c41 => ?_)
        · refine Gx_iinc_2 dX2_hold_51 (Nat.le_of_ble_eq_true rfl) (Nat.ne_of_beq_eq_false rfl) ?_
          try simp (disch := omega) only [w32_id]
          refine Gx_goto (tgt := 26) dX2_hold_54 (by decide) ?_
          refine ih (s + 1) v1 (by omega) (by omega) (oScr_t hS hS1) (fun a b a0 a1 b0 b1 hab => ?_)
          by_cases c : 10 * a + b < 10 * x + s
          · exact hN a b a0 a1 b0 b1 c
          · have ea : a = x := by omega
            have eb : b = s := by omega
            rw [ea, eb]
            first
            | exact hb
            | exact fun z => c41 (hb.2 z)
        · refine Gx_bipush dX2_hold_44 ⟨by decide, by decide⟩ ?_
          refine Gx_iload_n (i := 1) dX2_hold_46 rfl rfl ?_
          refine Gx_imul dX2_hold_47 ?_
          try simp (disch := omega) only [w32_id]
          refine Gx_iload_n (i := 2) dX2_hold_48 rfl rfl ?_
          refine Gx_iadd dX2_hold_49 ?_
          try simp (disch := omega) only [w32_id]
          refine Gx_ireturn dX2_hold_50 trivial ?_
          refine k1 v1 _ (oScr_t hS hS1) (Or.inr ⟨x, s, hx, ⟨h0, by omega⟩, rfl, hb.1 (by omega), hN⟩)
      · rw [hm] at hno
        have hb := yBet_no hno
        refine Gx_iconst ⟨by decide, by decide⟩ dX2_hold_40 ?_
        refine Gx_icmp_ne (tgt := 51) dX2_hold_41 (by decide) (fun _ => ?_) (fun hz => absurd hz (by decide))
        refine Gx_iinc_2 dX2_hold_51 (Nat.le_of_ble_eq_true rfl) (Nat.ne_of_beq_eq_false rfl) ?_
        try simp (disch := omega) only [w32_id]
        refine Gx_goto (tgt := 26) dX2_hold_54 (by decide) ?_
        refine ih (s + 1) v1 (by omega) (by omega) (oScr_t hS hS1) (fun a b a0 a1 b0 b1 hab => ?_)
        by_cases c : 10 * a + b < 10 * x + s
        · exact hN a b a0 a1 b0 b1 c
        · have ea : a = x := by omega
          have eb : b = s := by omega
          rw [ea, eb]
          first
          | exact hb
          | exact fun z => c41 (hb.2 z)
set_option maxHeartbeats 2000000 in
theorem lp_X2_hold2 {bc bs : Nat} {v0 : gM} (hok : yOK v0) (hy : v0 38 31 ≤ 9999) (k1 : ∀ (v1 : gM) (r : Int), oScr v0 v1 → oFst (yBet (mN v0)) (v0 38 33) (v0 38 20) r → Q (0, r) v1 (gHd K) t) : ∀ (j : Nat) (x : Int) (v : gM) (z2 : gV), 0 ≤ x → x + j = v0 38 33 → oScr v0 v → (∀ t' s', 0 ≤ t' → t' < v0 38 33 → 0 ≤ s' → s' < v0 38 20 → 10 * t' + s' < 10 * x → ¬ yBet (mN v0) t' s') → Gx Γ mX2_hold 16 [(2, 38), (0, x), z2] [] v (gHd K) t bc bs Q := by
  intro j
  induction j with
  | zero =>
    intro x v z2 h0 h1 hS hN
    have q33 := hS 38 33 (by omega)
    have h20 := hok.1
    have h33 := hok.2.2.1
    refine Gx_iload_n (i := 1) dX2_hold_16 rfl rfl ?_
    refine Gx_aload_n (i := 0) dX2_hold_17 rfl rfl ?_
    refine gf_X2_203_22 dX2_hold_18 rfl rfl ?_
    rw [q33]
    refine Gx_icmp_ge (tgt := 63) dX2_hold_21 (by decide) (fun c21 => ?_) (fun c21 => ?_)
    · refine Gx_bipush dX2_hold_63 ⟨by decide, by decide⟩ ?_
      refine Gx_ireturn dX2_hold_65 trivial ?_
      refine k1 v _ hS (Or.inl ⟨rfl, fun a b a0 a1 b0 b1 => hN a b a0 a1 b0 b1 (by omega)⟩)
    · exfalso
      omega
  | succ j ih =>
    intro x v z2 h0 h1 hS hN
    have q33 := hS 38 33 (by omega)
    have h20 := hok.1
    have h33 := hok.2.2.1
    refine Gx_iload_n (i := 1) dX2_hold_16 rfl rfl ?_
    refine Gx_aload_n (i := 0) dX2_hold_17 rfl rfl ?_
    refine gf_X2_203_22 dX2_hold_18 rfl rfl ?_
    rw [q33]
    refine Gx_icmp_ge (tgt := 63) dX2_hold_21 (by decide) (fun c21 => ?_) (fun c21 => ?_)
    · refine Gx_bipush dX2_hold_63 ⟨by decide, by decide⟩ ?_
      refine Gx_ireturn dX2_hold_65 trivial ?_
      exfalso
      omega
    · refine Gx_iconst ⟨by decide, by decide⟩ dX2_hold_24 ?_
      refine Gx_istore_n_2 dX2_hold_25 (Nat.le_of_ble_eq_true rfl) (Nat.ne_of_beq_eq_false rfl) ?_
      refine lp_X2_hold1 hok hy ⟨h0, by omega⟩ k1 (fun v1 hS1 hN1 => ?_) (v0 38 20).toNat 0 v (by omega) (by omega) hS (fun a b a0 a1 b0 b1 hab => hN a b a0 a1 b0 b1 (by omega))
      refine Gx_iinc_1 dX2_hold_57 (Nat.le_of_ble_eq_true rfl) (Nat.ne_of_beq_eq_false rfl) ?_
      try simp (disch := omega) only [w32_id]
      refine Gx_goto (tgt := 16) dX2_hold_60 (by decide) ?_
      exact ih (x + 1) v1 _ (by omega) (by omega) hS1 hN1
set_option maxHeartbeats 1000000 in
theorem ct_X2_hold  (hok : yOK v) (hy : v 38 31 ≤ 9999) (k1 : (∃ m l, oHas (mN v) m l) → ∀ (v1 : gM) (r : Int), oScr v v1 → oFst (yBet (mN v)) (v 38 33) (v 38 20) r → Q (0, r) v1 (gHd K) t) (k0 : oNo (mN v) → ∀ v1, oScr v v1 → Q (0, -6) v1 (gHd K) t) : Ctr Γ mX2_hold [(2, 38)] v (gHd K) t Q := by
  refine Ctr.ofG (ls := [(2, 38), (9, 0), (9, 0)]) rfl rfl rfl rfl rfl ?_
  refine Gx_aload_n (i := 0) dX2_hold_0 rfl rfl ?_
  refine cl_X2_305 dX2_hold_1 rfl rfl ⟨(Nat.le_of_ble_eq_true rfl), (Nat.le_of_ble_eq_true rfl)⟩ rfl ?_
  refine ct_X2_layRing hok hy (fun v1 m l hrg hml hT1 hm1 h46 h47 => ?_) (fun hno v1 hS1 => ?_)
  · refine Gx_if_ne (tgt := 10) dX2_hold_4 (by decide) (fun _ => ?_) (fun hz => absurd hz (by decide))
    refine Gx_aload_n (i := 0) dX2_hold_10 rfl rfl ?_
    refine cl_X2_296 dX2_hold_11 rfl rfl ⟨(Nat.le_of_ble_eq_true rfl), (Nat.le_of_ble_eq_true rfl)⟩ rfl ?_
    refine ct_X2_back (oTrip_cs hok hT1).2.2.2.1 (fun v2 hb => ?_)
    refine Gx_iconst ⟨by decide, by decide⟩ dX2_hold_14 ?_
    refine Gx_istore_n_1 dX2_hold_15 (Nat.le_of_ble_eq_true rfl) (Nat.ne_of_beq_eq_false rfl) ?_
    refine lp_X2_hold2 hok hy (k1 ⟨m, l, hrg, hml⟩) (v 38 33).toNat 0 v2 _ (by omega) (by have := hok.2.2.1; omega) (oTrip_back hT1 hb).1 (fun a b a0 a1 b0 b1 hab => by omega)
  · refine Gx_if_ne (tgt := 10) dX2_hold_4 (by decide) (fun hz => absurd hz (by decide)) (fun _ => ?_)
    refine Gx_bipush dX2_hold_7 ⟨by decide, by decide⟩ ?_
    refine Gx_ireturn dX2_hold_9 trivial ?_
    exact k0 hno v1 hS1
end
