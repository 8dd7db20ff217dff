/-! AcornYears: lost -/
section
variable {Γ : gC} {v : gM} {K : gH} {t : Nat} {Q : gQ}
/-- the calendar is no sort's array -/
abbrev aCa (v : gM) (h : gH) : Prop := ∀ s, 0 ≤ s → s < (h (v 0 7)).2 → v (v (v 0 7) s) 0 ≠ v 0 8
theorem aN_54u {v : gM} {h : gH} {x w : Int} (hW : aWf v h) (hc : aCa v h) (h0 : 0 ≤ x) (h1 : x < (h (v 0 8)).2) : aN (gUp v (v 0 8) x w) h 17 = gUp (aN v h 17) 54 x w ∧ aWf (gUp v (v 0 8) x w) h ∧ (a63 v h → a63 (gUp v (v 0 8) x w) h) := by
  obtain ⟨⟨w7, a1, a2, a3⟩, wS, ⟨w8, b1⟩, wT, wD⟩ := hW
  have ne : ∀ a k, a ≠ v 0 8 → gUp v (v 0 8) x w a k = v a k := fun a k ha => gUp_ne2 (fun z => ha z.1)
  have low : ∀ a k, a < 37 → gUp v (v 0 8) x w a k = v a k := fun a k ha => ne a k (by omega)
  have n7 : v 0 7 ≠ v 0 8 := fun z => by rw [z] at a1; omega
  have kS : ∀ z, 0 ≤ z → z < (h (v 0 7)).2 → v (v 0 7) z ≠ v 0 8 := fun z z0 z1 e => by
    have := (wS z z0 z1).2.1
    rw [e] at this
    omega
  have kT : ∀ i, 0 ≤ i → i < v 0 32 → v 16 i ≠ v 0 8 := fun i i0 i1 e => by
    have := (wT i i0 i1).2
    rw [e] at this
    omega
  refine ⟨?_, ?_, fun h63 z z0 z1 z6 => ?_⟩
  · funext a k
    by_cases c54 : a = 54 ∧ k = x
    · rw [c54.1, c54.2, gUp_eq2 rfl rfl]
      show (if 0 ≤ x ∧ x < (h (gUp v (v 0 8) x w 0 8)).2 then gUp v (v 0 8) x w (gUp v (v 0 8) x w 0 8) x else 0) = w
      rw [low 0 8 (by omega), if_pos ⟨h0, h1⟩, gUp_eq2 rfl rfl]
    · rw [gUp_ne2 c54]
      unfold aN
      rw [low 0 7 (by omega), low 0 8 (by omega), low 0 10 (by omega), low 0 11 (by omega), low 0 12 (by omega), low 0 32 (by omega), low 17 2 (by omega), low 7 k (by omega), low 8 k (by omega), low 9 k (by omega), low 5 k (by omega), low 16 k (by omega), low (17 + 1) k (by omega), low (17 + 2) k (by omega)]
      by_cases c50 : a = 50
      · subst c50
        show (if 0 ≤ k ∧ k < 7 * (h (v 0 7)).2 then aS (gUp v (v 0 8) x w) h (gUp v (v 0 8) x w (v 0 7) (k / 7)) (k % 7) else 0) = (if 0 ≤ k ∧ k < 7 * (h (v 0 7)).2 then aS v h (v (v 0 7) (k / 7)) (k % 7) else 0)
        by_cases cr : 0 ≤ k ∧ k < 7 * (h (v 0 7)).2
        · rw [if_pos cr, if_pos cr, ne (v 0 7) (k / 7) n7]
          have l1 := kS (k / 7) (by omega) (by omega)
          have l2 := hc (k / 7) (by omega) (by omega)
          unfold aS
          rw [low 0 35 (by omega), ne _ 0 l1, ne _ (k % 7 - 1) l2, ne _ 1 l1, ne _ 2 l1, ne _ 3 l1]
        · rw [if_neg cr, if_neg cr]
      · rw [if_neg c50, if_neg c50]
        by_cases c4 : a = 54
        · subst c4
          show (if 0 ≤ k ∧ k < (h (v 0 8)).2 then gUp v (v 0 8) x w (v 0 8) k else 0) = (if 0 ≤ k ∧ k < (h (v 0 8)).2 then v (v 0 8) k else 0)
          rw [gUp_ne2 (by omega)]
        · rw [if_neg c4, if_neg c4]
          by_cases c5 : a = 57
          · subst c5
            show (if 0 ≤ k ∧ k < v 0 32 then gUp v (v 0 8) x w (v 16 k) 0 else 0) = (if 0 ≤ k ∧ k < v 0 32 then v (v 16 k) 0 else 0)
            by_cases cr : 0 ≤ k ∧ k < v 0 32
            · rw [if_pos cr, if_pos cr, ne _ _ (kT k cr.1 cr.2)]
            · rw [if_neg cr, if_neg cr]
          · rw [if_neg c5, if_neg c5]
  · unfold aWf
    rw [low 0 7 (by omega), low 0 8 (by omega), low 0 32 (by omega)]
    refine ⟨⟨w7, a1, a2, a3⟩, fun z z0 z1 => ?_, ⟨w8, b1⟩, fun i i0 i1 => ?_, fun i j i0 i1 j0 j1 hij => ?_⟩
    · rw [ne (v 0 7) z n7, ne _ 0 (kS z z0 z1)]
      exact wS z z0 z1
    · rw [low 16 i (by omega)]
      exact wT i i0 i1
    · rw [low 16 i (by omega), low 16 j (by omega)]
      exact wD i j i0 i1 j0 j1 hij
  · rw [low 0 7 (by omega)] at z1 z6 ⊢
    have l1 := kS z z0 z1
    rw [ne (v 0 7) z n7] at z6 ⊢
    rw [ne _ 3 l1]
    exact h63 z z0 z1 z6
theorem aHy_54 {v : gM} {h : gH} {x w : Int} (hH : aHy v h) (hc : aCa v h) (h0 : 0 ≤ x) (h1 : x < (h (v 0 8)).2) (hw : 0 ≤ w ∧ w ≤ 2) : aHy (gUp v (v 0 8) x w) h ∧ aN (gUp v (v 0 8) x w) h 17 = gUp (aN v h 17) 54 x w := by
  obtain ⟨g1, g2, g3, g4, g5, g6⟩ := hH
  obtain ⟨n1, n2, n3⟩ := aN_54u (w := w) g1 hc h0 h1
  have w8 := g1.2.2.1.1
  exact ⟨⟨n2, by rw [n1]; exact yOK_54 g2 hw, by rw [gUp_ne2 (by omega)]; exact g3, by rw [gUp_ne2 (by omega)]; exact g4, n3 g5, by rw [gUp_ne2 (by omega)]; exact g6⟩, n1⟩
theorem yLs_same {u : gM} {x w : Int} (hu : yOK u) (hx : u 54 x = w) : ¬ yLs u x w := by
  intro hb
  obtain ⟨m1, l1, m2, l2, b1, b2, b3, b4⟩ := hb
  have es : gUp u 54 x w = u := by
    funext a k
    by_cases z : a = 54 ∧ k = x
    · rw [gUp_eq2 z.1 z.2, z.1, z.2, hx]
    · rw [gUp_ne2 z]
  rw [es] at b2 b4
  obtain ⟨z1, z2⟩ := oHas_u hu b1 b2
  rw [z1, z2] at b4
  omega
theorem aScr_Ca {v v1 : gM} {h : gH} (hW : aWf v h) (hS : aScr v v1) (hc : aCa v h) : aCa v1 h := by
  intro s s0 s1
  have e7 : v1 0 7 = v 0 7 := hS 0 7 (by omega)
  rw [e7] at s1 ⊢
  have w7 := hW.1.1
  have g66 := (hW.2.1 s s0 s1).1
  rw [hS (v 0 7) s (by omega), hS _ 0 (by omega), hS 0 8 (by omega)]
  exact hc s s0 s1

set_option maxHeartbeats 4000000 in
theorem lp_X0_lost1 {n i wa : Int} {m l : Nat} {bc bs : Nat} {v0 : gM} (hH : aHy v0 (gHd K)) (hc : aCa v0 (gHd K)) (hml : oHas (aN v0 (gHd K) 17) m l) (bP : 0 ≤ (yTot yP1 (yIt (aN v0 (gHd K) 17) m) l) ∧ (yTot yP1 (yIt (aN v0 (gHd K) 17) m) l) ≤ 2000000) (bO : 0 ≤ (yTot yO1 (yIt (aN v0 (gHd K) 17) m) l) ∧ (yTot yO1 (yIt (aN v0 (gHd K) 17) m) l) ≤ 2000000) (hn : (gHd K (v0 0 8)).2 = n) (k1 : ∀ (v1 : gM) (r : Int), aScr v0 v1 → oFst (yLs (aN v0 (gHd K) 17)) n 3 r → Q (0, r) v1 (gHd K) t) (hi : 0 ≤ i ∧ i < n) (hwa : v0 (v0 0 8) i = wa) (cont : ∀ v1 z8, aScr v0 v1 → (∀ tt ss, 0 ≤ tt → tt < n → 0 ≤ ss → ss < 3 → 10 * tt + ss < 10 * i + 3 → ¬ yLs (aN v0 (gHd K) 17) tt ss) → Gx Γ mX0_lost 154 [(2, 0), (1, (yTot yP1 (yIt (aN v0 (gHd K) 17) m) l)), (9, 0), (1, (yTot yO1 (yIt (aN v0 (gHd K) 17) m) l)), (9, 0), (0, i), (0, wa), (0, 3), z8] [] v1 (gHd K) t bc bs Q) : ∀ (j : Nat) (w : Int) (v : gM) (z8 : gV), 0 ≤ w → w + j = 3 → aScr v0 v → (∀ tt ss, 0 ≤ tt → tt < n → 0 ≤ ss → ss < 3 → 10 * tt + ss < 10 * i + w → ¬ yLs (aN v0 (gHd K) 17) tt ss) → Gx Γ mX0_lost 60 [(2, 0), (1, (yTot yP1 (yIt (aN v0 (gHd K) 17) m) l)), (9, 0), (1, (yTot yO1 (yIt (aN v0 (gHd K) 17) m) l)), (9, 0), (0, i), (0, wa), (0, w), z8] [] v (gHd K) t bc bs Q := by
  intro j
  induction j with
  | zero =>
    intro w v z8 h0 h1 hS hB
    have hH0 := hH
    obtain ⟨g1, g2, g3, g4, g5, g6⟩ := hH
    have h32 := g2.2.2.1
    rw [aN_c33] at h32
    have h28 := g2.2.2.2.2.2.2.2.1
    rw [aN_c28, hn] at h28
    have w8 := g1.2.2.1.1
    have e8 : v 0 8 = v0 0 8 := hS 0 8 (by omega)
    have hh8 : gHd K (v0 0 8) = (11, n) := by rw [← hn]; exact pairEq g1.2.2.1.2
    have hh8v : gHd K (v 0 8) = (11, n) := by rw [e8]; exact hh8
    refine Gx_iload dX0_lost_60 rfl ?_
    refine Gx_iconst ⟨by decide, by decide⟩ dX0_lost_62 ?_
    refine Gx_icmp_ge (tgt := 154) dX0_lost_63 (by decide) (fun c63 => ?_) (fun c63 => ?_)
    · have e0 : w = 3 := by omega
      subst e0
      exact cont v z8 hS hB
    · exfalso
      omega
  | succ j ih =>
    intro w v z8 h0 h1 hS hB
    have hH0 := hH
    obtain ⟨g1, g2, g3, g4, g5, g6⟩ := hH
    have h32 := g2.2.2.1
    rw [aN_c33] at h32
    have h28 := g2.2.2.2.2.2.2.2.1
    rw [aN_c28, hn] at h28
    have w8 := g1.2.2.1.1
    have e8 : v 0 8 = v0 0 8 := hS 0 8 (by omega)
    have hh8 : gHd K (v0 0 8) = (11, n) := by rw [← hn]; exact pairEq g1.2.2.1.2
    have hh8v : gHd K (v 0 8) = (11, n) := by rw [e8]; exact hh8
    have hHv := aHy_scr hH0 hS
    have nv := aScr_N g1 hS
    have cv := aScr_Ca g1 hS hc
    have u54 : (aN v0 (gHd K) 17) 54 i = wa := by rw [aN_54 hi.1 (by omega)]; exact hwa
    have hwr : 0 ≤ wa ∧ wa ≤ 2 := by
      have := g2.2.2.2.2.2.2.2.2.1 i hi.1 (by rw [aN_c28]; omega)
      rw [u54] at this
      exact this
    obtain ⟨hA54, nA54⟩ := aHy_54 (w := w) hHv cv hi.1 (by rw [e8]; omega) ⟨h0, by omega⟩
    rw [e8] at hA54 nA54
    rw [nv] at nA54
    have bk : ∀ v1, aScr (gUp v (v0 0 8) i w) v1 → aScr v0 (gUp v1 (v0 0 8) i wa) := fun v1 s1 a k hk => by
      by_cases g : a = v0 0 8 ∧ k = i
      · rw [gUp_eq2 g.1 g.2, g.1, g.2]
        exact hwa.symm
      · rw [gUp_ne2 g, s1 a k hk, gUp_ne2 g]
        exact hS a k hk
    refine Gx_iload dX0_lost_60 rfl ?_
    refine Gx_iconst ⟨by decide, by decide⟩ dX0_lost_62 ?_
    refine Gx_icmp_ge (tgt := 154) dX0_lost_63 (by decide) (fun c63 => ?_) (fun c63 => ?_)
    · exfalso
      omega
    · refine Gx_aload_n (i := 0) dX0_lost_66 rfl rfl ?_
      refine gf_X0_126_20 dX0_lost_67 rfl rfl ?_
      rw [e8]
      refine Gx_iload dX0_lost_70 rfl ?_
      refine Gx_iload dX0_lost_72 rfl ?_
      refine Gx_bastore dX0_lost_74 hh8 (by first | omega | (simp (disch := omega) only [w32_id]; omega)) (by omega) ?_
      refine Gx_iload dX0_lost_75 rfl ?_
      refine Gx_iload dX0_lost_77 rfl ?_
      refine Gx_icmp_eq (tgt := 118) dX0_lost_79 (by decide) (fun c79 => ?_) (fun c79 => ?_)
      · refine Gx_iconst ⟨by decide, by decide⟩ dX0_lost_118 ?_
        refine Gx_istore_8 dX0_lost_119 (Nat.le_of_ble_eq_true rfl) (Nat.ne_of_beq_eq_false rfl) ?_
        refine Gx_aload_n (i := 0) dX0_lost_121 rfl rfl ?_
        refine gf_X0_126_20 dX0_lost_122 rfl rfl ?_
        first
        | rw [x8]
        | rw [show gUp v (v0 0 8) i w 0 8 = v0 0 8 by rw [gUp_ne2 (by omega)]; exact e8]
        refine Gx_iload dX0_lost_125 rfl ?_
        refine Gx_iload dX0_lost_127 rfl ?_
        refine Gx_bastore dX0_lost_129 hh8 (by first | omega | (simp (disch := omega) only [w32_id]; omega)) (by omega) ?_
        refine Gx_iload dX0_lost_130 rfl ?_
        refine Gx_if_eq (tgt := 144) dX0_lost_132 (by decide) (fun _ => ?_) (fun hz => absurd hz (by decide))
        refine Gx_iload dX0_lost_144 rfl ?_
        refine Gx_iconst ⟨by decide, by decide⟩ dX0_lost_146 ?_
        refine Gx_iadd dX0_lost_147 ?_
        try simp (disch := omega) only [w32_id]
        refine Gx_i2b dX0_lost_148 ?_
        refine Gx_istore_7 dX0_lost_149 (Nat.le_of_ble_eq_true rfl) (Nat.ne_of_beq_eq_false rfl) ?_
        refine Gx_goto (tgt := 60) dX0_lost_151 (by decide) ?_
        rw [w8_id (by omega) (by omega)]
        first
        | exact ih (w + 1) _ _ (by omega) (by omega) (bk _ (aScr_r _)) (bef_s hB (yLs_same g2 (by omega)) (by omega) (by omega))
        | exact ih (w + 1) _ _ (by omega) (by omega) (bkA v1 hS1) (bef_s hB (yLs_no hno) (by omega) (by omega))
        | exact ih (w + 1) _ _ (by omega) (by omega) (bkA v1 hS1) (bef_s hB (fun z => absurd ((yLs_iff g2 (by omega) hml hml').mpr z) (by omega)) (by omega) (by omega))
      · refine Gx_aload_n (i := 0) dX0_lost_82 rfl rfl ?_
        refine cl_X0_477 dX0_lost_83 rfl rfl ⟨(Nat.le_of_ble_eq_true rfl), (Nat.le_of_ble_eq_true rfl)⟩ rfl ?_
        refine Ctr_name (fun vA eA => ?_)
        rw [← eA] at hA54 nA54
        have bkA := bk
        rw [← eA] at bkA
        have q32 : vA 0 32 = v0 0 32 := by rw [eA, gUp_ne2 (by omega)]; exact hS 0 32 (by omega)
        have q8 : vA 0 8 = v0 0 8 := by rw [eA, gUp_ne2 (by omega)]; exact e8
        refine ct_X0_goR hA54 (fun v1 m' l' hml' hS1 e41 e42 l1 l2 hA e44 hu q33 q22 b46 bO' bP' => ?_) (fun hno v1 hS1 => ?_)
        all_goals rw [nA54] at *
        all_goals have x8 : v1 0 8 = v0 0 8 := by rw [hS1 0 8 (by omega)]; exact q8
        · refine Gx_if_eq (tgt := 118) dX0_lost_86 (by decide) (fun hz => absurd hz (by decide)) (fun _ => ?_)
          refine Gx_aload_n (i := 0) dX0_lost_89 rfl rfl ?_
          refine cl_X0_480 dX0_lost_90 rfl rfl ⟨(Nat.le_of_ble_eq_true rfl), (Nat.le_of_ble_eq_true rfl)⟩ rfl ?_
          refine ct_X0_allPairs b46 (by rw [hS1 0 32 (by omega), q32]; exact h32) ?_
          rw [bO'.1]
          refine Gx_lconst0 dX0_lost_93 ?_
          try simp (disch := omega) only [w64_id]
          refine Gx_lcmpif_le (tgt := 118) dX0_lost_94 dX0_lost_95 (by decide) (fun c94 => ?_) (fun c94 => ?_)
          · refine Gx_iconst ⟨by decide, by decide⟩ dX0_lost_118 ?_
            refine Gx_istore_8 dX0_lost_119 (Nat.le_of_ble_eq_true rfl) (Nat.ne_of_beq_eq_false rfl) ?_
            refine Gx_aload_n (i := 0) dX0_lost_121 rfl rfl ?_
            refine gf_X0_126_20 dX0_lost_122 rfl rfl ?_
            first
            | rw [x8]
            | rw [show gUp v (v0 0 8) i w 0 8 = v0 0 8 by rw [gUp_ne2 (by omega)]; exact e8]
            refine Gx_iload dX0_lost_125 rfl ?_
            refine Gx_iload dX0_lost_127 rfl ?_
            refine Gx_bastore dX0_lost_129 hh8 (by first | omega | (simp (disch := omega) only [w32_id]; omega)) (by omega) ?_
            refine Gx_iload dX0_lost_130 rfl ?_
            refine Gx_if_eq (tgt := 144) dX0_lost_132 (by decide) (fun _ => ?_) (fun hz => absurd hz (by decide))
            refine Gx_iload dX0_lost_144 rfl ?_
            refine Gx_iconst ⟨by decide, by decide⟩ dX0_lost_146 ?_
            refine Gx_iadd dX0_lost_147 ?_
            try simp (disch := omega) only [w32_id]
            refine Gx_i2b dX0_lost_148 ?_
            refine Gx_istore_7 dX0_lost_149 (Nat.le_of_ble_eq_true rfl) (Nat.ne_of_beq_eq_false rfl) ?_
            refine Gx_goto (tgt := 60) dX0_lost_151 (by decide) ?_
            rw [w8_id (by omega) (by omega)]
            first
            | exact ih (w + 1) _ _ (by omega) (by omega) (bk _ (aScr_r _)) (bef_s hB (yLs_same g2 (by omega)) (by omega) (by omega))
            | exact ih (w + 1) _ _ (by omega) (by omega) (bkA v1 hS1) (bef_s hB (yLs_no hno) (by omega) (by omega))
            | exact ih (w + 1) _ _ (by omega) (by omega) (bkA v1 hS1) (bef_s hB (fun z => absurd ((yLs_iff g2 (by omega) hml hml').mpr z) (by omega)) (by omega) (by omega))
          · refine Gx_aload_n (i := 0) dX0_lost_98 rfl rfl ?_
            refine gf_X0_454_20 dX0_lost_99 rfl rfl ?_
            rw [hA.1]
            have p1 := mul_le_of bP'.1 bP'.2 bO.1 bO.2
            have p2 := mul_le_of bP.1 bP.2 bO'.2.1 bO'.2.2
            refine Gx_lload_n (i := 3) dX0_lost_102 rfl rfl ?_
            refine Gx_lmul dX0_lost_103 ?_
            rw [w64_id (by omega) (by omega)]
            refine Gx_lload_n (i := 1) dX0_lost_104 rfl rfl ?_
            refine Gx_aload_n (i := 0) dX0_lost_105 rfl rfl ?_
            refine cl_X0_480 dX0_lost_106 rfl rfl ⟨(Nat.le_of_ble_eq_true rfl), (Nat.le_of_ble_eq_true rfl)⟩ rfl ?_
            refine ct_X0_allPairs b46 (by rw [hS1 0 32 (by omega), q32]; exact h32) ?_
            rw [bO'.1]
            refine Gx_lmul dX0_lost_109 ?_
            rw [w64_id (x := (yTot yP1 (yIt (aN v0 (gHd K) 17) m) l) * _) (by omega) (by omega)]
            try simp (disch := omega) only [w64_id]
            refine Gx_lcmpif_ge (tgt := 118) dX0_lost_110 dX0_lost_111 (by decide) (fun c110 => ?_) (fun c110 => ?_)
            · refine Gx_iconst ⟨by decide, by decide⟩ dX0_lost_118 ?_
              refine Gx_istore_8 dX0_lost_119 (Nat.le_of_ble_eq_true rfl) (Nat.ne_of_beq_eq_false rfl) ?_
              refine Gx_aload_n (i := 0) dX0_lost_121 rfl rfl ?_
              refine gf_X0_126_20 dX0_lost_122 rfl rfl ?_
              first
              | rw [x8]
              | rw [show gUp v (v0 0 8) i w 0 8 = v0 0 8 by rw [gUp_ne2 (by omega)]; exact e8]
              refine Gx_iload dX0_lost_125 rfl ?_
              refine Gx_iload dX0_lost_127 rfl ?_
              refine Gx_bastore dX0_lost_129 hh8 (by first | omega | (simp (disch := omega) only [w32_id]; omega)) (by omega) ?_
              refine Gx_iload dX0_lost_130 rfl ?_
              refine Gx_if_eq (tgt := 144) dX0_lost_132 (by decide) (fun _ => ?_) (fun hz => absurd hz (by decide))
              refine Gx_iload dX0_lost_144 rfl ?_
              refine Gx_iconst ⟨by decide, by decide⟩ dX0_lost_146 ?_
              refine Gx_iadd dX0_lost_147 ?_
              try simp (disch := omega) only [w32_id]
              refine Gx_i2b dX0_lost_148 ?_
              refine Gx_istore_7 dX0_lost_149 (Nat.le_of_ble_eq_true rfl) (Nat.ne_of_beq_eq_false rfl) ?_
              refine Gx_goto (tgt := 60) dX0_lost_151 (by decide) ?_
              rw [w8_id (by omega) (by omega)]
              first
              | exact ih (w + 1) _ _ (by omega) (by omega) (bk _ (aScr_r _)) (bef_s hB (yLs_same g2 (by omega)) (by omega) (by omega))
              | exact ih (w + 1) _ _ (by omega) (by omega) (bkA v1 hS1) (bef_s hB (yLs_no hno) (by omega) (by omega))
              | exact ih (w + 1) _ _ (by omega) (by omega) (bkA v1 hS1) (bef_s hB (fun z => absurd ((yLs_iff g2 (by omega) hml hml').mpr z) (by omega)) (by omega) (by omega))
            · refine Gx_iconst ⟨by decide, by decide⟩ dX0_lost_114 ?_
              refine Gx_goto (tgt := 119) dX0_lost_115 (by decide) ?_
              refine Gx_istore_8 dX0_lost_119 (Nat.le_of_ble_eq_true rfl) (Nat.ne_of_beq_eq_false rfl) ?_
              refine Gx_aload_n (i := 0) dX0_lost_121 rfl rfl ?_
              refine gf_X0_126_20 dX0_lost_122 rfl rfl ?_
              first
              | rw [x8]
              | rw [show gUp v (v0 0 8) i w 0 8 = v0 0 8 by rw [gUp_ne2 (by omega)]; exact e8]
              refine Gx_iload dX0_lost_125 rfl ?_
              refine Gx_iload dX0_lost_127 rfl ?_
              refine Gx_bastore dX0_lost_129 hh8 (by first | omega | (simp (disch := omega) only [w32_id]; omega)) (by omega) ?_
              refine Gx_iload dX0_lost_130 rfl ?_
              refine Gx_if_eq (tgt := 144) dX0_lost_132 (by decide) (fun hz => absurd hz (by decide)) (fun _ => ?_)
              refine Gx_bipush dX0_lost_135 ⟨by decide, by decide⟩ ?_
              refine Gx_iload dX0_lost_137 rfl ?_
              refine Gx_imul dX0_lost_139 ?_
              try simp (disch := omega) only [w32_id]
              refine Gx_iload dX0_lost_140 rfl ?_
              refine Gx_iadd dX0_lost_142 ?_
              try simp (disch := omega) only [w32_id]
              refine Gx_ireturn dX0_lost_143 trivial ?_
              refine k1 _ _ (bkA v1 hS1) (Or.inr ⟨i, w, hi, ⟨h0, by omega⟩, by omega, ?_, fun t' s' t0 t1 s0 s1 hlt => hB t' s' t0 t1 s0 s1 (by omega)⟩)
              exact (yLs_iff g2 (by omega) hml hml').mp (by omega)
        · refine Gx_if_eq (tgt := 118) dX0_lost_86 (by decide) (fun _ => ?_) (fun hz => absurd hz (by decide))
          refine Gx_iconst ⟨by decide, by decide⟩ dX0_lost_118 ?_
          refine Gx_istore_8 dX0_lost_119 (Nat.le_of_ble_eq_true rfl) (Nat.ne_of_beq_eq_false rfl) ?_
          refine Gx_aload_n (i := 0) dX0_lost_121 rfl rfl ?_
          refine gf_X0_126_20 dX0_lost_122 rfl rfl ?_
          first
          | rw [x8]
          | rw [show gUp v (v0 0 8) i w 0 8 = v0 0 8 by rw [gUp_ne2 (by omega)]; exact e8]
          refine Gx_iload dX0_lost_125 rfl ?_
          refine Gx_iload dX0_lost_127 rfl ?_
          refine Gx_bastore dX0_lost_129 hh8 (by first | omega | (simp (disch := omega) only [w32_id]; omega)) (by omega) ?_
          refine Gx_iload dX0_lost_130 rfl ?_
          refine Gx_if_eq (tgt := 144) dX0_lost_132 (by decide) (fun _ => ?_) (fun hz => absurd hz (by decide))
          refine Gx_iload dX0_lost_144 rfl ?_
          refine Gx_iconst ⟨by decide, by decide⟩ dX0_lost_146 ?_
          refine Gx_iadd dX0_lost_147 ?_
          try simp (disch := omega) only [w32_id]
          refine Gx_i2b dX0_lost_148 ?_
          refine Gx_istore_7 dX0_lost_149 (Nat.le_of_ble_eq_true rfl) (Nat.ne_of_beq_eq_false rfl) ?_
          refine Gx_goto (tgt := 60) dX0_lost_151 (by decide) ?_
          rw [w8_id (by omega) (by omega)]
          first
          | exact ih (w + 1) _ _ (by omega) (by omega) (bk _ (aScr_r _)) (bef_s hB (yLs_same g2 (by omega)) (by omega) (by omega))
          | exact ih (w + 1) _ _ (by omega) (by omega) (bkA v1 hS1) (bef_s hB (yLs_no hno) (by omega) (by omega))
          | exact ih (w + 1) _ _ (by omega) (by omega) (bkA v1 hS1) (bef_s hB (fun z => absurd ((yLs_iff g2 (by omega) hml hml').mpr z) (by omega)) (by omega) (by omega))
set_option maxHeartbeats 1000000 in
theorem lp_X0_lost2 {n : Int} {m l : Nat} {bc bs : Nat} {v0 : gM} (hH : aHy v0 (gHd K)) (hc : aCa v0 (gHd K)) (hml : oHas (aN v0 (gHd K) 17) m l) (bP : 0 ≤ (yTot yP1 (yIt (aN v0 (gHd K) 17) m) l) ∧ (yTot yP1 (yIt (aN v0 (gHd K) 17) m) l) ≤ 2000000) (bO : 0 ≤ (yTot yO1 (yIt (aN v0 (gHd K) 17) m) l) ∧ (yTot yO1 (yIt (aN v0 (gHd K) 17) m) l) ≤ 2000000) (hn : (gHd K (v0 0 8)).2 = n) (k1 : ∀ (v1 : gM) (r : Int), aScr v0 v1 → oFst (yLs (aN v0 (gHd K) 17)) n 3 r → Q (0, r) v1 (gHd K) t) : ∀ (j : Nat) (i : Int) (v : gM) (z6 z7 z8 : gV), 0 ≤ i → i + j = n → aScr v0 v → (∀ tt ss, 0 ≤ tt → tt < n → 0 ≤ ss → ss < 3 → 10 * tt + ss < 10 * i → ¬ yLs (aN v0 (gHd K) 17) tt ss) → Gx Γ mX0_lost 38 [(2, 0), (1, (yTot yP1 (yIt (aN v0 (gHd K) 17) m) l)), (9, 0), (1, (yTot yO1 (yIt (aN v0 (gHd K) 17) m) l)), (9, 0), (0, i), z6, z7, z8] [] v (gHd K) t bc bs Q := by
  intro j
  induction j with
  | zero =>
    intro i v z6 z7 z8 h0 h1 hS hB
    have hH0 := hH
    obtain ⟨g1, g2, g3, g4, g5, g6⟩ := hH
    have h32 := g2.2.2.1
    rw [aN_c33] at h32
    have h28 := g2.2.2.2.2.2.2.2.1
    rw [aN_c28, hn] at h28
    have w8 := g1.2.2.1.1
    have e8 : v 0 8 = v0 0 8 := hS 0 8 (by omega)
    have hh8 : gHd K (v0 0 8) = (11, n) := by rw [← hn]; exact pairEq g1.2.2.1.2
    have hh8v : gHd K (v 0 8) = (11, n) := by rw [e8]; exact hh8
    refine Gx_iload dX0_lost_38 rfl ?_
    refine Gx_aload_n (i := 0) dX0_lost_40 rfl rfl ?_
    refine gf_X0_126_20 dX0_lost_41 rfl rfl ?_
    refine Gx_alen dX0_lost_44 hh8v (by decide) (by decide) ?_
    refine Gx_icmp_ge (tgt := 160) dX0_lost_45 (by decide) (fun c45 => ?_) (fun c45 => ?_)
    · refine Gx_bipush dX0_lost_160 ⟨by decide, by decide⟩ ?_
      refine Gx_ireturn dX0_lost_162 trivial ?_
      refine k1 v _ hS (Or.inl ⟨rfl, fun t' s' t0 t1 s0 s1 => hB t' s' t0 t1 s0 s1 (by omega)⟩)
    · exfalso
      omega
  | succ j ih =>
    intro i v z6 z7 z8 h0 h1 hS hB
    have hH0 := hH
    obtain ⟨g1, g2, g3, g4, g5, g6⟩ := hH
    have h32 := g2.2.2.1
    rw [aN_c33] at h32
    have h28 := g2.2.2.2.2.2.2.2.1
    rw [aN_c28, hn] at h28
    have w8 := g1.2.2.1.1
    have e8 : v 0 8 = v0 0 8 := hS 0 8 (by omega)
    have hh8 : gHd K (v0 0 8) = (11, n) := by rw [← hn]; exact pairEq g1.2.2.1.2
    have hh8v : gHd K (v 0 8) = (11, n) := by rw [e8]; exact hh8
    refine Gx_iload dX0_lost_38 rfl ?_
    refine Gx_aload_n (i := 0) dX0_lost_40 rfl rfl ?_
    refine gf_X0_126_20 dX0_lost_41 rfl rfl ?_
    refine Gx_alen dX0_lost_44 hh8v (by decide) (by decide) ?_
    refine Gx_icmp_ge (tgt := 160) dX0_lost_45 (by decide) (fun c45 => ?_) (fun c45 => ?_)
    · refine Gx_bipush dX0_lost_160 ⟨by decide, by decide⟩ ?_
      refine Gx_ireturn dX0_lost_162 trivial ?_
      exfalso
      omega
    · refine Gx_aload_n (i := 0) dX0_lost_48 rfl rfl ?_
      refine gf_X0_126_20 dX0_lost_49 rfl rfl ?_
      refine Gx_iload dX0_lost_52 rfl ?_
      refine Gx_baload dX0_lost_54 hh8v (by first | omega | (simp (disch := omega) only [w32_id]; omega)) ?_
      rw [e8, hS (v0 0 8) i (by omega)]
      refine Gx_istore_6 dX0_lost_55 (Nat.le_of_ble_eq_true rfl) (Nat.ne_of_beq_eq_false rfl) ?_
      refine Gx_iconst ⟨by decide, by decide⟩ dX0_lost_57 ?_
      refine Gx_istore_7 dX0_lost_58 (Nat.le_of_ble_eq_true rfl) (Nat.ne_of_beq_eq_false rfl) ?_
      refine lp_X0_lost1 hH0 hc hml bP bO hn k1 (i := i) (by omega) rfl (fun v1 z8 s1 b1 => ?_) 3 0 v _ (by omega) (by omega) hS (fun t' s' t0 t1 s0 s1 hlt => hB t' s' t0 t1 s0 s1 (by omega))
      refine Gx_iinc_5 dX0_lost_154 (Nat.le_of_ble_eq_true rfl) (Nat.ne_of_beq_eq_false rfl) ?_
      try simp (disch := omega) only [w32_id]
      refine Gx_goto (tgt := 38) dX0_lost_157 (by decide) ?_
      refine ih (i + 1) v1 _ _ _ (by omega) (by omega) s1 (fun t' s' t0 t1 s0 s1 hlt => b1 t' s' t0 t1 s0 s1 (by omega))
set_option maxHeartbeats 2000000 in
theorem ct_X0_lost  (hH : aHy v (gHd K)) (hc : aCa v (gHd K)) (k1 : ∀ m l, oHas (aN v (gHd K) 17) m l → yTot yO1 (yIt (aN v (gHd K) 17) m) l ≠ 0 → ∀ (v1 : gM) (r : Int), aScr v v1 → oFst (yLs (aN v (gHd K) 17)) (gHd K (v 0 8)).2 3 r → Q (0, r) v1 (gHd K) t) (kM : ∀ m l, oHas (aN v (gHd K) 17) m l → yTot yO1 (yIt (aN v (gHd K) 17) m) l = 0 → ∀ v1 : gM, aScr v v1 → Q (0, -3) (aMet v1 4) (gHd K) t) (k0 : oNo (aN v (gHd K) 17) → ∀ v1, aScr v v1 → Q (0, -6) v1 (gHd K) t) : Ctr Γ mX0_lost [(2, 0)] v (gHd K) t Q := by
  refine Ctr.ofG (ls := [(2, 0), (9, 0), (9, 0), (9, 0), (9, 0), (9, 0), (9, 0), (9, 0), (9, 0)]) rfl rfl rfl rfl rfl ?_
  have h32 := hH.2.1.2.2.1
  rw [aN_c33] at h32
  have h28 := hH.2.1.2.2.2.2.2.2.2.1
  refine Gx_aload_n (i := 0) dX0_lost_0 rfl rfl ?_
  refine cl_X0_477 dX0_lost_1 rfl rfl ⟨(Nat.le_of_ble_eq_true rfl), (Nat.le_of_ble_eq_true rfl)⟩ rfl ?_
  refine ct_X0_goR hH (fun v1 m l hml hS e41 e42 l1 l2 hA e44 hu q33 q22 b46 bO bP => ?_) (fun hno v1 hS => ?_)
  · refine Gx_if_ne (tgt := 10) dX0_lost_4 (by decide) (fun _ => ?_) (fun hz => absurd hz (by decide))
    refine Gx_aload_n (i := 0) dX0_lost_10 rfl rfl ?_
    refine cl_X0_480 dX0_lost_11 rfl rfl ⟨(Nat.le_of_ble_eq_true rfl), (Nat.le_of_ble_eq_true rfl)⟩ rfl ?_
    refine ct_X0_allPairs b46 (by rw [hS 0 32 (by omega)]; exact h32) ?_
    rw [bO.1]
    refine Gx_lconst0 dX0_lost_14 ?_
    try simp (disch := omega) only [w64_id]
    refine Gx_lcmpif_gt (tgt := 25) dX0_lost_15 dX0_lost_16 (by decide) (fun c15 => ?_) (fun c15 => ?_)
    · refine Gx_aload_n (i := 0) dX0_lost_25 rfl rfl ?_
      refine gf_X0_454_20 dX0_lost_26 rfl rfl ?_
      rw [hA.1]
      refine Gx_lstore_n_1 dX0_lost_29 (Nat.le_of_ble_eq_true rfl) (Nat.ne_of_beq_eq_false rfl) ?_
      refine Gx_aload_n (i := 0) dX0_lost_30 rfl rfl ?_
      refine cl_X0_480 dX0_lost_31 rfl rfl ⟨(Nat.le_of_ble_eq_true rfl), (Nat.le_of_ble_eq_true rfl)⟩ rfl ?_
      refine ct_X0_allPairs b46 (by rw [hS 0 32 (by omega)]; exact h32) ?_
      rw [bO.1]
      refine Gx_lstore_n_3 dX0_lost_34 (Nat.le_of_ble_eq_true rfl) (Nat.ne_of_beq_eq_false rfl) ?_
      refine Gx_iconst ⟨by decide, by decide⟩ dX0_lost_35 ?_
      refine Gx_istore_5 dX0_lost_36 (Nat.le_of_ble_eq_true rfl) (Nat.ne_of_beq_eq_false rfl) ?_
      have n1 := aScr_N hH.1 hS
      have goal := lp_X0_lost2 (Γ := Γ) (bc := 0) (bs := 0) (t := t) (Q := Q) (v0 := v1) (n := (gHd K (v 0 8)).2) (m := m) (l := l) (aHy_scr hH hS) (aScr_Ca hH.1 hS hc) (by rw [n1]; exact hml) (by rw [n1]; exact bP) (by rw [n1]; exact bO.2) (by rw [hS 0 8 (by omega)]) (fun v2 r s2 hf => by
        rw [n1] at hf
        exact k1 m l hml (by omega) v2 r (aScr_t hS s2) hf) (gHd K (v 0 8)).2.toNat 0 v1 (9, 0) (9, 0) (9, 0) (by omega) (by rw [aN_c28] at h28; omega) (aScr_r _) (fun t' s' t0 t1 s0 s1 hlt => absurd hlt (by omega))
      rw [n1] at goal
      exact goal
    · refine Gx_aload_n (i := 0) dX0_lost_19 rfl rfl ?_
      refine Gx_iconst ⟨by decide, by decide⟩ dX0_lost_20 ?_
      refine cl_X0_139 dX0_lost_21 rfl rfl ⟨(Nat.le_of_ble_eq_true rfl), (Nat.le_of_ble_eq_true rfl)⟩ rfl ?_
      refine ct_X0_met (by omega) ?_
      refine Gx_ireturn dX0_lost_24 trivial ?_
      exact kM m l hml (by omega) v1 hS
  · refine Gx_if_ne (tgt := 10) dX0_lost_4 (by decide) (fun hz => absurd hz (by decide)) (fun _ => ?_)
    refine Gx_bipush dX0_lost_7 ⟨by decide, by decide⟩ ?_
    refine Gx_ireturn dX0_lost_9 trivial ?_
    exact k0 hno v1 hS
end
