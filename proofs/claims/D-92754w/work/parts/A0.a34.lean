/-! AcornYears: hold -/
section
variable {Γ : gC} {v : gM} {K : gH} {t : Nat} {Q : gQ}
theorem bef_s {P : Int → Int → Prop} {n k i s : Int} (h : ∀ a b, 0 ≤ a → a < n → 0 ≤ b → b < k → 10 * a + b < 10 * i + s → ¬ P a b) (hp : ¬ P i s) (hk : k ≤ 9) (hs : 0 ≤ s ∧ s < k) : ∀ a b, 0 ≤ a → a < n → 0 ≤ b → b < k → 10 * a + b < 10 * i + (s + 1) → ¬ P a b := by
  intro a b a0 a1 b0 b1 hl
  by_cases z : a = i ∧ b = s
  · rw [z.1, z.2]
    exact hp
  · exact h a b a0 a1 b0 b1 (by omega)
theorem yBet_same {u : gM} {x s : Int} (hu : yOK u) (hx : u 57 x = s) : ¬ yBet u x s := by
  intro hb
  obtain ⟨m1, l1, m2, l2, b1, b2, b3⟩ := hb
  have es : gUp u 57 x s = u := by
    funext a k
    by_cases z : a = 57 ∧ k = x
    · rw [gUp_eq2 z.1 z.2, z.1, z.2, hx]
    · rw [gUp_ne2 z]
  rw [es] at b2 b3
  obtain ⟨z1, z2⟩ := oHas_u hu b1 b2
  rw [z1, z2] at b3
  omega
theorem yBet_le {u : gM} {x s : Int} {m l m' l' : Nat} (hu : yOK u) (hs : 0 ≤ s ∧ s < u 38 20) (h : oHas u m l) (h' : oHas (gUp u 57 x s) m' l') (hn : ¬ yGn u x m l * (l' : Int) < yGn (gUp u 57 x s) x m' l' * (l : Int)) : ¬ yBet u x s := by
  intro hb
  have := (yBet_iff hu hs h h').mpr hb
  unfold yHow at this
  rw [if_neg hn] at this
  split at this <;> omega

set_option maxHeartbeats 4000000 in
theorem lp_X0_hold1 {n ns g i : Int} {m l : Nat} {bc bs : Nat} {v0 : gM} (hH : aHy v0 (gHd K)) (hml : oHas (aN v0 (gHd K) 17) m l) (hl : 1 ≤ l ∧ l ≤ 2000) (hn : v0 0 32 = n) (hns : (gHd K (v0 0 7)).2 = ns) (hg : 66 ≤ g) (hgh : gHd K g = (14, n)) (hgv : ∀ i, 0 ≤ i → i < n → v0 g i = yGn (aN v0 (gHd K) 17) i m l) (k1 : ∀ (v1 : gM) (r : Int), aScr v0 v1 → oFst (yBet (aN v0 (gHd K) 17)) n ns r → Q (0, r) v1 (gHd K) t) (hi : 0 ≤ i ∧ i < n) (cont : ∀ v1, aScr v0 v1 → (∀ tt ss, 0 ≤ tt → tt < n → 0 ≤ ss → ss < ns → 10 * tt + ss < 10 * i + ns → ¬ yBet (aN v0 (gHd K) 17) tt ss) → Gx Γ mX0_hold 126 [(2, 0), (2, g), (1, (l : Int)), (9, 0), (0, i), (0, ns)] [] v1 (gHd K) t bc bs Q) : ∀ (j : Nat) (s : Int) (v : gM), 0 ≤ s → s + j = ns → aScr v0 v → (∀ tt ss, 0 ≤ tt → tt < n → 0 ≤ ss → ss < ns → 10 * tt + ss < 10 * i + s → ¬ yBet (aN v0 (gHd K) 17) tt ss) → Gx Γ mX0_hold 52 [(2, 0), (2, g), (1, (l : Int)), (9, 0), (0, i), (0, s)] [] v (gHd K) t bc bs Q := by
  intro j
  induction j with
  | zero =>
    intro s v h0 h1 hS hB
    have hH0 := hH
    obtain ⟨g1, g2, g3, g4, g5, g6⟩ := hH
    have h32 := g2.2.2.1
    rw [aN_c33] at h32
    have h20 := g1.1.2.2
    have e7 : v 0 7 = v0 0 7 := hS 0 7 (by omega)
    have e32 : v 0 32 = n := by rw [hS 0 32 (by omega)]; exact hn
    have hh7 : gHd K (v 0 7) = (17, ns) := by rw [e7, ← hns]; exact pairEq g1.1.2.1
    refine Gx_iload dX0_hold_52 rfl ?_
    refine Gx_aload_n (i := 0) dX0_hold_54 rfl rfl ?_
    refine gf_X0_40_20 dX0_hold_55 rfl rfl ?_
    refine Gx_alen dX0_hold_58 hh7 (by decide) (by decide) ?_
    refine Gx_icmp_ge (tgt := 126) dX0_hold_59 (by decide) (fun c59 => ?_) (fun c59 => ?_)
    · have e0 : s = ns := by omega
      subst e0
      exact cont v hS hB
    · exfalso
      omega
  | succ j ih =>
    intro s v h0 h1 hS hB
    have hH0 := hH
    obtain ⟨g1, g2, g3, g4, g5, g6⟩ := hH
    have h32 := g2.2.2.1
    rw [aN_c33] at h32
    have h20 := g1.1.2.2
    have e7 : v 0 7 = v0 0 7 := hS 0 7 (by omega)
    have e32 : v 0 32 = n := by rw [hS 0 32 (by omega)]; exact hn
    have hh7 : gHd K (v 0 7) = (17, ns) := by rw [e7, ← hns]; exact pairEq g1.1.2.1
    obtain ⟨t66, tk⟩ := g1.2.2.2.1 i hi.1 (by omega)
    have e16 : v 16 i = v0 16 i := hS 16 i (by omega)
    have eso : v (v0 16 i) 0 = v0 (v0 16 i) 0 := hS _ _ (by omega)
    have u57 : (aN v0 (gHd K) 17) 57 i = v0 (v0 16 i) 0 := aN_57 hi.1 (by omega)
    have hHv := aHy_scr hH0 hS
    have nv := aScr_N g1 hS
    have egi : v g i = yGn (aN v0 (gHd K) 17) i m l := by rw [hS _ _ (by omega)]; exact hgv i hi.1 hi.2
    have tG := yTot_le (F := yG1 i) (u := yIt (aN v0 (gHd K) 17) m) (B := 86400) (fun q => yG1_le (yOK_it (yOK_it g2 m) q) (by rw [(yIt_o (by omega) q).1, (yIt_o (by omega) m).1, aN_c33]; omega)) l
    have bA : 0 ≤ yGn (aN v0 (gHd K) 17) i m l ∧ yGn (aN v0 (gHd K) 17) i m l ≤ 200000000 := by unfold yGn; omega
    refine Gx_iload dX0_hold_52 rfl ?_
    refine Gx_aload_n (i := 0) dX0_hold_54 rfl rfl ?_
    refine gf_X0_40_20 dX0_hold_55 rfl rfl ?_
    refine Gx_alen dX0_hold_58 hh7 (by decide) (by decide) ?_
    refine Gx_icmp_ge (tgt := 126) dX0_hold_59 (by decide) (fun c59 => ?_) (fun c59 => ?_)
    · exfalso
      omega
    · refine Gx_iload dX0_hold_62 rfl ?_
      refine Gx_aload_n (i := 0) dX0_hold_64 rfl rfl ?_
      refine gf_X0_79_20 dX0_hold_65 rfl rfl ?_
      refine Gx_iload dX0_hold_68 rfl ?_
      refine Gx_aaload18 dX0_hold_70 rfl (by first | omega | (simp (disch := omega) only [w32_id]; omega)) ?_
      rw [e16]
      refine gf_X0_321_8 dX0_hold_71 rfl (pairEq tk) ?_
      rw [eso]
      refine Gx_icmp_eq (tgt := 120) dX0_hold_74 (by decide) (fun c74 => ?_) (fun c74 => ?_)
      · refine Gx_iinc_5 dX0_hold_120 (Nat.le_of_ble_eq_true rfl) (Nat.ne_of_beq_eq_false rfl) ?_
        try simp (disch := omega) only [w32_id]
        refine Gx_goto (tgt := 52) dX0_hold_123 (by decide) ?_
        first
        | exact ih (s + 1) v (by omega) (by omega) hS (bef_s hB (yBet_same g2 (by omega)) (by omega) (by omega))
        | exact ih (s + 1) v2 (by omega) (by omega) (aScr_t hS hS2) (bef_s hB (yBet_no (Or.inr hno)) (by omega) (by omega))
        | exact ih (s + 1) v2 (by omega) (by omega) (aScr_t hS hS2) (bef_s hB (yBet_le g2 (by rw [aN_c20]; omega) hml hml' (by omega)) (by omega) (by omega))
      · refine Gx_aload_n (i := 0) dX0_hold_77 rfl rfl ?_
        refine Gx_iload dX0_hold_78 rfl ?_
        refine Gx_iload dX0_hold_80 rfl ?_
        refine cl_X0_488 dX0_hold_82 rfl rfl ⟨(Nat.le_of_ble_eq_true rfl), (Nat.le_of_ble_eq_true rfl)⟩ rfl ?_
        refine ct_X0_goRoundAs hHv (by omega) (by rw [hh7]; exact ⟨h0, by omega⟩) (fun v2 m' l' hml' hS2 f42 l1' l2' f34 bG => ?_) (fun hno v2 hS2 => ?_)
        all_goals rw [nv] at *
        · refine Gx_if_eq (tgt := 120) dX0_hold_85 (by decide) (fun hz => absurd hz (by decide)) (fun _ => ?_)
          refine Gx_aload_n (i := 0) dX0_hold_88 rfl rfl ?_
          refine gf_X0_117_20 dX0_hold_89 rfl rfl ?_
          refine Gx_iload dX0_hold_92 rfl ?_
          refine Gx_laload dX0_hold_94 rfl (by first | omega | (simp (disch := omega) only [w32_id]; omega)) ?_
          rw [f34]
          have p1 := mul_le_of bG.1 bG.2 (show 0 ≤ (l : Int) by omega) (show (l : Int) ≤ 2000 by omega)
          have p2 := mul_le_of bA.1 bA.2 (show 0 ≤ (l' : Int) by omega) (show (l' : Int) ≤ 2000 by omega)
          refine Gx_lload_n (i := 2) dX0_hold_95 rfl rfl ?_
          refine Gx_lmul dX0_hold_96 ?_
          rw [w64_id (by omega) (by omega)]
          refine Gx_aload_n (i := 1) dX0_hold_97 rfl rfl ?_
          refine Gx_iload dX0_hold_98 rfl ?_
          refine Gx_laload dX0_hold_100 hgh (by first | omega | (simp (disch := omega) only [w32_id]; omega)) ?_
          rw [show v2 g i = yGn (aN v0 (gHd K) 17) i m l by rw [hS2 _ _ (by omega)]; exact egi]
          refine Gx_aload_n (i := 0) dX0_hold_101 rfl rfl ?_
          refine gf_X0_442_20 dX0_hold_102 rfl rfl ?_
          rw [f42]
          refine Gx_i2l dX0_hold_105 ?_
          refine Gx_lmul dX0_hold_106 ?_
          rw [w64_id (x := yGn (aN v0 (gHd K) 17) i m l * (l' : Int)) (by omega) (by omega)]
          try simp (disch := omega) only [w64_id]
          refine Gx_lcmpif_le (tgt := 120) dX0_hold_107 dX0_hold_108 (by decide) (fun c107 => ?_) (fun c107 => ?_)
          · refine Gx_iinc_5 dX0_hold_120 (Nat.le_of_ble_eq_true rfl) (Nat.ne_of_beq_eq_false rfl) ?_
            try simp (disch := omega) only [w32_id]
            refine Gx_goto (tgt := 52) dX0_hold_123 (by decide) ?_
            first
            | exact ih (s + 1) v (by omega) (by omega) hS (bef_s hB (yBet_same g2 (by omega)) (by omega) (by omega))
            | exact ih (s + 1) v2 (by omega) (by omega) (aScr_t hS hS2) (bef_s hB (yBet_no (Or.inr hno)) (by omega) (by omega))
            | exact ih (s + 1) v2 (by omega) (by omega) (aScr_t hS hS2) (bef_s hB (yBet_le g2 (by rw [aN_c20]; omega) hml hml' (by omega)) (by omega) (by omega))
          · refine Gx_bipush dX0_hold_111 ⟨by decide, by decide⟩ ?_
            refine Gx_iload dX0_hold_113 rfl ?_
            refine Gx_imul dX0_hold_115 ?_
            try simp (disch := omega) only [w32_id]
            refine Gx_iload dX0_hold_116 rfl ?_
            refine Gx_iadd dX0_hold_118 ?_
            try simp (disch := omega) only [w32_id]
            refine Gx_ireturn dX0_hold_119 trivial ?_
            refine k1 v2 _ (aScr_t hS hS2) (Or.inr ⟨i, s, hi, ⟨h0, by omega⟩, by omega, ?_, fun t' s' t0 t1 s0 s1 hlt => hB t' s' t0 t1 s0 s1 (by omega)⟩)
            exact (yBet_iff g2 (by rw [aN_c20]; omega) hml hml').mp (by unfold yHow; rw [if_pos (by omega)])
        · refine Gx_if_eq (tgt := 120) dX0_hold_85 (by decide) (fun _ => ?_) (fun hz => absurd hz (by decide))
          refine Gx_iinc_5 dX0_hold_120 (Nat.le_of_ble_eq_true rfl) (Nat.ne_of_beq_eq_false rfl) ?_
          try simp (disch := omega) only [w32_id]
          refine Gx_goto (tgt := 52) dX0_hold_123 (by decide) ?_
          first
          | exact ih (s + 1) v (by omega) (by omega) hS (bef_s hB (yBet_same g2 (by omega)) (by omega) (by omega))
          | exact ih (s + 1) v2 (by omega) (by omega) (aScr_t hS hS2) (bef_s hB (yBet_no (Or.inr hno)) (by omega) (by omega))
          | exact ih (s + 1) v2 (by omega) (by omega) (aScr_t hS hS2) (bef_s hB (yBet_le g2 (by rw [aN_c20]; omega) hml hml' (by omega)) (by omega) (by omega))
set_option maxHeartbeats 1000000 in
theorem lp_X0_hold2 {n ns g : Int} {m l : Nat} {bc bs : Nat} {v0 : gM} (hH : aHy v0 (gHd K)) (hml : oHas (aN v0 (gHd K) 17) m l) (hl : 1 ≤ l ∧ l ≤ 2000) (hn : v0 0 32 = n) (hns : (gHd K (v0 0 7)).2 = ns) (hg : 66 ≤ g) (hgh : gHd K g = (14, n)) (hgv : ∀ i, 0 ≤ i → i < n → v0 g i = yGn (aN v0 (gHd K) 17) i m l) (k1 : ∀ (v1 : gM) (r : Int), aScr v0 v1 → oFst (yBet (aN v0 (gHd K) 17)) n ns r → Q (0, r) v1 (gHd K) t) : ∀ (j : Nat) (i : Int) (v : gM) (z5 : gV), 0 ≤ i → i + j = n → aScr v0 v → (∀ tt ss, 0 ≤ tt → tt < n → 0 ≤ ss → ss < ns → 10 * tt + ss < 10 * i → ¬ yBet (aN v0 (gHd K) 17) tt ss) → Gx Γ mX0_hold 40 [(2, 0), (2, g), (1, (l : Int)), (9, 0), (0, i), z5] [] v (gHd K) t bc bs Q := by
  intro j
  induction j with
  | zero =>
    intro i v z5 h0 h1 hS hB
    have hH0 := hH
    obtain ⟨g1, g2, g3, g4, g5, g6⟩ := hH
    have h32 := g2.2.2.1
    rw [aN_c33] at h32
    have h20 := g1.1.2.2
    have e7 : v 0 7 = v0 0 7 := hS 0 7 (by omega)
    have e32 : v 0 32 = n := by rw [hS 0 32 (by omega)]; exact hn
    have hh7 : gHd K (v 0 7) = (17, ns) := by rw [e7, ← hns]; exact pairEq g1.1.2.1
    refine Gx_iload dX0_hold_40 rfl ?_
    refine Gx_aload_n (i := 0) dX0_hold_42 rfl rfl ?_
    refine gf_X0_276_20 dX0_hold_43 rfl rfl ?_
    refine Gx_icmp_ge (tgt := 132) dX0_hold_46 (by decide) (fun c46 => ?_) (fun c46 => ?_)
    · refine Gx_bipush dX0_hold_132 ⟨by decide, by decide⟩ ?_
      refine Gx_ireturn dX0_hold_134 trivial ?_
      refine k1 v _ hS (Or.inl ⟨rfl, fun t' s' t0 t1 s0 s1 => hB t' s' t0 t1 s0 s1 (by omega)⟩)
    · exfalso
      omega
  | succ j ih =>
    intro i v z5 h0 h1 hS hB
    have hH0 := hH
    obtain ⟨g1, g2, g3, g4, g5, g6⟩ := hH
    have h32 := g2.2.2.1
    rw [aN_c33] at h32
    have h20 := g1.1.2.2
    have e7 : v 0 7 = v0 0 7 := hS 0 7 (by omega)
    have e32 : v 0 32 = n := by rw [hS 0 32 (by omega)]; exact hn
    have hh7 : gHd K (v 0 7) = (17, ns) := by rw [e7, ← hns]; exact pairEq g1.1.2.1
    refine Gx_iload dX0_hold_40 rfl ?_
    refine Gx_aload_n (i := 0) dX0_hold_42 rfl rfl ?_
    refine gf_X0_276_20 dX0_hold_43 rfl rfl ?_
    refine Gx_icmp_ge (tgt := 132) dX0_hold_46 (by decide) (fun c46 => ?_) (fun c46 => ?_)
    · refine Gx_bipush dX0_hold_132 ⟨by decide, by decide⟩ ?_
      refine Gx_ireturn dX0_hold_134 trivial ?_
      exfalso
      omega
    · refine Gx_iconst ⟨by decide, by decide⟩ dX0_hold_49 ?_
      refine Gx_istore_5 dX0_hold_50 (Nat.le_of_ble_eq_true rfl) (Nat.ne_of_beq_eq_false rfl) ?_
      refine lp_X0_hold1 hH0 hml hl hn hns hg hgh hgv k1 (i := i) (by omega) (fun v1 s1 b1 => ?_) ns.toNat 0 v (by omega) (by omega) hS (fun t' s' t0 t1 s0 s1 hlt => hB t' s' t0 t1 s0 s1 (by omega))
      refine Gx_iinc_4 dX0_hold_126 (Nat.le_of_ble_eq_true rfl) (Nat.ne_of_beq_eq_false rfl) ?_
      try simp (disch := omega) only [w32_id]
      refine Gx_goto (tgt := 40) dX0_hold_129 (by decide) ?_
      refine ih (i + 1) v1 _ (by omega) (by omega) s1 (fun t' s' t0 t1 s0 s1 hlt => b1 t' s' t0 t1 s0 s1 (by omega))
set_option maxHeartbeats 2000000 in
theorem ct_X0_hold  (hH : aHy v (gHd K)) (k1 : (∃ m l, oHas (aN v (gHd K) 17) m l) → ∀ (v1 : gM) (r : Int), (∀ a k, a < (t : Int) → ¬ aSq a k → v1 a k = v a k) → oFst (yBet (aN v (gHd K) 17)) (v 0 32) (gHd K (v 0 7)).2 r → Q (0, r) v1 (gHd (gUpH K t (14, v 0 32))) (t + 1)) (k0 : oNo (aN v (gHd K) 17) → ∀ v1, aScr v v1 → Q (0, -6) v1 (gHd K) t) : Ctr Γ mX0_hold [(2, 0)] v (gHd K) t Q := by
  refine Ctr.ofG (ls := [(2, 0), (9, 0), (9, 0), (9, 0), (9, 0), (9, 0)]) rfl rfl rfl rfl rfl ?_
  refine Gx_top (fun hT => ?_)
  have h66 := gHd_66 hT
  have h32 := hH.2.1.2.2.1
  rw [aN_c33] at h32
  refine Gx_aload_n (i := 0) dX0_hold_0 rfl rfl ?_
  refine cl_X0_477 dX0_hold_1 rfl rfl ⟨(Nat.le_of_ble_eq_true rfl), (Nat.le_of_ble_eq_true rfl)⟩ rfl ?_
  refine ct_X0_goR hH (fun v1 m l hml hS e41 e42 l1 l2 hA e44 hu q33 q22 b46 bO bP => ?_) (fun hno v1 hS => ?_)
  · have w32 : v1 0 32 = v 0 32 := hS 0 32 (by omega)
    refine Gx_if_ne (tgt := 10) dX0_hold_4 (by decide) (fun _ => ?_) (fun hz => absurd hz (by decide))
    refine Gx_aload_n (i := 0) dX0_hold_10 rfl rfl ?_
    refine gf_X0_276_20 dX0_hold_11 rfl rfl ?_
    rw [w32]
    refine Gx_newarr (k := 14) (bc' := 0) (bs' := 0) dX0_hold_14 ⟨by decide, by decide⟩ rfl q349 (by first | omega | (simp (disch := omega) only [w32_id]; omega)) (by decide) (by show _ ≤ (24 : Nat); omega) ?_
    rw [gHd_up (by omega)]
    refine Gx_astore_n_1 dX0_hold_16 (Nat.le_of_ble_eq_true rfl) (Nat.ne_of_beq_eq_false rfl) ?_
    refine Gx_aload_n (i := 0) dX0_hold_17 rfl rfl ?_
    refine gf_X0_117_20 dX0_hold_18 rfl rfl ?_
    refine Gx_iconst ⟨by decide, by decide⟩ dX0_hold_21 ?_
    refine Gx_aload_n (i := 1) dX0_hold_22 rfl rfl ?_
    refine Gx_iconst ⟨by decide, by decide⟩ dX0_hold_23 ?_
    refine Gx_aload_n (i := 0) dX0_hold_24 rfl rfl ?_
    refine gf_X0_276_20 dX0_hold_25 rfl rfl ?_
    rw [gNf_ne (by omega), w32]
    refine Gx_acopy14 dX0_hold_28 rfl rfl (gHd_at (by omega)) q516 q518 q517 q118 (by omega) ⟨(Nat.le_of_ble_eq_true rfl), (Nat.le_of_ble_eq_true rfl)⟩ rfl ?_
    refine Gx_aload_n (i := 0) dX0_hold_31 rfl rfl ?_
    refine gf_X0_442_20 dX0_hold_32 rfl rfl ?_
    rw [gCpy_ne (by omega), gNf_ne (by omega), e42]
    refine Gx_i2l dX0_hold_35 ?_
    refine Gx_lstore_n_2 dX0_hold_36 (Nat.le_of_ble_eq_true rfl) (Nat.ne_of_beq_eq_false rfl) ?_
    refine Gx_iconst ⟨by decide, by decide⟩ dX0_hold_37 ?_
    refine Gx_istore_4 dX0_hold_38 (Nat.le_of_ble_eq_true rfl) (Nat.ne_of_beq_eq_false rfl) ?_
    refine Gx_name (fun vB eB => ?_)
    have fB : ∀ a k, a < (t : Int) → vB a k = v1 a k := fun a k ha => by rw [eB, gCpy_ne (by omega), gNf_ne (by omega)]
    have gB2 : ∀ i, 0 ≤ i → i < v 0 32 → vB t i = yGn (aN v (gHd K) 17) i m l := fun i i0 i1 => by
      rw [eB, gCpy_at ⟨rfl, i0, by omega⟩, gNf_ne (by omega), show (0 : Int) + (i - 0) = i by omega]
      exact (hA.2.2.2.2.2.1 i i0 (by omega)).2
    clear eB
    have hH1 := aHy_scr hH hS
    obtain ⟨n1, n2, n3⟩ := aN_new (K1 := gUpH K t (14, v 0 32)) hT hH1.1 fB FHa_up
    have hHB : aHy vB (gHd (gUpH K t (14, v 0 32))) := ⟨n2, by rw [n1 17 (Or.inl rfl)]; exact hH1.2.1, by rw [fB 0 36 (by omega)]; exact hH1.2.2.1, by rw [fB 0 35 (by omega)]; exact hH1.2.2.2.1, n3 hH1.2.2.2.2.1, by rw [fB 17 2 (by omega)]; exact hH1.2.2.2.2.2⟩
    have nB : aN vB (gHd (gUpH K t (14, v 0 32))) 17 = (aN v (gHd K) 17) := by rw [n1 17 (Or.inl rfl)]; exact aScr_N hH.1 hS
    have e7 : vB 0 7 = v 0 7 := by rw [fB 0 7 (by omega)]; exact hS 0 7 (by omega)
    have lt7 := (gHd_lt hT (a := v 0 7) (by have := hH.1.1.2.1; omega)).2
    have h7 : gHd (gUpH K t (14, v 0 32)) (v 0 7) = gHd K (v 0 7) := gHd_ne (by omega)
    refine lp_X0_hold2 (v0 := vB) (g := t) (n := v 0 32) (ns := (gHd K (v 0 7)).2) (m := m) (l := l) hHB (by rw [nB]; exact hml) ⟨l1, l2⟩ (by rw [fB 0 32 (by omega)]; exact hS 0 32 (by omega)) (by rw [e7, h7]) (by omega) (gHd_at (by omega)) (by rw [nB]; exact gB2) (fun v2 r s2 hf => ?_) (v 0 32).toNat 0 vB _ (by omega) (by omega) (aScr_r _) (fun t' s' t0 t1 s0 s1 hlt => absurd hlt (by omega))
    rw [nB] at hf
    refine k1 ⟨m, l, hml⟩ v2 r (fun a k ha hk => ?_) hf
    rw [s2 a k hk, fB a k ha]
    exact hS a k hk
  · refine Gx_if_ne (tgt := 10) dX0_hold_4 (by decide) (fun hz => absurd hz (by decide)) (fun _ => ?_)
    refine Gx_bipush dX0_hold_7 ⟨by decide, by decide⟩ ?_
    refine Gx_ireturn dX0_hold_9 trivial ?_
    exact k0 hno v1 hS
end
