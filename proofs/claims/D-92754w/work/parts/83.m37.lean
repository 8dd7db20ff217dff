/-! AcornYearsModel: need, lost -/
section
variable {Γ : gC} {v : gM} {K : gH} {t : Nat} {Q : gQ}
theorem yR_54 {v : gM} {x s a k : Int} : yR (gUp v 54 x s) a k ↔ yR v a k := yR_congr (gUp_ne2 (by omega)) (gUp_ne2 (by omega)) (gUp_ne2 (by omega)) (gUp_ne2 (by omega))
theorem mN_54 {v : gM} {x s : Int} (h0 : 0 ≤ x) (h1 : x < v 38 28) : mN (gUp v 54 x s) = gUp (mN v) 54 x s := by
  funext a k
  by_cases c : a = 54 ∧ k = x
  · rw [c.1, c.2, gUp_eq2 rfl rfl, mN_at (yR_54.2 (by unfold yR; omega)), gUp_eq2 rfl rfl]
  · rw [gUp_ne2 c]
    by_cases hR : yR v a k
    · rw [mN_at hR, mN_at (yR_54.2 hR), gUp_ne2 c]
    · rw [mN_no hR, mN_no (fun z => hR (yR_54.1 z))]
theorem yOK_54 {v : gM} {x s : Int} (h : yOK v) (hs : 0 ≤ s ∧ s ≤ 2) : yOK (gUp v 54 x s) := by
  obtain ⟨h1, h2, h3, h4, h5, h6, h7, h8, h9, h10⟩ := h
  have q (k) : gUp v 54 x s 38 k = v 38 k := gUp_ne2 (by omega)
  have q50 (k) : gUp v 54 x s 50 k = v 50 k := gUp_ne2 (by omega)
  have q58 (k) : gUp v 54 x s 58 k = v 58 k := gUp_ne2 (by omega)
  have q57 (k) : gUp v 54 x s 57 k = v 57 k := gUp_ne2 (by omega)
  have q51 (k) : gUp v 54 x s 51 k = v 51 k := gUp_ne2 (by omega)
  have q52 (k) : gUp v 54 x s 52 k = v 52 k := gUp_ne2 (by omega)
  have q53 (k) : gUp v 54 x s 53 k = v 53 k := gUp_ne2 (by omega)
  have q56 (k) : gUp v 54 x s 56 k = v 56 k := gUp_ne2 (by omega)
  unfold yOK oSrt oEat
  simp only [q, q50, q58, q57, q51, q52, q53, q56]
  refine ⟨h1, h2, h3, h4, h5, h6, h7, h8, fun i i0 i1 => ?_, h10⟩
  by_cases c : i = x
  · rw [gUp_eq2 rfl c]; exact hs
  · rw [gUp_ne2 (by omega)]; exact h9 i i0 i1
theorem oScr_54 {v0 v v1 : gM} {x s z : Int} (hS : oScr v0 v) (h : oScr (gUp v 54 x s) v1) (hz : z = v0 54 x) : oScr v0 (gUp v1 54 x z) := by
  intro a k hk
  by_cases c : a = 54 ∧ k = x
  · rw [gUp_eq2 c.1 c.2, c.1, c.2, hz]
  · rw [gUp_ne2 c, h a k hk, gUp_ne2 c, hS a k hk]
/-- less together with another May -/
def yLs (u : gM) (x w : Int) : Prop := ∃ m l m' l' : Nat, oHas u m l ∧ oHas (gUp u 54 x w) m' l' ∧ 0 < yTot yO1 (yIt (gUp u 54 x w) m') l' ∧ yTot yP1 (yIt (gUp u 54 x w) m') l' * yTot yO1 (yIt u m) l < yTot yP1 (yIt u m) l * yTot yO1 (yIt (gUp u 54 x w) m') l'
theorem yLs_iff {u : gM} {x w : Int} {m l m' l' : Nat} (hu : yOK u) (hw : 0 ≤ w ∧ w ≤ 2) (h : oHas u m l) (h' : oHas (gUp u 54 x w) m' l') : (0 < yTot yO1 (yIt (gUp u 54 x w) m') l' ∧ yTot yP1 (yIt (gUp u 54 x w) m') l' * yTot yO1 (yIt u m) l < yTot yP1 (yIt u m) l * yTot yO1 (yIt (gUp u 54 x w) m') l') ↔ yLs u x w := by
  constructor
  · intro e
    exact ⟨m, l, m', l', h, h', e⟩
  · rintro ⟨m1, l1, m2, l2, g, g', e⟩
    have e1 := oHas_u hu h g
    have e2 := oHas_u (yOK_54 hu hw) h' g'
    rw [e1.1, e1.2, e2.1, e2.2]
    exact e
theorem yLs_no {u : gM} {x w : Int} (h : oNo (gUp u 54 x w)) : ¬ yLs u x w := by
  rintro ⟨m1, l1, m2, l2, g, g', e⟩
  exact h _ _ g'.1 g'.2
theorem yOP_le {u : gM} (hu : yOK u) (m l : Nat) : (0 ≤ yTot yO1 (yIt u m) l ∧ yTot yO1 (yIt u m) l ≤ 552 * l) ∧ (0 ≤ yTot yP1 (yIt u m) l ∧ yTot yP1 (yIt u m) l ≤ 552 * l) :=
  ⟨yTot_le (fun k => yO1_le (yOK_it (yOK_it hu m) k)) l, yTot_le (fun k => yP1_le (yOK_it (yOK_it hu m) k)) l⟩

set_option maxHeartbeats 4000000 in
theorem lp_X2_lost1 {x : Int} {m l bc bs : Nat} {v0 : gM} (hok : yOK v0) (hy : v0 38 31 ≤ 9999) (hml : oHas (mN v0) m l) (hx : 0 ≤ x ∧ x < v0 38 28) (k1 : ∀ (v1 : gM) (r : Int), oScr v0 v1 → oFst (yLs (mN v0)) (v0 38 28) 3 r → Q (0, r) v1 (gHd K) t) (cont : ∀ (v1 : gM) (z8 : gV), oScr v0 v1 → (∀ t' s', 0 ≤ t' → t' < v0 38 28 → 0 ≤ s' → s' < 3 → 10 * t' + s' < 10 * (x + 1) → ¬ yLs (mN v0) t' s') → Gx Γ mX2_lost 150 [(2, 38), (1, yTot yP1 (yIt (mN v0) m) l), (9, 0), (1, yTot yO1 (yIt (mN v0) m) l), (9, 0), (0, x), (0, v0 54 x), (0, 3), z8] [] v1 (gHd K) t bc bs Q) : ∀ (j : Nat) (s : Int) (v : gM) (z8 : gV), 0 ≤ s → s + j = 3 → oScr v0 v → (∀ t' s', 0 ≤ t' → t' < v0 38 28 → 0 ≤ s' → s' < 3 → 10 * t' + s' < 10 * x + s → ¬ yLs (mN v0) t' s') → Gx Γ mX2_lost 63 [(2, 38), (1, yTot yP1 (yIt (mN v0) m) l), (9, 0), (1, yTot yO1 (yIt (mN v0) m) l), (9, 0), (0, x), (0, v0 54 x), (0, s), z8] [] v (gHd K) t bc bs Q := by
  intro j
  induction j with
  | zero =>
    intro s v z8 h0 h1 hS hN
    have h28 := hok.2.2.2.2.2.2.2.1
    refine Gx_iload dX2_lost_63 rfl ?_
    refine Gx_iconst ⟨by decide, by decide⟩ dX2_lost_65 ?_
    refine Gx_icmp_ge (tgt := 150) dX2_lost_66 (by decide) (fun c66 => ?_) (fun c66 => ?_)
    · have e0 : s = 3 := by omega
      rw [e0] at hN ⊢
      exact cont v z8 hS (fun a b a0 a1 b0 b1 hab => hN a b a0 a1 b0 b1 (by omega))
    · exfalso
      omega
  | succ j ih =>
    intro s v z8 h0 h1 hS hN
    have h28 := hok.2.2.2.2.2.2.2.1
    refine Gx_iload dX2_lost_63 rfl ?_
    refine Gx_iconst ⟨by decide, by decide⟩ dX2_lost_65 ?_
    refine Gx_icmp_ge (tgt := 150) dX2_lost_66 (by decide) (fun c66 => ?_) (fun c66 => ?_)
    · exfalso
      omega
    · refine Gx_aload_n (i := 0) dX2_lost_69 rfl rfl ?_
      refine gf_X2_56_22 dX2_lost_70 rfl rfl ?_
      refine Gx_iload dX2_lost_73 rfl ?_
      refine Gx_iload dX2_lost_75 rfl ?_
      refine Gx_iastore dX2_lost_77 rfl (by first | omega | (simp (disch := omega) only [w32_id]; omega)) ?_
      refine Gx_aload_n (i := 0) dX2_lost_78 rfl rfl ?_
      refine Gx_bipush dX2_lost_79 ⟨by decide, by decide⟩ ?_
      refine Gx_bipush dX2_lost_81 ⟨by decide, by decide⟩ ?_
      refine cl_X2_339 dX2_lost_83 rfl rfl ⟨(Nat.le_of_ble_eq_true rfl), (Nat.le_of_ble_eq_true rfl)⟩ rfl ?_
      have hov := oScr_ok hS hok
      have hm := oScr_m hS
      have q28 := hS 38 28 (by omega)
      refine ct_X2_laySums (yOK_54 hov ⟨h0, by omega⟩) (by rw [gUp_ne2 (by omega), hS 38 31 (by omega)]; exact hy) (by rw [gUp_ne2 (by omega)]; have := hov.2.2.1; omega) (by rw [gUp_ne2 (by omega)]; have := hov.2.2.2.2.1.1; omega) (fun v1 m2 l2 hml2 hS1 h47 hSm => ?_) (fun hno v1 hS1 => ?_)
      · rw [mN_54 hx.1 (by omega), hm] at hml2 hSm
        obtain ⟨s48, s49, s50, s51, s52, s53, -⟩ := hSm
        have hoN := yOK_N hok
        have hb := yLs_iff (x := x) (w := s) hoN ⟨h0, by omega⟩ hml hml2
        have b1 := yOP_le hoN m l
        have b2 := yOP_le (yOK_54 (x := x) (s := s) hoN ⟨h0, by omega⟩) m2 l2
        have p1 := mul_le_of b2.2.1 (show _ ≤ 1104000 by omega) b1.1.1 (show _ ≤ 1104000 by omega)
        have p2 := mul_le_of b1.2.1 (show _ ≤ 1104000 by omega) b2.1.1 (show _ ≤ 1104000 by omega)
        have w1 := w64_id (x := yTot yP1 (yIt (gUp (mN v0) 54 x s) m2) l2 * yTot yO1 (yIt (mN v0) m) l) (by omega) (by omega)
        have w2 := w64_id (x := yTot yP1 (yIt (mN v0) m) l * yTot yO1 (yIt (gUp (mN v0) 54 x s) m2) l2) (by omega) (by omega)
        have hSv := oScr_54 hS hS1 rfl
        refine Gx_if_eq (tgt := 118) dX2_lost_86 (by decide) (fun hz => absurd hz (by decide)) (fun _ => ?_)
        refine Gx_aload_n (i := 0) dX2_lost_89 rfl rfl ?_
        refine gf_X2_321_22 dX2_lost_90 rfl rfl ?_
        rw [s52]
        refine Gx_lconst0 dX2_lost_93 ?_
        try simp (disch := omega) only [w64_id]
        refine Gx_lcmpif_le (tgt := 118) dX2_lost_94 dX2_lost_95 (by decide) (fun c94 => ?_) (fun c94 => ?_)
        · refine Gx_iconst ⟨by decide, by decide⟩ dX2_lost_118 ?_
          refine Gx_istore_8 dX2_lost_119 (Nat.le_of_ble_eq_true rfl) (Nat.ne_of_beq_eq_false rfl) ?_
          refine Gx_aload_n (i := 0) dX2_lost_121 rfl rfl ?_
          refine gf_X2_56_22 dX2_lost_122 rfl rfl ?_
          refine Gx_iload dX2_lost_125 rfl ?_
          refine Gx_iload dX2_lost_127 rfl ?_
          refine Gx_iastore dX2_lost_129 rfl (by first | omega | (simp (disch := omega) only [w32_id]; omega)) ?_
          refine Gx_iload dX2_lost_130 rfl ?_
          refine Gx_if_eq (tgt := 144) dX2_lost_132 (by decide) (fun _ => ?_) (fun hz => absurd hz (by decide))
          refine Gx_iinc_7 dX2_lost_144 (Nat.le_of_ble_eq_true rfl) (Nat.ne_of_beq_eq_false rfl) ?_
          try simp (disch := omega) only [w32_id]
          refine Gx_goto (tgt := 63) dX2_lost_147 (by decide) ?_
          refine ih (s + 1) _ _ (by omega) (by omega) hSv (fun a b a0 a1 b0 b1 hab => ?_)
          by_cases c : 10 * a + b < 10 * x + s
          · exact hN a b a0 a1 b0 b1 c
          · have ea : a = x := by omega
            have eb : b = s := by omega
            rw [ea, eb]
            first
            | exact hb
            | exact fun z => absurd (hb.2 z).1 (by omega)
            | (intro z
               rw [if_pos (hb.2 z).2] at c111
               exact absurd c111 (by decide))
        · refine Gx_aload_n (i := 0) dX2_lost_98 rfl rfl ?_
          refine gf_X2_324_22 dX2_lost_99 rfl rfl ?_
          rw [s53]
          refine Gx_aload_n (i := 0) dX2_lost_102 rfl rfl ?_
          refine gf_X2_321_22 dX2_lost_103 rfl rfl ?_
          rw [s52]
          refine Gx_lload_n (i := 1) dX2_lost_106 rfl rfl ?_
          refine Gx_lload_n (i := 3) dX2_lost_107 rfl rfl ?_
          refine cl_X2_346 dX2_lost_108 rfl ⟨(Nat.le_of_ble_eq_true rfl), (Nat.le_of_ble_eq_true rfl)⟩ rfl ?_
          refine ct_X2_isLess ?_
          rw [w1, w2]
          refine Gx_if_eq (tgt := 118) dX2_lost_111 (by decide) (fun c111 => ?_) (fun c111 => ?_)
          · refine Gx_iconst ⟨by decide, by decide⟩ dX2_lost_118 ?_
            refine Gx_istore_8 dX2_lost_119 (Nat.le_of_ble_eq_true rfl) (Nat.ne_of_beq_eq_false rfl) ?_
            refine Gx_aload_n (i := 0) dX2_lost_121 rfl rfl ?_
            refine gf_X2_56_22 dX2_lost_122 rfl rfl ?_
            refine Gx_iload dX2_lost_125 rfl ?_
            refine Gx_iload dX2_lost_127 rfl ?_
            refine Gx_iastore dX2_lost_129 rfl (by first | omega | (simp (disch := omega) only [w32_id]; omega)) ?_
            refine Gx_iload dX2_lost_130 rfl ?_
            refine Gx_if_eq (tgt := 144) dX2_lost_132 (by decide) (fun _ => ?_) (fun hz => absurd hz (by decide))
            refine Gx_iinc_7 dX2_lost_144 (Nat.le_of_ble_eq_true rfl) (Nat.ne_of_beq_eq_false rfl) ?_
            try simp (disch := omega) only [w32_id]
            refine Gx_goto (tgt := 63) dX2_lost_147 (by decide) ?_
            refine ih (s + 1) _ _ (by omega) (by omega) hSv (fun a b a0 a1 b0 b1 hab => ?_)
            by_cases c : 10 * a + b < 10 * x + s
            · exact hN a b a0 a1 b0 b1 c
            · have ea : a = x := by omega
              have eb : b = s := by omega
              rw [ea, eb]
              first
              | exact hb
              | exact fun z => absurd (hb.2 z).1 (by omega)
              | (intro z
                 rw [if_pos (hb.2 z).2] at c111
                 exact absurd c111 (by decide))
          · refine Gx_iconst ⟨by decide, by decide⟩ dX2_lost_114 ?_
            refine Gx_goto (tgt := 119) dX2_lost_115 (by decide) ?_
            refine Gx_istore_8 dX2_lost_119 (Nat.le_of_ble_eq_true rfl) (Nat.ne_of_beq_eq_false rfl) ?_
            refine Gx_aload_n (i := 0) dX2_lost_121 rfl rfl ?_
            refine gf_X2_56_22 dX2_lost_122 rfl rfl ?_
            refine Gx_iload dX2_lost_125 rfl ?_
            refine Gx_iload dX2_lost_127 rfl ?_
            refine Gx_iastore dX2_lost_129 rfl (by first | omega | (simp (disch := omega) only [w32_id]; omega)) ?_
            refine Gx_iload dX2_lost_130 rfl ?_
            refine Gx_if_eq (tgt := 144) dX2_lost_132 (by decide) (fun hz => absurd hz (by decide)) (fun _ => ?_)
            refine Gx_bipush dX2_lost_135 ⟨by decide, by decide⟩ ?_
            refine Gx_iload dX2_lost_137 rfl ?_
            refine Gx_imul dX2_lost_139 ?_
            try simp (disch := omega) only [w32_id]
            refine Gx_iload dX2_lost_140 rfl ?_
            refine Gx_iadd dX2_lost_142 ?_
            try simp (disch := omega) only [w32_id]
            refine Gx_ireturn dX2_lost_143 trivial ?_
            refine k1 _ _ hSv (Or.inr ⟨x, s, hx, ⟨h0, by omega⟩, rfl, hb.1 ⟨by omega, ?_⟩, hN⟩)
            by_cases z : yTot yP1 (yIt (gUp (mN v0) 54 x s) m2) l2 * yTot yO1 (yIt (mN v0) m) l < yTot yP1 (yIt (mN v0) m) l * yTot yO1 (yIt (gUp (mN v0) 54 x s) m2) l2
            · exact z
            · rw [if_neg z] at c111
              exact absurd rfl c111
      · rw [mN_54 hx.1 (by omega), hm] at hno
        have hb := yLs_no hno
        have hSv := oScr_54 hS hS1 rfl
        refine Gx_if_eq (tgt := 118) dX2_lost_86 (by decide) (fun _ => ?_) (fun hz => absurd hz (by decide))
        refine Gx_iconst ⟨by decide, by decide⟩ dX2_lost_118 ?_
        refine Gx_istore_8 dX2_lost_119 (Nat.le_of_ble_eq_true rfl) (Nat.ne_of_beq_eq_false rfl) ?_
        refine Gx_aload_n (i := 0) dX2_lost_121 rfl rfl ?_
        refine gf_X2_56_22 dX2_lost_122 rfl rfl ?_
        refine Gx_iload dX2_lost_125 rfl ?_
        refine Gx_iload dX2_lost_127 rfl ?_
        refine Gx_iastore dX2_lost_129 rfl (by first | omega | (simp (disch := omega) only [w32_id]; omega)) ?_
        refine Gx_iload dX2_lost_130 rfl ?_
        refine Gx_if_eq (tgt := 144) dX2_lost_132 (by decide) (fun _ => ?_) (fun hz => absurd hz (by decide))
        refine Gx_iinc_7 dX2_lost_144 (Nat.le_of_ble_eq_true rfl) (Nat.ne_of_beq_eq_false rfl) ?_
        try simp (disch := omega) only [w32_id]
        refine Gx_goto (tgt := 63) dX2_lost_147 (by decide) ?_
        refine ih (s + 1) _ _ (by omega) (by omega) hSv (fun a b a0 a1 b0 b1 hab => ?_)
        by_cases c : 10 * a + b < 10 * x + s
        · exact hN a b a0 a1 b0 b1 c
        · have ea : a = x := by omega
          have eb : b = s := by omega
          rw [ea, eb]
          first
          | exact hb
          | exact fun z => absurd (hb.2 z).1 (by omega)
          | (intro z
             rw [if_pos (hb.2 z).2] at c111
             exact absurd c111 (by decide))
set_option maxHeartbeats 2000000 in
theorem lp_X2_lost2 {m l bc bs : Nat} {v0 : gM} (hok : yOK v0) (hy : v0 38 31 ≤ 9999) (hml : oHas (mN v0) m l) (k1 : ∀ (v1 : gM) (r : Int), oScr v0 v1 → oFst (yLs (mN v0)) (v0 38 28) 3 r → Q (0, r) v1 (gHd K) t) : ∀ (j : Nat) (x : Int) (v : gM) (z6 z7 z8 : gV), 0 ≤ x → x + j = v0 38 28 → oScr v0 v → (∀ t' s', 0 ≤ t' → t' < v0 38 28 → 0 ≤ s' → s' < 3 → 10 * t' + s' < 10 * x → ¬ yLs (mN v0) t' s') → Gx Γ mX2_lost 42 [(2, 38), (1, yTot yP1 (yIt (mN v0) m) l), (9, 0), (1, yTot yO1 (yIt (mN v0) m) l), (9, 0), (0, x), z6, z7, z8] [] v (gHd K) t bc bs Q := by
  intro j
  induction j with
  | zero =>
    intro x v z6 z7 z8 h0 h1 hS hN
    have q28 := hS 38 28 (by omega)
    have h28 := hok.2.2.2.2.2.2.2.1
    refine Gx_iload dX2_lost_42 rfl ?_
    refine Gx_aload_n (i := 0) dX2_lost_44 rfl rfl ?_
    refine gf_X2_97_22 dX2_lost_45 rfl rfl ?_
    rw [q28]
    refine Gx_icmp_ge (tgt := 156) dX2_lost_48 (by decide) (fun c48 => ?_) (fun c48 => ?_)
    · refine Gx_bipush dX2_lost_156 ⟨by decide, by decide⟩ ?_
      refine Gx_ireturn dX2_lost_158 trivial ?_
      refine k1 v _ hS (Or.inl ⟨rfl, fun a b a0 a1 b0 b1 => hN a b a0 a1 b0 b1 (by omega)⟩)
    · exfalso
      omega
  | succ j ih =>
    intro x v z6 z7 z8 h0 h1 hS hN
    have q28 := hS 38 28 (by omega)
    have h28 := hok.2.2.2.2.2.2.2.1
    refine Gx_iload dX2_lost_42 rfl ?_
    refine Gx_aload_n (i := 0) dX2_lost_44 rfl rfl ?_
    refine gf_X2_97_22 dX2_lost_45 rfl rfl ?_
    rw [q28]
    refine Gx_icmp_ge (tgt := 156) dX2_lost_48 (by decide) (fun c48 => ?_) (fun c48 => ?_)
    · refine Gx_bipush dX2_lost_156 ⟨by decide, by decide⟩ ?_
      refine Gx_ireturn dX2_lost_158 trivial ?_
      exfalso
      omega
    · refine Gx_aload_n (i := 0) dX2_lost_51 rfl rfl ?_
      refine gf_X2_56_22 dX2_lost_52 rfl rfl ?_
      refine Gx_iload dX2_lost_55 rfl ?_
      refine Gx_iaload dX2_lost_57 rfl (by first | omega | (simp (disch := omega) only [w32_id]; omega)) ?_
      rw [hS 54 x (by omega)]
      refine Gx_istore_6 dX2_lost_58 (Nat.le_of_ble_eq_true rfl) (Nat.ne_of_beq_eq_false rfl) ?_
      refine Gx_iconst ⟨by decide, by decide⟩ dX2_lost_60 ?_
      refine Gx_istore_7 dX2_lost_61 (Nat.le_of_ble_eq_true rfl) (Nat.ne_of_beq_eq_false rfl) ?_
      refine lp_X2_lost1 hok hy hml ⟨h0, by omega⟩ k1 (fun v1 z8' hS1 hN1 => ?_) 3 0 v _ (by omega) (by omega) hS (fun a b a0 a1 b0 b1 hab => hN a b a0 a1 b0 b1 (by omega))
      refine Gx_iinc_5 dX2_lost_150 (Nat.le_of_ble_eq_true rfl) (Nat.ne_of_beq_eq_false rfl) ?_
      try simp (disch := omega) only [w32_id]
      refine Gx_goto (tgt := 42) dX2_lost_153 (by decide) ?_
      exact ih (x + 1) v1 _ _ _ (by omega) (by omega) hS1 hN1
set_option maxHeartbeats 1000000 in
theorem ct_X2_lost  (hok : yOK v) (hy : v 38 31 ≤ 9999) (k1 : ∀ m l, oHas (mN v) m l → yTot yO1 (yIt (mN v) m) l ≠ 0 → ∀ (v1 : gM) (r : Int), oScr v v1 → oFst (yLs (mN v)) (v 38 28) 3 r → Q (0, r) v1 (gHd K) t) (kM : ∀ m l, oHas (mN v) m l → yTot yO1 (yIt (mN v) m) l = 0 → ∀ v1 : gM, oScr v v1 → Q (0, -3) (sMeet v1 4) (gHd K) t) (k0 : oNo (mN v) → ∀ v1, oScr v v1 → Q (0, -6) v1 (gHd K) t) : Ctr Γ mX2_lost [(2, 38)] v (gHd K) t Q := by
  refine Ctr.ofG (ls := [(2, 38), (9, 0), (9, 0), (9, 0), (9, 0), (9, 0), (9, 0), (9, 0), (9, 0)]) rfl rfl rfl rfl rfl ?_
  refine Gx_aload_n (i := 0) dX2_lost_0 rfl rfl ?_
  refine Gx_bipush dX2_lost_1 ⟨by decide, by decide⟩ ?_
  refine Gx_bipush dX2_lost_3 ⟨by decide, by decide⟩ ?_
  refine cl_X2_339 dX2_lost_5 rfl rfl ⟨(Nat.le_of_ble_eq_true rfl), (Nat.le_of_ble_eq_true rfl)⟩ rfl ?_
  refine ct_X2_laySums hok hy (by have := hok.2.2.1; omega) (by have := hok.2.2.2.2.1.1; omega) (fun v1 m l hml hS1 h47 hSm => ?_) (fun hno v1 hS1 => ?_)
  · obtain ⟨s48, s49, s50, s51, s52, s53, -⟩ := hSm
    have b1 := yOP_le (yOK_N hok) m l
    refine Gx_if_ne (tgt := 14) dX2_lost_8 (by decide) (fun _ => ?_) (fun hz => absurd hz (by decide))
    refine Gx_aload_n (i := 0) dX2_lost_14 rfl rfl ?_
    refine gf_X2_321_22 dX2_lost_15 rfl rfl ?_
    rw [s52]
    refine Gx_lconst0 dX2_lost_18 ?_
    try simp (disch := omega) only [w64_id]
    refine Gx_lcmpif_ne (tgt := 29) dX2_lost_19 dX2_lost_20 (by decide) (fun c19 => ?_) (fun c19 => ?_)
    · refine Gx_aload_n (i := 0) dX2_lost_29 rfl rfl ?_
      refine gf_X2_324_22 dX2_lost_30 rfl rfl ?_
      rw [s53]
      refine Gx_lstore_n_1 dX2_lost_33 (Nat.le_of_ble_eq_true rfl) (Nat.ne_of_beq_eq_false rfl) ?_
      refine Gx_aload_n (i := 0) dX2_lost_34 rfl rfl ?_
      refine gf_X2_321_22 dX2_lost_35 rfl rfl ?_
      rw [s52]
      refine Gx_lstore_n_3 dX2_lost_38 (Nat.le_of_ble_eq_true rfl) (Nat.ne_of_beq_eq_false rfl) ?_
      refine Gx_iconst ⟨by decide, by decide⟩ dX2_lost_39 ?_
      refine Gx_istore_5 dX2_lost_40 (Nat.le_of_ble_eq_true rfl) (Nat.ne_of_beq_eq_false rfl) ?_
      refine lp_X2_lost2 hok hy hml (k1 m l hml (by omega)) (v 38 28).toNat 0 v1 _ _ _ (by omega) (by have := hok.2.2.2.2.2.2.2.1; omega) hS1 (fun a b a0 a1 b0 b1 hab => by omega)
    · refine Gx_aload_n (i := 0) dX2_lost_23 rfl rfl ?_
      refine Gx_iconst ⟨by decide, by decide⟩ dX2_lost_24 ?_
      refine cl_X2_118 dX2_lost_25 rfl rfl ⟨(Nat.le_of_ble_eq_true rfl), (Nat.le_of_ble_eq_true rfl)⟩ rfl ?_
      refine ct_X2_meets ⟨by decide, by decide⟩ ?_
      refine Gx_ireturn dX2_lost_28 trivial ?_
      exact kM m l hml (by omega) v1 hS1
  · refine Gx_if_ne (tgt := 14) dX2_lost_8 (by decide) (fun hz => absurd hz (by decide)) (fun _ => ?_)
    refine Gx_bipush dX2_lost_11 ⟨by decide, by decide⟩ ?_
    refine Gx_ireturn dX2_lost_13 trivial ?_
    exact k0 hno v1 hS1
/-- the wood with all that need others needing p -/
def yNd (u : gM) (p : Int) : gM := fun a k => if a = 50 ∧ 0 ≤ k ∧ k < 7 * u 38 20 ∧ k % 7 = 6 ∧ u 50 (k - 6) = 4 then p else u a k
theorem yNd_c {u : gM} {p a k : Int} (h : a ≠ 50) : yNd u p a k = u a k := if_neg (by omega)
theorem yNd_k {u : gM} {p s q : Int} (hq : 0 ≤ q ∧ q ≤ 5) : yNd u p 50 (7 * s + q) = u 50 (7 * s + q) := if_neg (by omega)
theorem yNd_6 {u : gM} {p s : Int} (h0 : 0 ≤ s) (h1 : s < u 38 20) : yNd u p 50 (7 * s + 6) = if u 50 (7 * s) = 4 then p else u 50 (7 * s + 6) := by
  unfold yNd
  rw [show 7 * s + 6 - 6 = 7 * s by omega]
  by_cases c : u 50 (7 * s) = 4
  · rw [if_pos (by omega), if_pos c]
  · rw [if_neg (by omega), if_neg c]
theorem yNd_N {v : gM} {p : Int} : mN (yNd v p) = yNd (mN v) p := by
  have e (a k) : yR (yNd v p) a k ↔ yR v a k := yR_congr (yNd_c (by omega)) (yNd_c (by omega)) (yNd_c (by omega)) (yNd_c (by omega))
  funext a k
  by_cases hR : yR v a k
  · rw [mN_at ((e a k).2 hR)]
    unfold yNd
    rw [mN_c (k := 20) (by omega), mN_at hR]
    by_cases c : a = 50 ∧ 0 ≤ k ∧ k < 7 * v 38 20 ∧ k % 7 = 6
    · rw [mN_at (a := 50) (k := k - 6) (by unfold yR; omega)]
    · rw [if_neg (by omega), if_neg (by omega)]
  · rw [mN_no (fun z => hR ((e a k).1 z))]
    unfold yR at hR
    unfold yNd
    rw [mN_c (k := 20) (by omega), if_neg (by omega), mN_no (by unfold yR; omega)]
theorem yOK_nd {v : gM} {p : Int} (h : yOK v) (hp : 0 ≤ p ∧ p ≤ 99) : yOK (yNd v p) := by
  obtain ⟨h1, h2, h3, h4, h5, h6, h7, h8, h9, h10⟩ := h
  have q (a k) (ha : a ≠ 50) : yNd v p a k = v a k := yNd_c ha
  unfold yOK oSrt oEat
  simp (disch := omega) only [q]
  refine ⟨h1, fun s s0 s1 => ?_, h3, h4, h5, h6, h7, h8, h9, h10⟩
  have g := h2 s s0 s1
  have q0 := yNd_k (u := v) (p := p) (s := s) (q := 0) (by omega)
  rw [Int.add_zero] at q0
  rw [q0, yNd_k (q := 4) (by omega), yNd_k (q := 5) (by omega), yNd_6 s0 s1]
  refine ⟨g.1, fun w w0 w1 => ?_, g.2.2.1, ?_, ?_, g.2.2.2.2.2⟩
  · rw [show 7 * s + 1 + w = 7 * s + (1 + w) by omega, yNd_k (by omega), show 7 * s + (1 + w) = 7 * s + 1 + w by omega]
    exact g.2.1 w w0 w1
  · split
    · omega
    · exact g.2.2.2.1
  · intro z
    rw [if_neg (by omega)]
    exact g.2.2.2.2.1 z
def yNe (u : gM) (p : Int) : Prop := ∃ m l : Nat, oHas (yNd u p) m l ∧ 0 < yTot yO1 (yIt (yNd u p) m) l ∧ yTot yP1 (yIt (yNd u p) m) l = yTot yO1 (yIt (yNd u p) m) l
def oLst (P : Int → Prop) (n r : Int) : Prop := (r = -9 ∧ ∀ p, 0 ≤ p → p < n → ¬ P p) ∨ ((0 ≤ r ∧ r < n) ∧ P r ∧ ∀ p, 0 ≤ p → p < r → ¬ P p)
theorem oLst_u {P : Int → Prop} {n r r' : Int} (h : oLst P n r) (h' : oLst P n r') : r = r' := by
  rcases h with ⟨e, h⟩ | ⟨hb, hp, hq⟩
  · rcases h' with ⟨e', h'⟩ | ⟨hb', hp', hq'⟩
    · omega
    · exact absurd hp' (h _ hb'.1 hb'.2)
  · rcases h' with ⟨e', h'⟩ | ⟨hb', hp', hq'⟩
    · exact absurd hp (h' _ hb.1 hb.2)
    · rcases Int.lt_trichotomy r r' with c | c | c
      · exact absurd hp (hq' _ hb.1 c)
      · exact c
      · exact absurd hp' (hq _ hb'.1 c)
/-- under way in need: only the numbers of those that need are other, what was is kept -/
def oNs (v0 v : gM) : Prop := (∀ a k, ¬ (oSq a k ∨ a = 65 ∨ (a = 50 ∧ 0 ≤ k ∧ k < 7 * v0 38 20 ∧ k % 7 = 6 ∧ v0 50 (k - 6) = 4)) → v a k = v0 a k) ∧ ∀ s, 0 ≤ s → s < v0 38 20 → v 65 s = v0 50 (7 * s + 6)
def oScW (v v1 : gM) : Prop := ∀ a k, ¬ (oSq a k ∨ a = 65) → v1 a k = v a k
theorem oNs_scr {v0 v v1 : gM} (h : oNs v0 v) (g : oScr v v1) : oNs v0 v1 := ⟨fun a k hk => (g a k (by omega)).trans (h.1 a k hk), fun s s0 s1 => (g 65 s (by omega)).trans (h.2 s s0 s1)⟩
theorem oNs_p {v0 v : gM} {p : Int} (h : oNs v0 v) (hp : ∀ s, 0 ≤ s → s < v0 38 20 → v 50 (7 * s + 6) = yNd v0 p 50 (7 * s + 6)) : mN v = yNd (mN v0) p := by
  rw [← yNd_N]
  refine mN_congr (fun a k hR => ?_)
  unfold yR at hR
  rw [yNd_c (k := 20) (by omega), yNd_c (k := 22) (by omega), yNd_c (k := 28) (by omega), yNd_c (k := 33) (by omega)] at hR
  by_cases c : a = 50 ∧ k % 7 = 6
  · have g := hp (k / 7) (by omega) (by omega)
    rw [show 7 * (k / 7) + 6 = k by omega] at g
    rw [c.1]
    exact g
  · rw [h.1 a k (by omega)]
    unfold yNd
    rw [if_neg (by omega)]

end
