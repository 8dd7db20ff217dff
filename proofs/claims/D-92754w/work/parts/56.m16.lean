/-! AcornYearsModel: passes, its first loop: what grows, who blooms -/
section
variable {Γ : gC} {v : gM} {K : gH} {t : Nat} {Q : gQ}
/-- what is stored once a May w has added, and whether the tree blooms; v's year is the new one -/
def mG (v : gM) (w i : Int) : Int := if v 50 (7 * v 57 i) = 1 then v 58 i else min 60 (v 58 i + v 50 (7 * v 57 i + 1 + w))
def mBq (v : gM) (w i : Int) : Bool := yBl (v 50 (7 * v 57 i)) (v 50 (7 * v 57 i + 1 + w)) (v 50 (7 * v 57 i + 4)) (v 50 (7 * v 57 i + 5)) (v 50 (7 * v 57 i + 6)) (v 38 31) w (mG v w i)
/-- the trees of a memory and their sorts: what bounds them -/
def oTr (v : gM) : Prop := (0 ≤ v 38 33 ∧ v 38 33 ≤ 24) ∧ ∀ i, 0 ≤ i → i < v 38 33 → (0 ≤ v 57 i ∧ v 57 i < 6) ∧ (0 ≤ v 58 i ∧ v 58 i ≤ 60) ∧ (1 ≤ v 50 (7 * v 57 i) ∧ v 50 (7 * v 57 i) ≤ 5) ∧ (∀ w, 0 ≤ w → w ≤ 2 → 0 ≤ v 50 (7 * v 57 i + 1 + w) ∧ v 50 (7 * v 57 i + 1 + w) ≤ 9) ∧ (0 ≤ v 50 (7 * v 57 i + 5) ∧ v 50 (7 * v 57 i + 5) ≤ 60) ∧ (0 ≤ v 50 (7 * v 57 i + 6) ∧ v 50 (7 * v 57 i + 6) ≤ 99) ∧ (v 50 (7 * v 57 i) = 5 → 2 ≤ v 50 (7 * v 57 i + 6)) ∧ (v 50 (7 * v 57 i) ≠ 1 → v 50 (7 * v 57 i) ≠ 3 → v 50 (7 * v 57 i + 5) ≤ v 50 (7 * v 57 i + 4) + 1) ∧ 0 ≤ v 50 (7 * v 57 i + 4)
/-- behind i trees of the first loop -/
def oP1 (v0 v : gM) (w i : Int) : Prop := (∀ a k, ¬ ((a = 38 ∧ (k = 40 ∨ k = 41)) ∨ ((a = 58 ∨ a = 59 ∨ a = 60) ∧ 0 ≤ k ∧ k < i)) → v a k = v0 a k) ∧ (∀ k, 0 ≤ k → k < i → v 58 k = mG v0 w k ∧ v 59 k = (if mBq v0 w k = true then w32 (v0 59 k + 1) else v0 59 k) ∧ v 60 k = (if mBq v0 w k = true then v0 38 31 else v0 60 k)) ∧ v 38 40 = yCnt (mBq v0 w) i.toNat ∧ ∀ k, 0 ≤ k → k < 32 → gHas (v 38 41) k = (decide (k < i) && mBq v0 w k)

set_option maxHeartbeats 4000000 in
theorem lp_X2_passes1 {w h pg n : Int} {bc bs : Nat} {v0 : gM} (hw : 0 ≤ w ∧ w ≤ 2) (hT : oTr v0) (hn : v0 38 33 = n) (cont : ∀ v1, oP1 v0 v1 w n → Gx Γ mX2_passes 147 [(2, 38), (0, w), (0, h), (0, pg), (0, n)] [] v1 (gHd K) t bc bs Q) : ∀ (j : Nat) (i : Int) (v : gM), 0 ≤ i → i + j = n → oP1 v0 v w i → Gx Γ mX2_passes 23 [(2, 38), (0, w), (0, h), (0, pg), (0, i)] [] v (gHd K) t bc bs Q := by
  intro j
  induction j with
  | zero =>
    intro i v h0 h1 hP
    obtain ⟨hF, hV, hN, hB⟩ := id hP
    have hv33 : v 38 33 = n := by rw [hF 38 33 (by omega)]; exact hn
    refine Gx_iload dX2_passes_23 rfl ?_
    refine Gx_aload_n (i := 0) dX2_passes_25 rfl rfl ?_
    refine gf_X2_203_22 dX2_passes_26 rfl rfl ?_
    refine Gx_icmp_ge (tgt := 147) dX2_passes_29 (by decide) (fun c29 => ?_) (fun c29 => ?_)
    · have e0 : i = n := by omega
      rw [e0] at hP ⊢
      exact cont v hP
    · exfalso
      omega
  | succ j ih =>
    intro i v h0 h1 hP
    obtain ⟨hF, hV, hN, hB⟩ := id hP
    have hv33 : v 38 33 = n := by rw [hF 38 33 (by omega)]; exact hn
    refine Gx_iload dX2_passes_23 rfl ?_
    refine Gx_aload_n (i := 0) dX2_passes_25 rfl rfl ?_
    refine gf_X2_203_22 dX2_passes_26 rfl rfl ?_
    refine Gx_icmp_ge (tgt := 147) dX2_passes_29 (by decide) (fun c29 => ?_) (fun c29 => ?_)
    · exfalso
      omega
    · have hT1 := hT.1
      obtain ⟨g57, g58, g50, g51, g55, g56, g5, -, g54⟩ := hT.2 i h0 (by omega)
      have g51 := g51 w hw.1 hw.2
      have hc := yCnt_le (mBq v0 w) i.toNat
      refine Gx_aload_n (i := 0) dX2_passes_32 rfl rfl ?_
      refine Gx_aload_n (i := 0) dX2_passes_33 rfl rfl ?_
      refine gf_X2_65_22 dX2_passes_34 rfl rfl ?_
      refine Gx_iload dX2_passes_37 rfl ?_
      refine Gx_iaload dX2_passes_39 rfl (by first | omega | (simp (disch := omega) only [w32_id]; omega)) ?_
      rw [hF 57 i (by omega)]
      refine cl_X2_209 dX2_passes_40 rfl rfl ⟨(Nat.le_of_ble_eq_true rfl), (Nat.le_of_ble_eq_true rfl)⟩ rfl ?_
      refine ct_X2_kind (by omega) ?_
      rw [hF 50 _ (by omega)]
      refine Gx_iconst ⟨by decide, by decide⟩ dX2_passes_43 ?_
      refine Gx_icmp_eq (tgt := 86) dX2_passes_44 (by decide) (fun c44 => ?_) (fun c44 => ?_)
      · refine Gx_name (fun vA eA => ?_)
        have hFA : ∀ a k, ¬ ((a = 38 ∧ (k = 40 ∨ k = 41)) ∨ ((a = 58 ∨ a = 59 ∨ a = 60) ∧ 0 ≤ k ∧ k < i) ∨ (a = 58 ∧ k = i)) → vA a k = v0 a k := by
          intro a k hn9
          rw [eA]
          first
            | (rw [gUp_ne2 (by omega)]
               exact hF a k (by omega))
            | exact hF a k (by omega)
        have hFB : ∀ a k, ¬ (a = 58 ∧ k = i) → vA a k = v a k := by
          intro a k hn9
          first
            | (rw [eA]; done)
            | (rw [eA, gUp_ne2 (by omega)])
        have h58 : vA 58 i = mG v0 w i := by
          rw [eA]
          unfold mG
          first
            | (rw [if_neg (by omega), gUp_eq2 rfl rfl])
            | (rw [if_pos (by omega)]; exact hF 58 i (by omega))
        have eB : mBl vA i w = mBq v0 w i := by
          unfold mBl mBq
          rw [h58, hFA 57 i (by omega), hFA 38 31 (by omega), hFA 50 _ (by omega), hFA 50 _ (by omega), hFA 50 _ (by omega), hFA 50 _ (by omega), hFA 50 _ (by omega)]
        refine Gx_aload_n (i := 0) dX2_passes_86 rfl rfl ?_
        refine Gx_iload dX2_passes_87 rfl ?_
        refine Gx_iload_n (i := 1) dX2_passes_89 rfl rfl ?_
        refine cl_X2_248 dX2_passes_90 rfl rfl ⟨(Nat.le_of_ble_eq_true rfl), (Nat.le_of_ble_eq_true rfl)⟩ rfl ?_
        refine ct_X2_doesBloom (by omega) hw (by rw [hFA 57 i (by omega)]; omega) (by rw [hFA 57 i (by omega), hFA 50 _ (by omega), hFA 50 _ (by omega)]; omega) (fun c90 => ?_) (fun c90 => ?_)
        · rw [eB] at c90
          refine Gx_if_eq (tgt := 141) dX2_passes_93 (by decide) (fun hz => absurd hz (by decide)) (fun _ => ?_)
          refine Gx_aload_n (i := 0) dX2_passes_96 rfl rfl ?_
          refine Gx_dup (Nat.ne_of_beq_eq_false rfl) dX2_passes_97 ?_
          refine gf_X2_242_22 dX2_passes_98 rfl rfl ?_
          refine Gx_iconst ⟨by decide, by decide⟩ dX2_passes_101 ?_
          refine Gx_iload dX2_passes_102 rfl ?_
          refine Gx_ishl dX2_passes_104 ?_
          refine Gx_ior dX2_passes_105 ?_
          refine pf_X2_242_22 dX2_passes_106 rfl rfl ?_
          refine Gx_aload_n (i := 0) dX2_passes_109 rfl rfl ?_
          refine Gx_dup (Nat.ne_of_beq_eq_false rfl) dX2_passes_110 ?_
          refine gf_X2_245_22 dX2_passes_111 rfl rfl ?_
          refine Gx_iconst ⟨by decide, by decide⟩ dX2_passes_114 ?_
          refine Gx_iadd dX2_passes_115 ?_
          try simp (disch := omega) only [w32_id]
          refine pf_X2_245_22 dX2_passes_116 rfl rfl ?_
          refine Gx_aload_n (i := 0) dX2_passes_119 rfl rfl ?_
          refine gf_X2_71_22 dX2_passes_120 rfl rfl ?_
          refine Gx_iload dX2_passes_123 rfl ?_
          refine Gx_dup2 (Nat.ne_of_beq_eq_false rfl) (Nat.ne_of_beq_eq_false rfl) dX2_passes_125 ?_
          refine Gx_iaload dX2_passes_126 rfl (by first | omega | (simp (disch := omega) only [w32_id]; omega)) ?_
          refine Gx_iconst ⟨by decide, by decide⟩ dX2_passes_127 ?_
          refine Gx_iadd dX2_passes_128 ?_
          try simp (disch := omega) only [w32_id]
          refine Gx_iastore dX2_passes_129 rfl (by first | omega | (simp (disch := omega) only [w32_id]; omega)) ?_
          refine Gx_aload_n (i := 0) dX2_passes_130 rfl rfl ?_
          refine gf_X2_74_22 dX2_passes_131 rfl rfl ?_
          refine Gx_iload dX2_passes_134 rfl ?_
          refine Gx_aload_n (i := 0) dX2_passes_136 rfl rfl ?_
          refine gf_X2_206_22 dX2_passes_137 rfl rfl ?_
          refine Gx_iastore dX2_passes_140 rfl (by first | omega | (simp (disch := omega) only [w32_id]; omega)) ?_
          refine Gx_iinc_4 dX2_passes_141 (Nat.le_of_ble_eq_true rfl) (Nat.ne_of_beq_eq_false rfl) ?_
          try simp (disch := omega) only [w32_id]
          refine Gx_goto (tgt := 23) dX2_passes_144 (by decide) ?_
          have hx := yCnt_s (q := mBq v0 w) h0
          have h40 : vA 38 40 = yCnt (mBq v0 w) i.toNat := by rw [hFB 38 40 (by omega)]; exact hN
          have h41 : ∀ k, 0 ≤ k → k < 32 → gHas (vA 38 41) k = (decide (k < i) && mBq v0 w k) := by rw [hFB 38 41 (by omega)]; exact hB
          refine Gx_name (fun vN eN => ?_)
          refine ih (i + 1) vN (by omega) (by omega) ⟨fun a k hn9 => ?_, fun k k0 k1 => ?_, ?_, fun k k0 k1 => ?_⟩
          · rw [eN]
            first
              | (rw [gUp_ne2 (by omega), gUp_ne2 (by omega), gUp_ne2 (by omega), gUp_ne2 (by omega)]; exact hFA a k (by omega))
              | exact hFA a k (by omega)
          · by_cases hk : k = i
            · subst hk
              rw [eN]
              first
                | (rw [if_pos c90, if_pos c90]
                   refine ⟨?_, ?_, ?_⟩
                   · simp (disch := omega) only [gUp_ne2, gUp_eq2]
                     exact h58
                   · simp (disch := omega) only [gUp_ne2, gUp_eq2]
                     rw [hFA 59 k (by omega)]
                   · simp (disch := omega) only [gUp_ne2, gUp_eq2]
                     rw [hFA 38 31 (by omega)])
                | (rw [if_neg c90, if_neg c90]
                   exact ⟨h58, hFA 59 k (by omega), hFA 60 k (by omega)⟩)
            · have hv := hV k k0 (by omega)
              rw [eN]
              first
                | (simp (disch := omega) only [gUp_ne2, gUp_eq2]
                   rw [hFB 58 k (by omega), hFB 59 k (by omega), hFB 60 k (by omega)]
                   exact hv)
                | (rw [hFB 58 k (by omega), hFB 59 k (by omega), hFB 60 k (by omega)]
                   exact hv)
          · rw [hx, eN]
            first
              | (rw [if_pos c90]
                 simp (disch := omega) only [gUp_ne2, gUp_eq2]
                 rw [h40]
                 exact w32_id (by omega) (by omega))
              | (rw [if_neg c90, h40]
                 omega)
          · rw [eN]
            first
              | (simp (disch := omega) only [gUp_ne2, gUp_eq2]
                 rw [has_or ⟨k0, k1⟩ (by omega), h41 k k0 k1]
                 by_cases hk : k = i
                 · subst hk
                   rw [c90, decide_eq_true (show k < k + 1 by omega)]
                   simp
                 · have e1 : decide (k < i + 1) = decide (k < i) := by
                     by_cases h9 : k < i
                     · rw [decide_eq_true h9, decide_eq_true (by omega)]
                     · rw [decide_eq_false h9, decide_eq_false (by omega)]
                   rw [e1, decide_eq_false hk, Bool.or_false])
              | (rw [h41 k k0 k1]
                 by_cases hk : k = i
                 · subst hk
                   have c91 : mBq v0 w k = false := Bool.eq_false_iff.mpr c90
                   rw [c91]
                   simp
                 · have e1 : decide (k < i + 1) = decide (k < i) := by
                     by_cases h9 : k < i
                     · rw [decide_eq_true h9, decide_eq_true (by omega)]
                     · rw [decide_eq_false h9, decide_eq_false (by omega)]
                   rw [e1])
        · rw [eB] at c90
          refine Gx_if_eq (tgt := 141) dX2_passes_93 (by decide) (fun _ => ?_) (fun hz => absurd hz (by decide))
          refine Gx_iinc_4 dX2_passes_141 (Nat.le_of_ble_eq_true rfl) (Nat.ne_of_beq_eq_false rfl) ?_
          try simp (disch := omega) only [w32_id]
          refine Gx_goto (tgt := 23) dX2_passes_144 (by decide) ?_
          have hx := yCnt_s (q := mBq v0 w) h0
          have h40 : vA 38 40 = yCnt (mBq v0 w) i.toNat := by rw [hFB 38 40 (by omega)]; exact hN
          have h41 : ∀ k, 0 ≤ k → k < 32 → gHas (vA 38 41) k = (decide (k < i) && mBq v0 w k) := by rw [hFB 38 41 (by omega)]; exact hB
          refine Gx_name (fun vN eN => ?_)
          refine ih (i + 1) vN (by omega) (by omega) ⟨fun a k hn9 => ?_, fun k k0 k1 => ?_, ?_, fun k k0 k1 => ?_⟩
          · rw [eN]
            first
              | (rw [gUp_ne2 (by omega), gUp_ne2 (by omega), gUp_ne2 (by omega), gUp_ne2 (by omega)]; exact hFA a k (by omega))
              | exact hFA a k (by omega)
          · by_cases hk : k = i
            · subst hk
              rw [eN]
              first
                | (rw [if_pos c90, if_pos c90]
                   refine ⟨?_, ?_, ?_⟩
                   · simp (disch := omega) only [gUp_ne2, gUp_eq2]
                     exact h58
                   · simp (disch := omega) only [gUp_ne2, gUp_eq2]
                     rw [hFA 59 k (by omega)]
                   · simp (disch := omega) only [gUp_ne2, gUp_eq2]
                     rw [hFA 38 31 (by omega)])
                | (rw [if_neg c90, if_neg c90]
                   exact ⟨h58, hFA 59 k (by omega), hFA 60 k (by omega)⟩)
            · have hv := hV k k0 (by omega)
              rw [eN]
              first
                | (simp (disch := omega) only [gUp_ne2, gUp_eq2]
                   rw [hFB 58 k (by omega), hFB 59 k (by omega), hFB 60 k (by omega)]
                   exact hv)
                | (rw [hFB 58 k (by omega), hFB 59 k (by omega), hFB 60 k (by omega)]
                   exact hv)
          · rw [hx, eN]
            first
              | (rw [if_pos c90]
                 simp (disch := omega) only [gUp_ne2, gUp_eq2]
                 rw [h40]
                 exact w32_id (by omega) (by omega))
              | (rw [if_neg c90, h40]
                 omega)
          · rw [eN]
            first
              | (simp (disch := omega) only [gUp_ne2, gUp_eq2]
                 rw [has_or ⟨k0, k1⟩ (by omega), h41 k k0 k1]
                 by_cases hk : k = i
                 · subst hk
                   rw [c90, decide_eq_true (show k < k + 1 by omega)]
                   simp
                 · have e1 : decide (k < i + 1) = decide (k < i) := by
                     by_cases h9 : k < i
                     · rw [decide_eq_true h9, decide_eq_true (by omega)]
                     · rw [decide_eq_false h9, decide_eq_false (by omega)]
                   rw [e1, decide_eq_false hk, Bool.or_false])
              | (rw [h41 k k0 k1]
                 by_cases hk : k = i
                 · subst hk
                   have c91 : mBq v0 w k = false := Bool.eq_false_iff.mpr c90
                   rw [c91]
                   simp
                 · have e1 : decide (k < i + 1) = decide (k < i) := by
                     by_cases h9 : k < i
                     · rw [decide_eq_true h9, decide_eq_true (by omega)]
                     · rw [decide_eq_false h9, decide_eq_false (by omega)]
                   rw [e1])
      · refine Gx_aload_n (i := 0) dX2_passes_47 rfl rfl ?_
        refine gf_X2_68_22 dX2_passes_48 rfl rfl ?_
        refine Gx_iload dX2_passes_51 rfl ?_
        refine Gx_bipush dX2_passes_53 ⟨by decide, by decide⟩ ?_
        refine Gx_aload_n (i := 0) dX2_passes_55 rfl rfl ?_
        refine gf_X2_68_22 dX2_passes_56 rfl rfl ?_
        refine Gx_iload dX2_passes_59 rfl ?_
        refine Gx_iaload dX2_passes_61 rfl (by first | omega | (simp (disch := omega) only [w32_id]; omega)) ?_
        rw [hF 58 i (by omega)]
        refine Gx_aload_n (i := 0) dX2_passes_62 rfl rfl ?_
        refine gf_X2_44_22 dX2_passes_63 rfl rfl ?_
        refine Gx_bipush dX2_passes_66 ⟨by decide, by decide⟩ ?_
        refine Gx_aload_n (i := 0) dX2_passes_68 rfl rfl ?_
        refine gf_X2_65_22 dX2_passes_69 rfl rfl ?_
        refine Gx_iload dX2_passes_72 rfl ?_
        refine Gx_iaload dX2_passes_74 rfl (by first | omega | (simp (disch := omega) only [w32_id]; omega)) ?_
        rw [hF 57 i (by omega)]
        refine Gx_imul dX2_passes_75 ?_
        try simp (disch := omega) only [w32_id]
        refine Gx_iconst ⟨by decide, by decide⟩ dX2_passes_76 ?_
        refine Gx_iadd dX2_passes_77 ?_
        try simp (disch := omega) only [w32_id]
        refine Gx_iload_n (i := 1) dX2_passes_78 rfl rfl ?_
        refine Gx_iadd dX2_passes_79 ?_
        try simp (disch := omega) only [w32_id]
        refine Gx_iaload dX2_passes_80 rfl (by first | omega | (simp (disch := omega) only [w32_id]; omega)) ?_
        rw [hF 50 _ (by omega)]
        try simp (disch := omega) only [w32_id]
        refine Gx_iadd dX2_passes_81 ?_
        try simp (disch := omega) only [w32_id]
        refine cl_X2_158 dX2_passes_82 rfl ⟨(Nat.le_of_ble_eq_true rfl), (Nat.le_of_ble_eq_true rfl)⟩ rfl ?_
        refine ct_X2_lesser ?_
        refine Gx_iastore dX2_passes_85 rfl (by first | omega | (simp (disch := omega) only [w32_id]; omega)) ?_
        refine Gx_name (fun vA eA => ?_)
        have hFA : ∀ a k, ¬ ((a = 38 ∧ (k = 40 ∨ k = 41)) ∨ ((a = 58 ∨ a = 59 ∨ a = 60) ∧ 0 ≤ k ∧ k < i) ∨ (a = 58 ∧ k = i)) → vA a k = v0 a k := by
          intro a k hn9
          rw [eA]
          first
            | (rw [gUp_ne2 (by omega)]
               exact hF a k (by omega))
            | exact hF a k (by omega)
        have hFB : ∀ a k, ¬ (a = 58 ∧ k = i) → vA a k = v a k := by
          intro a k hn9
          first
            | (rw [eA]; done)
            | (rw [eA, gUp_ne2 (by omega)])
        have h58 : vA 58 i = mG v0 w i := by
          rw [eA]
          unfold mG
          first
            | (rw [if_neg (by omega), gUp_eq2 rfl rfl])
            | (rw [if_pos (by omega)]; exact hF 58 i (by omega))
        have eB : mBl vA i w = mBq v0 w i := by
          unfold mBl mBq
          rw [h58, hFA 57 i (by omega), hFA 38 31 (by omega), hFA 50 _ (by omega), hFA 50 _ (by omega), hFA 50 _ (by omega), hFA 50 _ (by omega), hFA 50 _ (by omega)]
        refine Gx_aload_n (i := 0) dX2_passes_86 rfl rfl ?_
        refine Gx_iload dX2_passes_87 rfl ?_
        refine Gx_iload_n (i := 1) dX2_passes_89 rfl rfl ?_
        refine cl_X2_248 dX2_passes_90 rfl rfl ⟨(Nat.le_of_ble_eq_true rfl), (Nat.le_of_ble_eq_true rfl)⟩ rfl ?_
        refine ct_X2_doesBloom (by omega) hw (by rw [hFA 57 i (by omega)]; omega) (by rw [hFA 57 i (by omega), hFA 50 _ (by omega), hFA 50 _ (by omega)]; omega) (fun c90 => ?_) (fun c90 => ?_)
        · rw [eB] at c90
          refine Gx_if_eq (tgt := 141) dX2_passes_93 (by decide) (fun hz => absurd hz (by decide)) (fun _ => ?_)
          refine Gx_aload_n (i := 0) dX2_passes_96 rfl rfl ?_
          refine Gx_dup (Nat.ne_of_beq_eq_false rfl) dX2_passes_97 ?_
          refine gf_X2_242_22 dX2_passes_98 rfl rfl ?_
          refine Gx_iconst ⟨by decide, by decide⟩ dX2_passes_101 ?_
          refine Gx_iload dX2_passes_102 rfl ?_
          refine Gx_ishl dX2_passes_104 ?_
          refine Gx_ior dX2_passes_105 ?_
          refine pf_X2_242_22 dX2_passes_106 rfl rfl ?_
          refine Gx_aload_n (i := 0) dX2_passes_109 rfl rfl ?_
          refine Gx_dup (Nat.ne_of_beq_eq_false rfl) dX2_passes_110 ?_
          refine gf_X2_245_22 dX2_passes_111 rfl rfl ?_
          refine Gx_iconst ⟨by decide, by decide⟩ dX2_passes_114 ?_
          refine Gx_iadd dX2_passes_115 ?_
          try simp (disch := omega) only [w32_id]
          refine pf_X2_245_22 dX2_passes_116 rfl rfl ?_
          refine Gx_aload_n (i := 0) dX2_passes_119 rfl rfl ?_
          refine gf_X2_71_22 dX2_passes_120 rfl rfl ?_
          refine Gx_iload dX2_passes_123 rfl ?_
          refine Gx_dup2 (Nat.ne_of_beq_eq_false rfl) (Nat.ne_of_beq_eq_false rfl) dX2_passes_125 ?_
          refine Gx_iaload dX2_passes_126 rfl (by first | omega | (simp (disch := omega) only [w32_id]; omega)) ?_
          refine Gx_iconst ⟨by decide, by decide⟩ dX2_passes_127 ?_
          refine Gx_iadd dX2_passes_128 ?_
          try simp (disch := omega) only [w32_id]
          refine Gx_iastore dX2_passes_129 rfl (by first | omega | (simp (disch := omega) only [w32_id]; omega)) ?_
          refine Gx_aload_n (i := 0) dX2_passes_130 rfl rfl ?_
          refine gf_X2_74_22 dX2_passes_131 rfl rfl ?_
          refine Gx_iload dX2_passes_134 rfl ?_
          refine Gx_aload_n (i := 0) dX2_passes_136 rfl rfl ?_
          refine gf_X2_206_22 dX2_passes_137 rfl rfl ?_
          refine Gx_iastore dX2_passes_140 rfl (by first | omega | (simp (disch := omega) only [w32_id]; omega)) ?_
          refine Gx_iinc_4 dX2_passes_141 (Nat.le_of_ble_eq_true rfl) (Nat.ne_of_beq_eq_false rfl) ?_
          try simp (disch := omega) only [w32_id]
          refine Gx_goto (tgt := 23) dX2_passes_144 (by decide) ?_
          have hx := yCnt_s (q := mBq v0 w) h0
          have h40 : vA 38 40 = yCnt (mBq v0 w) i.toNat := by rw [hFB 38 40 (by omega)]; exact hN
          have h41 : ∀ k, 0 ≤ k → k < 32 → gHas (vA 38 41) k = (decide (k < i) && mBq v0 w k) := by rw [hFB 38 41 (by omega)]; exact hB
          refine Gx_name (fun vN eN => ?_)
          refine ih (i + 1) vN (by omega) (by omega) ⟨fun a k hn9 => ?_, fun k k0 k1 => ?_, ?_, fun k k0 k1 => ?_⟩
          · rw [eN]
            first
              | (rw [gUp_ne2 (by omega), gUp_ne2 (by omega), gUp_ne2 (by omega), gUp_ne2 (by omega)]; exact hFA a k (by omega))
              | exact hFA a k (by omega)
          · by_cases hk : k = i
            · subst hk
              rw [eN]
              first
                | (rw [if_pos c90, if_pos c90]
                   refine ⟨?_, ?_, ?_⟩
                   · simp (disch := omega) only [gUp_ne2, gUp_eq2]
                     exact h58
                   · simp (disch := omega) only [gUp_ne2, gUp_eq2]
                     rw [hFA 59 k (by omega)]
                   · simp (disch := omega) only [gUp_ne2, gUp_eq2]
                     rw [hFA 38 31 (by omega)])
                | (rw [if_neg c90, if_neg c90]
                   exact ⟨h58, hFA 59 k (by omega), hFA 60 k (by omega)⟩)
            · have hv := hV k k0 (by omega)
              rw [eN]
              first
                | (simp (disch := omega) only [gUp_ne2, gUp_eq2]
                   rw [hFB 58 k (by omega), hFB 59 k (by omega), hFB 60 k (by omega)]
                   exact hv)
                | (rw [hFB 58 k (by omega), hFB 59 k (by omega), hFB 60 k (by omega)]
                   exact hv)
          · rw [hx, eN]
            first
              | (rw [if_pos c90]
                 simp (disch := omega) only [gUp_ne2, gUp_eq2]
                 rw [h40]
                 exact w32_id (by omega) (by omega))
              | (rw [if_neg c90, h40]
                 omega)
          · rw [eN]
            first
              | (simp (disch := omega) only [gUp_ne2, gUp_eq2]
                 rw [has_or ⟨k0, k1⟩ (by omega), h41 k k0 k1]
                 by_cases hk : k = i
                 · subst hk
                   rw [c90, decide_eq_true (show k < k + 1 by omega)]
                   simp
                 · have e1 : decide (k < i + 1) = decide (k < i) := by
                     by_cases h9 : k < i
                     · rw [decide_eq_true h9, decide_eq_true (by omega)]
                     · rw [decide_eq_false h9, decide_eq_false (by omega)]
                   rw [e1, decide_eq_false hk, Bool.or_false])
              | (rw [h41 k k0 k1]
                 by_cases hk : k = i
                 · subst hk
                   have c91 : mBq v0 w k = false := Bool.eq_false_iff.mpr c90
                   rw [c91]
                   simp
                 · have e1 : decide (k < i + 1) = decide (k < i) := by
                     by_cases h9 : k < i
                     · rw [decide_eq_true h9, decide_eq_true (by omega)]
                     · rw [decide_eq_false h9, decide_eq_false (by omega)]
                   rw [e1])
        · rw [eB] at c90
          refine Gx_if_eq (tgt := 141) dX2_passes_93 (by decide) (fun _ => ?_) (fun hz => absurd hz (by decide))
          refine Gx_iinc_4 dX2_passes_141 (Nat.le_of_ble_eq_true rfl) (Nat.ne_of_beq_eq_false rfl) ?_
          try simp (disch := omega) only [w32_id]
          refine Gx_goto (tgt := 23) dX2_passes_144 (by decide) ?_
          have hx := yCnt_s (q := mBq v0 w) h0
          have h40 : vA 38 40 = yCnt (mBq v0 w) i.toNat := by rw [hFB 38 40 (by omega)]; exact hN
          have h41 : ∀ k, 0 ≤ k → k < 32 → gHas (vA 38 41) k = (decide (k < i) && mBq v0 w k) := by rw [hFB 38 41 (by omega)]; exact hB
          refine Gx_name (fun vN eN => ?_)
          refine ih (i + 1) vN (by omega) (by omega) ⟨fun a k hn9 => ?_, fun k k0 k1 => ?_, ?_, fun k k0 k1 => ?_⟩
          · rw [eN]
            first
              | (rw [gUp_ne2 (by omega), gUp_ne2 (by omega), gUp_ne2 (by omega), gUp_ne2 (by omega)]; exact hFA a k (by omega))
              | exact hFA a k (by omega)
          · by_cases hk : k = i
            · subst hk
              rw [eN]
              first
                | (rw [if_pos c90, if_pos c90]
                   refine ⟨?_, ?_, ?_⟩
                   · simp (disch := omega) only [gUp_ne2, gUp_eq2]
                     exact h58
                   · simp (disch := omega) only [gUp_ne2, gUp_eq2]
                     rw [hFA 59 k (by omega)]
                   · simp (disch := omega) only [gUp_ne2, gUp_eq2]
                     rw [hFA 38 31 (by omega)])
                | (rw [if_neg c90, if_neg c90]
                   exact ⟨h58, hFA 59 k (by omega), hFA 60 k (by omega)⟩)
            · have hv := hV k k0 (by omega)
              rw [eN]
              first
                | (simp (disch := omega) only [gUp_ne2, gUp_eq2]
                   rw [hFB 58 k (by omega), hFB 59 k (by omega), hFB 60 k (by omega)]
                   exact hv)
                | (rw [hFB 58 k (by omega), hFB 59 k (by omega), hFB 60 k (by omega)]
                   exact hv)
          · rw [hx, eN]
            first
              | (rw [if_pos c90]
                 simp (disch := omega) only [gUp_ne2, gUp_eq2]
                 rw [h40]
                 exact w32_id (by omega) (by omega))
              | (rw [if_neg c90, h40]
                 omega)
          · rw [eN]
            first
              | (simp (disch := omega) only [gUp_ne2, gUp_eq2]
                 rw [has_or ⟨k0, k1⟩ (by omega), h41 k k0 k1]
                 by_cases hk : k = i
                 · subst hk
                   rw [c90, decide_eq_true (show k < k + 1 by omega)]
                   simp
                 · have e1 : decide (k < i + 1) = decide (k < i) := by
                     by_cases h9 : k < i
                     · rw [decide_eq_true h9, decide_eq_true (by omega)]
                     · rw [decide_eq_false h9, decide_eq_false (by omega)]
                   rw [e1, decide_eq_false hk, Bool.or_false])
              | (rw [h41 k k0 k1]
                 by_cases hk : k = i
                 · subst hk
                   have c91 : mBq v0 w k = false := Bool.eq_false_iff.mpr c90
                   rw [c91]
                   simp
                 · have e1 : decide (k < i + 1) = decide (k < i) := by
                     by_cases h9 : k < i
                     · rw [decide_eq_true h9, decide_eq_true (by omega)]
                     · rw [decide_eq_false h9, decide_eq_false (by omega)]
                   rw [e1])
end
