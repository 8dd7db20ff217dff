/-! AcornYears: image, on -/
section
variable {Γ : gC} {v : gM} {K : gH} {t : Nat} {Q : gQ}
theorem wAnd_b1 {b : Int} (hb : b = 0 ∨ b = 1) : wAnd b 1 = b := by
  rcases hb with z | z <;> subst z <;> decide +kernel
theorem wAnd_b0 {b : Int} (hb : b = 0 ∨ b = 1) : wAnd b 0 = 0 := by
  rcases hb with z | z <;> subst z <;> decide +kernel

set_option maxHeartbeats 4000000 in
theorem lp_X0_isImage {o n : Int} {P : Prop} {bc bs : Nat} (hh : gHd K o = (10, 3 + 3 * n)) (hn : n ≤ 24) (k1 : P ∧ pAll (pIt (v o)) n.toNat = true → Q (0, 1) v (gHd K) t) (k0 : ¬ (P ∧ pAll (pIt (v o)) n.toNat = true) → Q (0, 0) v (gHd K) t) : ∀ (j : Nat) (i b : Int), 0 ≤ i → i + j = n → ((b = 1 ∧ P ∧ pAll (pIt (v o)) i.toNat = true) ∨ (b = 0 ∧ ¬ (P ∧ pAll (pIt (v o)) i.toNat = true))) → Gx Γ mX0_isImage 67 [(2, 0), (2, o), (0, b), (0, 3 + 3 * i)] [] v (gHd K) t bc bs Q := by
  intro j
  induction j with
  | zero =>
    intro i b h0 h1 hb
    have hb01 : b = 0 ∨ b = 1 := by rcases hb with z | z <;> omega
    have hps := pAll_s (q := pIt (v o)) (i := i) h0
    refine Gx_iload_n (i := 3) dX0_isImage_67 rfl rfl ?_
    refine Gx_aload_n (i := 1) dX0_isImage_68 rfl rfl ?_
    refine Gx_alen dX0_isImage_69 hh (by decide) (by decide) ?_
    refine Gx_icmp_ge (tgt := 155) dX0_isImage_70 (by decide) (fun c70 => ?_) (fun c70 => ?_)
    · refine Gx_iload_n (i := 2) dX0_isImage_155 rfl rfl ?_
      refine Gx_ireturn dX0_isImage_156 (by show _ = (0 : Int) ∨ _ = (1 : Int); omega) ?_
      have e0 : i = n := by omega
      subst e0
      rcases hb with ⟨z, hz⟩ | ⟨z, hz⟩
      · subst z
        exact k1 hz
      · subst z
        exact k0 hz
    · exfalso
      omega
  | succ j ih =>
    intro i b h0 h1 hb
    have hb01 : b = 0 ∨ b = 1 := by rcases hb with z | z <;> omega
    have hps := pAll_s (q := pIt (v o)) (i := i) h0
    refine Gx_iload_n (i := 3) dX0_isImage_67 rfl rfl ?_
    refine Gx_aload_n (i := 1) dX0_isImage_68 rfl rfl ?_
    refine Gx_alen dX0_isImage_69 hh (by decide) (by decide) ?_
    refine Gx_icmp_ge (tgt := 155) dX0_isImage_70 (by decide) (fun c70 => ?_) (fun c70 => ?_)
    · refine Gx_iload_n (i := 2) dX0_isImage_155 rfl rfl ?_
      refine Gx_ireturn dX0_isImage_156 (by show _ = (0 : Int) ∨ _ = (1 : Int); exact hb01) ?_
      exfalso
      omega
    · refine Gx_iload_n (i := 2) dX0_isImage_73 rfl rfl ?_
      refine Gx_aload_n (i := 1) dX0_isImage_74 rfl rfl ?_
      refine Gx_iload_n (i := 3) dX0_isImage_75 rfl rfl ?_
      refine Gx_iaload dX0_isImage_76 hh (by first | omega | (simp (disch := omega) only [w32_id]; omega)) ?_
      refine Gx_iconst ⟨by decide, by decide⟩ dX0_isImage_77 ?_
      refine Gx_bipush dX0_isImage_78 ⟨by decide, by decide⟩ ?_
      refine cl_X0_129 dX0_isImage_80 rfl ⟨(Nat.le_of_ble_eq_true rfl), (Nat.le_of_ble_eq_true rfl)⟩ rfl ?_
      refine ct_X0_isIn (fun h80 => ?_) (fun h80 => ?_)
      · refine Gx_if_eq (tgt := 105) dX0_isImage_83 (by decide) (fun hz => absurd hz (by decide)) (fun _ => ?_)
        refine Gx_aload_n (i := 1) dX0_isImage_86 rfl rfl ?_
        refine Gx_iload_n (i := 3) dX0_isImage_87 rfl rfl ?_
        refine Gx_iconst ⟨by decide, by decide⟩ dX0_isImage_88 ?_
        refine Gx_iadd dX0_isImage_89 ?_
        try simp (disch := omega) only [w32_id]
        rw [show 3 + 3 * i + 1 = 4 + 3 * i by omega]
        refine Gx_iaload dX0_isImage_90 hh (by first | omega | (simp (disch := omega) only [w32_id]; omega)) ?_
        refine Gx_iconst ⟨by decide, by decide⟩ dX0_isImage_91 ?_
        refine Gx_aload_n (i := 1) dX0_isImage_92 rfl rfl ?_
        refine Gx_iconst ⟨by decide, by decide⟩ dX0_isImage_93 ?_
        refine Gx_iaload dX0_isImage_94 hh (by first | omega | (simp (disch := omega) only [w32_id]; omega)) ?_
        refine cl_X0_129 dX0_isImage_95 rfl ⟨(Nat.le_of_ble_eq_true rfl), (Nat.le_of_ble_eq_true rfl)⟩ rfl ?_
        refine ct_X0_isIn (fun h95 => ?_) (fun h95 => ?_)
        · refine Gx_if_eq (tgt := 105) dX0_isImage_98 (by decide) (fun hz => absurd hz (by decide)) (fun _ => ?_)
          refine Gx_iconst ⟨by decide, by decide⟩ dX0_isImage_101 ?_
          refine Gx_goto (tgt := 106) dX0_isImage_102 (by decide) ?_
          refine Gx_iand dX0_isImage_106 ?_
          first
          | rw [wAnd_b1 (by omega)]
          | rw [wAnd_b0 (by omega)]
          refine Gx_istore_n_2 dX0_isImage_107 (Nat.le_of_ble_eq_true rfl) (Nat.ne_of_beq_eq_false rfl) ?_
          refine Gx_iload_n (i := 2) dX0_isImage_108 rfl rfl ?_
          refine Gx_aload_n (i := 1) dX0_isImage_109 rfl rfl ?_
          refine Gx_iload_n (i := 3) dX0_isImage_110 rfl rfl ?_
          refine Gx_iconst ⟨by decide, by decide⟩ dX0_isImage_111 ?_
          refine Gx_iadd dX0_isImage_112 ?_
          try simp (disch := omega) only [w32_id]
          rw [show 3 + 3 * i + 1 = 4 + 3 * i by omega]
          refine Gx_iaload dX0_isImage_113 hh (by first | omega | (simp (disch := omega) only [w32_id]; omega)) ?_
          refine Gx_if_ne (tgt := 135) dX0_isImage_114 (by decide) (fun c114 => ?_) (fun c114 => ?_)
          · refine Gx_aload_n (i := 1) dX0_isImage_135 rfl rfl ?_
            refine Gx_iload_n (i := 3) dX0_isImage_136 rfl rfl ?_
            refine Gx_iconst ⟨by decide, by decide⟩ dX0_isImage_137 ?_
            refine Gx_iadd dX0_isImage_138 ?_
            try simp (disch := omega) only [w32_id]
            rw [show 3 + 3 * i + 2 = 5 + 3 * i by omega]
            refine Gx_iaload dX0_isImage_139 hh (by first | omega | (simp (disch := omega) only [w32_id]; omega)) ?_
            refine Gx_iconst ⟨by decide, by decide⟩ dX0_isImage_140 ?_
            refine Gx_aload_n (i := 1) dX0_isImage_141 rfl rfl ?_
            refine Gx_iconst ⟨by decide, by decide⟩ dX0_isImage_142 ?_
            refine Gx_iaload dX0_isImage_143 hh (by first | omega | (simp (disch := omega) only [w32_id]; omega)) ?_
            refine cl_X0_129 dX0_isImage_144 rfl ⟨(Nat.le_of_ble_eq_true rfl), (Nat.le_of_ble_eq_true rfl)⟩ rfl ?_
            refine ct_X0_isIn (fun h144 => ?_) (fun h144 => ?_)
            · refine Gx_iand dX0_isImage_147 ?_
              first
              | rw [wAnd_b1 (by omega)]
              | rw [wAnd_b0 (by omega)]
              refine Gx_istore_n_2 dX0_isImage_148 (Nat.le_of_ble_eq_true rfl) (Nat.ne_of_beq_eq_false rfl) ?_
              refine Gx_iinc_3 dX0_isImage_149 (Nat.le_of_ble_eq_true rfl) (Nat.ne_of_beq_eq_false rfl) ?_
              try simp (disch := omega) only [w32_id]
              refine Gx_goto (tgt := 67) dX0_isImage_152 (by decide) ?_
              rw [show 3 + 3 * i + 3 = 3 + 3 * (i + 1) by omega]
              refine ih (i + 1) _ (by omega) (by omega) ?_
              first
              | (have hit : pIt (v o) i = true := by
                   unfold pIt
                   exact decide_eq_true (by omega)
                 rw [hps, hit, Bool.and_true]
                 exact hb)
              | (have hit : pIt (v o) i = false := by
                   unfold pIt
                   exact decide_eq_false (by omega)
                 refine Or.inr ⟨rfl, fun z => ?_⟩
                 have z2 := z.2
                 rw [hps, hit, Bool.and_false] at z2
                 exact absurd z2 (by decide))
            · refine Gx_iand dX0_isImage_147 ?_
              first
              | rw [wAnd_b1 (by omega)]
              | rw [wAnd_b0 (by omega)]
              refine Gx_istore_n_2 dX0_isImage_148 (Nat.le_of_ble_eq_true rfl) (Nat.ne_of_beq_eq_false rfl) ?_
              refine Gx_iinc_3 dX0_isImage_149 (Nat.le_of_ble_eq_true rfl) (Nat.ne_of_beq_eq_false rfl) ?_
              try simp (disch := omega) only [w32_id]
              refine Gx_goto (tgt := 67) dX0_isImage_152 (by decide) ?_
              rw [show 3 + 3 * i + 3 = 3 + 3 * (i + 1) by omega]
              refine ih (i + 1) _ (by omega) (by omega) ?_
              first
              | (have hit : pIt (v o) i = true := by
                   unfold pIt
                   exact decide_eq_true (by omega)
                 rw [hps, hit, Bool.and_true]
                 exact hb)
              | (have hit : pIt (v o) i = false := by
                   unfold pIt
                   exact decide_eq_false (by omega)
                 refine Or.inr ⟨rfl, fun z => ?_⟩
                 have z2 := z.2
                 rw [hps, hit, Bool.and_false] at z2
                 exact absurd z2 (by decide))
          · refine Gx_aload_n (i := 1) dX0_isImage_117 rfl rfl ?_
            refine Gx_iload_n (i := 3) dX0_isImage_118 rfl rfl ?_
            refine Gx_iconst ⟨by decide, by decide⟩ dX0_isImage_119 ?_
            refine Gx_iadd dX0_isImage_120 ?_
            try simp (disch := omega) only [w32_id]
            rw [show 3 + 3 * i + 2 = 5 + 3 * i by omega]
            refine Gx_iaload dX0_isImage_121 hh (by first | omega | (simp (disch := omega) only [w32_id]; omega)) ?_
            refine Gx_bipush dX0_isImage_122 ⟨by decide, by decide⟩ ?_
            refine Gx_icmp_ne (tgt := 131) dX0_isImage_124 (by decide) (fun c124 => ?_) (fun c124 => ?_)
            · refine Gx_iconst ⟨by decide, by decide⟩ dX0_isImage_131 ?_
              refine Gx_goto (tgt := 147) dX0_isImage_132 (by decide) ?_
              refine Gx_iand dX0_isImage_147 ?_
              first
              | rw [wAnd_b1 (by omega)]
              | rw [wAnd_b0 (by omega)]
              refine Gx_istore_n_2 dX0_isImage_148 (Nat.le_of_ble_eq_true rfl) (Nat.ne_of_beq_eq_false rfl) ?_
              refine Gx_iinc_3 dX0_isImage_149 (Nat.le_of_ble_eq_true rfl) (Nat.ne_of_beq_eq_false rfl) ?_
              try simp (disch := omega) only [w32_id]
              refine Gx_goto (tgt := 67) dX0_isImage_152 (by decide) ?_
              rw [show 3 + 3 * i + 3 = 3 + 3 * (i + 1) by omega]
              refine ih (i + 1) _ (by omega) (by omega) ?_
              first
              | (have hit : pIt (v o) i = true := by
                   unfold pIt
                   exact decide_eq_true (by omega)
                 rw [hps, hit, Bool.and_true]
                 exact hb)
              | (have hit : pIt (v o) i = false := by
                   unfold pIt
                   exact decide_eq_false (by omega)
                 refine Or.inr ⟨rfl, fun z => ?_⟩
                 have z2 := z.2
                 rw [hps, hit, Bool.and_false] at z2
                 exact absurd z2 (by decide))
            · refine Gx_iconst ⟨by decide, by decide⟩ dX0_isImage_127 ?_
              refine Gx_goto (tgt := 147) dX0_isImage_128 (by decide) ?_
              refine Gx_iand dX0_isImage_147 ?_
              first
              | rw [wAnd_b1 (by omega)]
              | rw [wAnd_b0 (by omega)]
              refine Gx_istore_n_2 dX0_isImage_148 (Nat.le_of_ble_eq_true rfl) (Nat.ne_of_beq_eq_false rfl) ?_
              refine Gx_iinc_3 dX0_isImage_149 (Nat.le_of_ble_eq_true rfl) (Nat.ne_of_beq_eq_false rfl) ?_
              try simp (disch := omega) only [w32_id]
              refine Gx_goto (tgt := 67) dX0_isImage_152 (by decide) ?_
              rw [show 3 + 3 * i + 3 = 3 + 3 * (i + 1) by omega]
              refine ih (i + 1) _ (by omega) (by omega) ?_
              first
              | (have hit : pIt (v o) i = true := by
                   unfold pIt
                   exact decide_eq_true (by omega)
                 rw [hps, hit, Bool.and_true]
                 exact hb)
              | (have hit : pIt (v o) i = false := by
                   unfold pIt
                   exact decide_eq_false (by omega)
                 refine Or.inr ⟨rfl, fun z => ?_⟩
                 have z2 := z.2
                 rw [hps, hit, Bool.and_false] at z2
                 exact absurd z2 (by decide))
        · refine Gx_if_eq (tgt := 105) dX0_isImage_98 (by decide) (fun _ => ?_) (fun hz => absurd hz (by decide))
          refine Gx_iconst ⟨by decide, by decide⟩ dX0_isImage_105 ?_
          refine Gx_iand dX0_isImage_106 ?_
          first
          | rw [wAnd_b1 (by omega)]
          | rw [wAnd_b0 (by omega)]
          refine Gx_istore_n_2 dX0_isImage_107 (Nat.le_of_ble_eq_true rfl) (Nat.ne_of_beq_eq_false rfl) ?_
          refine Gx_iload_n (i := 2) dX0_isImage_108 rfl rfl ?_
          refine Gx_aload_n (i := 1) dX0_isImage_109 rfl rfl ?_
          refine Gx_iload_n (i := 3) dX0_isImage_110 rfl rfl ?_
          refine Gx_iconst ⟨by decide, by decide⟩ dX0_isImage_111 ?_
          refine Gx_iadd dX0_isImage_112 ?_
          try simp (disch := omega) only [w32_id]
          rw [show 3 + 3 * i + 1 = 4 + 3 * i by omega]
          refine Gx_iaload dX0_isImage_113 hh (by first | omega | (simp (disch := omega) only [w32_id]; omega)) ?_
          refine Gx_if_ne (tgt := 135) dX0_isImage_114 (by decide) (fun c114 => ?_) (fun c114 => ?_)
          · refine Gx_aload_n (i := 1) dX0_isImage_135 rfl rfl ?_
            refine Gx_iload_n (i := 3) dX0_isImage_136 rfl rfl ?_
            refine Gx_iconst ⟨by decide, by decide⟩ dX0_isImage_137 ?_
            refine Gx_iadd dX0_isImage_138 ?_
            try simp (disch := omega) only [w32_id]
            rw [show 3 + 3 * i + 2 = 5 + 3 * i by omega]
            refine Gx_iaload dX0_isImage_139 hh (by first | omega | (simp (disch := omega) only [w32_id]; omega)) ?_
            refine Gx_iconst ⟨by decide, by decide⟩ dX0_isImage_140 ?_
            refine Gx_aload_n (i := 1) dX0_isImage_141 rfl rfl ?_
            refine Gx_iconst ⟨by decide, by decide⟩ dX0_isImage_142 ?_
            refine Gx_iaload dX0_isImage_143 hh (by first | omega | (simp (disch := omega) only [w32_id]; omega)) ?_
            refine cl_X0_129 dX0_isImage_144 rfl ⟨(Nat.le_of_ble_eq_true rfl), (Nat.le_of_ble_eq_true rfl)⟩ rfl ?_
            refine ct_X0_isIn (fun h144 => ?_) (fun h144 => ?_)
            · refine Gx_iand dX0_isImage_147 ?_
              first
              | rw [wAnd_b1 (by omega)]
              | rw [wAnd_b0 (by omega)]
              refine Gx_istore_n_2 dX0_isImage_148 (Nat.le_of_ble_eq_true rfl) (Nat.ne_of_beq_eq_false rfl) ?_
              refine Gx_iinc_3 dX0_isImage_149 (Nat.le_of_ble_eq_true rfl) (Nat.ne_of_beq_eq_false rfl) ?_
              try simp (disch := omega) only [w32_id]
              refine Gx_goto (tgt := 67) dX0_isImage_152 (by decide) ?_
              rw [show 3 + 3 * i + 3 = 3 + 3 * (i + 1) by omega]
              refine ih (i + 1) _ (by omega) (by omega) ?_
              first
              | (have hit : pIt (v o) i = true := by
                   unfold pIt
                   exact decide_eq_true (by omega)
                 rw [hps, hit, Bool.and_true]
                 exact hb)
              | (have hit : pIt (v o) i = false := by
                   unfold pIt
                   exact decide_eq_false (by omega)
                 refine Or.inr ⟨rfl, fun z => ?_⟩
                 have z2 := z.2
                 rw [hps, hit, Bool.and_false] at z2
                 exact absurd z2 (by decide))
            · refine Gx_iand dX0_isImage_147 ?_
              first
              | rw [wAnd_b1 (by omega)]
              | rw [wAnd_b0 (by omega)]
              refine Gx_istore_n_2 dX0_isImage_148 (Nat.le_of_ble_eq_true rfl) (Nat.ne_of_beq_eq_false rfl) ?_
              refine Gx_iinc_3 dX0_isImage_149 (Nat.le_of_ble_eq_true rfl) (Nat.ne_of_beq_eq_false rfl) ?_
              try simp (disch := omega) only [w32_id]
              refine Gx_goto (tgt := 67) dX0_isImage_152 (by decide) ?_
              rw [show 3 + 3 * i + 3 = 3 + 3 * (i + 1) by omega]
              refine ih (i + 1) _ (by omega) (by omega) ?_
              first
              | (have hit : pIt (v o) i = true := by
                   unfold pIt
                   exact decide_eq_true (by omega)
                 rw [hps, hit, Bool.and_true]
                 exact hb)
              | (have hit : pIt (v o) i = false := by
                   unfold pIt
                   exact decide_eq_false (by omega)
                 refine Or.inr ⟨rfl, fun z => ?_⟩
                 have z2 := z.2
                 rw [hps, hit, Bool.and_false] at z2
                 exact absurd z2 (by decide))
          · refine Gx_aload_n (i := 1) dX0_isImage_117 rfl rfl ?_
            refine Gx_iload_n (i := 3) dX0_isImage_118 rfl rfl ?_
            refine Gx_iconst ⟨by decide, by decide⟩ dX0_isImage_119 ?_
            refine Gx_iadd dX0_isImage_120 ?_
            try simp (disch := omega) only [w32_id]
            rw [show 3 + 3 * i + 2 = 5 + 3 * i by omega]
            refine Gx_iaload dX0_isImage_121 hh (by first | omega | (simp (disch := omega) only [w32_id]; omega)) ?_
            refine Gx_bipush dX0_isImage_122 ⟨by decide, by decide⟩ ?_
            refine Gx_icmp_ne (tgt := 131) dX0_isImage_124 (by decide) (fun c124 => ?_) (fun c124 => ?_)
            · refine Gx_iconst ⟨by decide, by decide⟩ dX0_isImage_131 ?_
              refine Gx_goto (tgt := 147) dX0_isImage_132 (by decide) ?_
              refine Gx_iand dX0_isImage_147 ?_
              first
              | rw [wAnd_b1 (by omega)]
              | rw [wAnd_b0 (by omega)]
              refine Gx_istore_n_2 dX0_isImage_148 (Nat.le_of_ble_eq_true rfl) (Nat.ne_of_beq_eq_false rfl) ?_
              refine Gx_iinc_3 dX0_isImage_149 (Nat.le_of_ble_eq_true rfl) (Nat.ne_of_beq_eq_false rfl) ?_
              try simp (disch := omega) only [w32_id]
              refine Gx_goto (tgt := 67) dX0_isImage_152 (by decide) ?_
              rw [show 3 + 3 * i + 3 = 3 + 3 * (i + 1) by omega]
              refine ih (i + 1) _ (by omega) (by omega) ?_
              first
              | (have hit : pIt (v o) i = true := by
                   unfold pIt
                   exact decide_eq_true (by omega)
                 rw [hps, hit, Bool.and_true]
                 exact hb)
              | (have hit : pIt (v o) i = false := by
                   unfold pIt
                   exact decide_eq_false (by omega)
                 refine Or.inr ⟨rfl, fun z => ?_⟩
                 have z2 := z.2
                 rw [hps, hit, Bool.and_false] at z2
                 exact absurd z2 (by decide))
            · refine Gx_iconst ⟨by decide, by decide⟩ dX0_isImage_127 ?_
              refine Gx_goto (tgt := 147) dX0_isImage_128 (by decide) ?_
              refine Gx_iand dX0_isImage_147 ?_
              first
              | rw [wAnd_b1 (by omega)]
              | rw [wAnd_b0 (by omega)]
              refine Gx_istore_n_2 dX0_isImage_148 (Nat.le_of_ble_eq_true rfl) (Nat.ne_of_beq_eq_false rfl) ?_
              refine Gx_iinc_3 dX0_isImage_149 (Nat.le_of_ble_eq_true rfl) (Nat.ne_of_beq_eq_false rfl) ?_
              try simp (disch := omega) only [w32_id]
              refine Gx_goto (tgt := 67) dX0_isImage_152 (by decide) ?_
              rw [show 3 + 3 * i + 3 = 3 + 3 * (i + 1) by omega]
              refine ih (i + 1) _ (by omega) (by omega) ?_
              first
              | (have hit : pIt (v o) i = true := by
                   unfold pIt
                   exact decide_eq_true (by omega)
                 rw [hps, hit, Bool.and_true]
                 exact hb)
              | (have hit : pIt (v o) i = false := by
                   unfold pIt
                   exact decide_eq_false (by omega)
                 refine Or.inr ⟨rfl, fun z => ?_⟩
                 have z2 := z.2
                 rw [hps, hit, Bool.and_false] at z2
                 exact absurd z2 (by decide))
      · refine Gx_if_eq (tgt := 105) dX0_isImage_83 (by decide) (fun _ => ?_) (fun hz => absurd hz (by decide))
        refine Gx_iconst ⟨by decide, by decide⟩ dX0_isImage_105 ?_
        refine Gx_iand dX0_isImage_106 ?_
        first
        | rw [wAnd_b1 (by omega)]
        | rw [wAnd_b0 (by omega)]
        refine Gx_istore_n_2 dX0_isImage_107 (Nat.le_of_ble_eq_true rfl) (Nat.ne_of_beq_eq_false rfl) ?_
        refine Gx_iload_n (i := 2) dX0_isImage_108 rfl rfl ?_
        refine Gx_aload_n (i := 1) dX0_isImage_109 rfl rfl ?_
        refine Gx_iload_n (i := 3) dX0_isImage_110 rfl rfl ?_
        refine Gx_iconst ⟨by decide, by decide⟩ dX0_isImage_111 ?_
        refine Gx_iadd dX0_isImage_112 ?_
        try simp (disch := omega) only [w32_id]
        rw [show 3 + 3 * i + 1 = 4 + 3 * i by omega]
        refine Gx_iaload dX0_isImage_113 hh (by first | omega | (simp (disch := omega) only [w32_id]; omega)) ?_
        refine Gx_if_ne (tgt := 135) dX0_isImage_114 (by decide) (fun c114 => ?_) (fun c114 => ?_)
        · refine Gx_aload_n (i := 1) dX0_isImage_135 rfl rfl ?_
          refine Gx_iload_n (i := 3) dX0_isImage_136 rfl rfl ?_
          refine Gx_iconst ⟨by decide, by decide⟩ dX0_isImage_137 ?_
          refine Gx_iadd dX0_isImage_138 ?_
          try simp (disch := omega) only [w32_id]
          rw [show 3 + 3 * i + 2 = 5 + 3 * i by omega]
          refine Gx_iaload dX0_isImage_139 hh (by first | omega | (simp (disch := omega) only [w32_id]; omega)) ?_
          refine Gx_iconst ⟨by decide, by decide⟩ dX0_isImage_140 ?_
          refine Gx_aload_n (i := 1) dX0_isImage_141 rfl rfl ?_
          refine Gx_iconst ⟨by decide, by decide⟩ dX0_isImage_142 ?_
          refine Gx_iaload dX0_isImage_143 hh (by first | omega | (simp (disch := omega) only [w32_id]; omega)) ?_
          refine cl_X0_129 dX0_isImage_144 rfl ⟨(Nat.le_of_ble_eq_true rfl), (Nat.le_of_ble_eq_true rfl)⟩ rfl ?_
          refine ct_X0_isIn (fun h144 => ?_) (fun h144 => ?_)
          · refine Gx_iand dX0_isImage_147 ?_
            first
            | rw [wAnd_b1 (by omega)]
            | rw [wAnd_b0 (by omega)]
            refine Gx_istore_n_2 dX0_isImage_148 (Nat.le_of_ble_eq_true rfl) (Nat.ne_of_beq_eq_false rfl) ?_
            refine Gx_iinc_3 dX0_isImage_149 (Nat.le_of_ble_eq_true rfl) (Nat.ne_of_beq_eq_false rfl) ?_
            try simp (disch := omega) only [w32_id]
            refine Gx_goto (tgt := 67) dX0_isImage_152 (by decide) ?_
            rw [show 3 + 3 * i + 3 = 3 + 3 * (i + 1) by omega]
            refine ih (i + 1) _ (by omega) (by omega) ?_
            first
            | (have hit : pIt (v o) i = true := by
                 unfold pIt
                 exact decide_eq_true (by omega)
               rw [hps, hit, Bool.and_true]
               exact hb)
            | (have hit : pIt (v o) i = false := by
                 unfold pIt
                 exact decide_eq_false (by omega)
               refine Or.inr ⟨rfl, fun z => ?_⟩
               have z2 := z.2
               rw [hps, hit, Bool.and_false] at z2
               exact absurd z2 (by decide))
          · refine Gx_iand dX0_isImage_147 ?_
            first
            | rw [wAnd_b1 (by omega)]
            | rw [wAnd_b0 (by omega)]
            refine Gx_istore_n_2 dX0_isImage_148 (Nat.le_of_ble_eq_true rfl) (Nat.ne_of_beq_eq_false rfl) ?_
            refine Gx_iinc_3 dX0_isImage_149 (Nat.le_of_ble_eq_true rfl) (Nat.ne_of_beq_eq_false rfl) ?_
            try simp (disch := omega) only [w32_id]
            refine Gx_goto (tgt := 67) dX0_isImage_152 (by decide) ?_
            rw [show 3 + 3 * i + 3 = 3 + 3 * (i + 1) by omega]
            refine ih (i + 1) _ (by omega) (by omega) ?_
            first
            | (have hit : pIt (v o) i = true := by
                 unfold pIt
                 exact decide_eq_true (by omega)
               rw [hps, hit, Bool.and_true]
               exact hb)
            | (have hit : pIt (v o) i = false := by
                 unfold pIt
                 exact decide_eq_false (by omega)
               refine Or.inr ⟨rfl, fun z => ?_⟩
               have z2 := z.2
               rw [hps, hit, Bool.and_false] at z2
               exact absurd z2 (by decide))
        · refine Gx_aload_n (i := 1) dX0_isImage_117 rfl rfl ?_
          refine Gx_iload_n (i := 3) dX0_isImage_118 rfl rfl ?_
          refine Gx_iconst ⟨by decide, by decide⟩ dX0_isImage_119 ?_
          refine Gx_iadd dX0_isImage_120 ?_
          try simp (disch := omega) only [w32_id]
          rw [show 3 + 3 * i + 2 = 5 + 3 * i by omega]
          refine Gx_iaload dX0_isImage_121 hh (by first | omega | (simp (disch := omega) only [w32_id]; omega)) ?_
          refine Gx_bipush dX0_isImage_122 ⟨by decide, by decide⟩ ?_
          refine Gx_icmp_ne (tgt := 131) dX0_isImage_124 (by decide) (fun c124 => ?_) (fun c124 => ?_)
          · refine Gx_iconst ⟨by decide, by decide⟩ dX0_isImage_131 ?_
            refine Gx_goto (tgt := 147) dX0_isImage_132 (by decide) ?_
            refine Gx_iand dX0_isImage_147 ?_
            first
            | rw [wAnd_b1 (by omega)]
            | rw [wAnd_b0 (by omega)]
            refine Gx_istore_n_2 dX0_isImage_148 (Nat.le_of_ble_eq_true rfl) (Nat.ne_of_beq_eq_false rfl) ?_
            refine Gx_iinc_3 dX0_isImage_149 (Nat.le_of_ble_eq_true rfl) (Nat.ne_of_beq_eq_false rfl) ?_
            try simp (disch := omega) only [w32_id]
            refine Gx_goto (tgt := 67) dX0_isImage_152 (by decide) ?_
            rw [show 3 + 3 * i + 3 = 3 + 3 * (i + 1) by omega]
            refine ih (i + 1) _ (by omega) (by omega) ?_
            first
            | (have hit : pIt (v o) i = true := by
                 unfold pIt
                 exact decide_eq_true (by omega)
               rw [hps, hit, Bool.and_true]
               exact hb)
            | (have hit : pIt (v o) i = false := by
                 unfold pIt
                 exact decide_eq_false (by omega)
               refine Or.inr ⟨rfl, fun z => ?_⟩
               have z2 := z.2
               rw [hps, hit, Bool.and_false] at z2
               exact absurd z2 (by decide))
          · refine Gx_iconst ⟨by decide, by decide⟩ dX0_isImage_127 ?_
            refine Gx_goto (tgt := 147) dX0_isImage_128 (by decide) ?_
            refine Gx_iand dX0_isImage_147 ?_
            first
            | rw [wAnd_b1 (by omega)]
            | rw [wAnd_b0 (by omega)]
            refine Gx_istore_n_2 dX0_isImage_148 (Nat.le_of_ble_eq_true rfl) (Nat.ne_of_beq_eq_false rfl) ?_
            refine Gx_iinc_3 dX0_isImage_149 (Nat.le_of_ble_eq_true rfl) (Nat.ne_of_beq_eq_false rfl) ?_
            try simp (disch := omega) only [w32_id]
            refine Gx_goto (tgt := 67) dX0_isImage_152 (by decide) ?_
            rw [show 3 + 3 * i + 3 = 3 + 3 * (i + 1) by omega]
            refine ih (i + 1) _ (by omega) (by omega) ?_
            first
            | (have hit : pIt (v o) i = true := by
                 unfold pIt
                 exact decide_eq_true (by omega)
               rw [hps, hit, Bool.and_true]
               exact hb)
            | (have hit : pIt (v o) i = false := by
                 unfold pIt
                 exact decide_eq_false (by omega)
               refine Or.inr ⟨rfl, fun z => ?_⟩
               have z2 := z.2
               rw [hps, hit, Bool.and_false] at z2
               exact absurd z2 (by decide))
set_option maxHeartbeats 4000000 in
theorem ct_X0_isImage {o n : Int} (hh : gHd K o = (10, 3 + 3 * n)) (hn : 0 ≤ n ∧ n ≤ 24) (he : 0 ≤ v 0 12 ∧ v 0 12 ≤ 2) (k1 : pImage (v 0 12) n (v o) → Q (0, 1) v (gHd K) t) (k0 : ¬ pImage (v 0 12) n (v o) → Q (0, 0) v (gHd K) t) : Ctr Γ mX0_isImage [(2, 0), (2, o)] v (gHd K) t Q := by
  refine Ctr.ofG (ls := [(2, 0), (2, o), (9, 0), (9, 0)]) rfl rfl rfl rfl rfl ?_
  refine Gx_aload_n (i := 1) dX0_isImage_0 rfl rfl ?_
  refine Gx_iconst ⟨by decide, by decide⟩ dX0_isImage_1 ?_
  refine Gx_iaload dX0_isImage_2 hh (by first | omega | (simp (disch := omega) only [w32_id]; omega)) ?_
  refine Gx_iconst ⟨by decide, by decide⟩ dX0_isImage_3 ?_
  refine Gx_sipush dX0_isImage_4 ⟨by decide, by decide⟩ ?_
  refine cl_X0_129 dX0_isImage_7 rfl ⟨(Nat.le_of_ble_eq_true rfl), (Nat.le_of_ble_eq_true rfl)⟩ rfl ?_
  refine ct_X0_isIn (fun h7 => ?_) (fun h7 => ?_)
  · refine Gx_istore_n_2 dX0_isImage_10 (Nat.le_of_ble_eq_true rfl) (Nat.ne_of_beq_eq_false rfl) ?_
    refine Gx_iconst ⟨by decide, by decide⟩ dX0_isImage_11 ?_
    refine Gx_istore_n_3 dX0_isImage_12 (Nat.le_of_ble_eq_true rfl) (Nat.ne_of_beq_eq_false rfl) ?_
    refine Gx_iload_n (i := 3) dX0_isImage_13 rfl rfl ?_
    refine Gx_iconst ⟨by decide, by decide⟩ dX0_isImage_14 ?_
    refine Gx_icmp_ge (tgt := 65) dX0_isImage_15 (by decide) (fun hz => absurd hz (by decide)) (fun _ => ?_)
    refine Gx_iload_n (i := 2) dX0_isImage_18 rfl rfl ?_
    refine Gx_aload_n (i := 0) dX0_isImage_19 rfl rfl ?_
    refine Gx_iload_n (i := 3) dX0_isImage_20 rfl rfl ?_
    refine cl_X0_336 dX0_isImage_21 rfl rfl ⟨(Nat.le_of_ble_eq_true rfl), (Nat.le_of_ble_eq_true rfl)⟩ rfl ?_
    refine ct_X0_areEaters he (fun e1 => ?_) (fun e1 => ?_)
    · refine Gx_if_eq (tgt := 42) dX0_isImage_24 (by decide) (fun hz => absurd hz (by decide)) (fun _ => ?_)
      refine Gx_aload_n (i := 1) dX0_isImage_27 rfl rfl ?_
      refine Gx_iconst ⟨by decide, by decide⟩ dX0_isImage_28 ?_
      refine Gx_iload_n (i := 3) dX0_isImage_29 rfl rfl ?_
      refine Gx_iadd dX0_isImage_30 ?_
      try simp (disch := omega) only [w32_id]
      try rw [show (1 : Int) + 0 = 1 from rfl]
      try rw [show (1 : Int) + 1 = 2 from rfl]
      refine Gx_iaload dX0_isImage_31 hh (by first | omega | (simp (disch := omega) only [w32_id]; omega)) ?_
      refine Gx_iconst ⟨by decide, by decide⟩ dX0_isImage_32 ?_
      refine Gx_sipush dX0_isImage_33 ⟨by decide, by decide⟩ ?_
      refine cl_X0_129 dX0_isImage_36 rfl ⟨(Nat.le_of_ble_eq_true rfl), (Nat.le_of_ble_eq_true rfl)⟩ rfl ?_
      refine ct_X0_isIn (fun i1 => ?_) (fun i1 => ?_)
      · refine Gx_goto (tgt := 57) dX0_isImage_39 (by decide) ?_
        refine Gx_iand dX0_isImage_57 ?_
        first
        | rw [wAnd_b1 (by omega)]
        | rw [wAnd_b0 (by omega)]
        refine Gx_istore_n_2 dX0_isImage_58 (Nat.le_of_ble_eq_true rfl) (Nat.ne_of_beq_eq_false rfl) ?_
        refine Gx_iinc_3 dX0_isImage_59 (Nat.le_of_ble_eq_true rfl) (Nat.ne_of_beq_eq_false rfl) ?_
        rw [show w32 (0 + 1) = (1 : Int) from by decide]
        refine Gx_goto (tgt := 13) dX0_isImage_62 (by decide) ?_
        refine Gx_iload_n (i := 3) dX0_isImage_13 rfl rfl ?_
        refine Gx_iconst ⟨by decide, by decide⟩ dX0_isImage_14 ?_
        refine Gx_icmp_ge (tgt := 65) dX0_isImage_15 (by decide) (fun hz => absurd hz (by decide)) (fun _ => ?_)
        refine Gx_iload_n (i := 2) dX0_isImage_18 rfl rfl ?_
        refine Gx_aload_n (i := 0) dX0_isImage_19 rfl rfl ?_
        refine Gx_iload_n (i := 3) dX0_isImage_20 rfl rfl ?_
        refine cl_X0_336 dX0_isImage_21 rfl rfl ⟨(Nat.le_of_ble_eq_true rfl), (Nat.le_of_ble_eq_true rfl)⟩ rfl ?_
        refine ct_X0_areEaters he (fun e2 => ?_) (fun e2 => ?_)
        · refine Gx_if_eq (tgt := 42) dX0_isImage_24 (by decide) (fun hz => absurd hz (by decide)) (fun _ => ?_)
          refine Gx_aload_n (i := 1) dX0_isImage_27 rfl rfl ?_
          refine Gx_iconst ⟨by decide, by decide⟩ dX0_isImage_28 ?_
          refine Gx_iload_n (i := 3) dX0_isImage_29 rfl rfl ?_
          refine Gx_iadd dX0_isImage_30 ?_
          try simp (disch := omega) only [w32_id]
          try rw [show (1 : Int) + 0 = 1 from rfl]
          try rw [show (1 : Int) + 1 = 2 from rfl]
          refine Gx_iaload dX0_isImage_31 hh (by first | omega | (simp (disch := omega) only [w32_id]; omega)) ?_
          refine Gx_iconst ⟨by decide, by decide⟩ dX0_isImage_32 ?_
          refine Gx_sipush dX0_isImage_33 ⟨by decide, by decide⟩ ?_
          refine cl_X0_129 dX0_isImage_36 rfl ⟨(Nat.le_of_ble_eq_true rfl), (Nat.le_of_ble_eq_true rfl)⟩ rfl ?_
          refine ct_X0_isIn (fun i2 => ?_) (fun i2 => ?_)
          · refine Gx_goto (tgt := 57) dX0_isImage_39 (by decide) ?_
            refine Gx_iand dX0_isImage_57 ?_
            first
            | rw [wAnd_b1 (by omega)]
            | rw [wAnd_b0 (by omega)]
            refine Gx_istore_n_2 dX0_isImage_58 (Nat.le_of_ble_eq_true rfl) (Nat.ne_of_beq_eq_false rfl) ?_
            refine Gx_iinc_3 dX0_isImage_59 (Nat.le_of_ble_eq_true rfl) (Nat.ne_of_beq_eq_false rfl) ?_
            rw [show w32 (1 + 1) = (2 : Int) from by decide]
            refine Gx_goto (tgt := 13) dX0_isImage_62 (by decide) ?_
            refine Gx_iload_n (i := 3) dX0_isImage_13 rfl rfl ?_
            refine Gx_iconst ⟨by decide, by decide⟩ dX0_isImage_14 ?_
            refine Gx_icmp_ge (tgt := 65) dX0_isImage_15 (by decide) (fun _ => ?_) (fun hz => absurd hz (by decide))
            refine Gx_iconst ⟨by decide, by decide⟩ dX0_isImage_65 ?_
            refine Gx_istore_n_3 dX0_isImage_66 (Nat.le_of_ble_eq_true rfl) (Nat.ne_of_beq_eq_false rfl) ?_
            refine lp_X0_isImage (P := pI0 (v 0 12) (v o)) hh hn.2 k1 k0 n.toNat 0 _ (by omega) (by omega) ?_
            first
            | exact Or.inl ⟨rfl, (by unfold pI0; omega), rfl⟩
            | exact Or.inr ⟨rfl, fun z => absurd z.1 (by unfold pI0; omega)⟩
          · refine Gx_goto (tgt := 57) dX0_isImage_39 (by decide) ?_
            refine Gx_iand dX0_isImage_57 ?_
            first
            | rw [wAnd_b1 (by omega)]
            | rw [wAnd_b0 (by omega)]
            refine Gx_istore_n_2 dX0_isImage_58 (Nat.le_of_ble_eq_true rfl) (Nat.ne_of_beq_eq_false rfl) ?_
            refine Gx_iinc_3 dX0_isImage_59 (Nat.le_of_ble_eq_true rfl) (Nat.ne_of_beq_eq_false rfl) ?_
            rw [show w32 (1 + 1) = (2 : Int) from by decide]
            refine Gx_goto (tgt := 13) dX0_isImage_62 (by decide) ?_
            refine Gx_iload_n (i := 3) dX0_isImage_13 rfl rfl ?_
            refine Gx_iconst ⟨by decide, by decide⟩ dX0_isImage_14 ?_
            refine Gx_icmp_ge (tgt := 65) dX0_isImage_15 (by decide) (fun _ => ?_) (fun hz => absurd hz (by decide))
            refine Gx_iconst ⟨by decide, by decide⟩ dX0_isImage_65 ?_
            refine Gx_istore_n_3 dX0_isImage_66 (Nat.le_of_ble_eq_true rfl) (Nat.ne_of_beq_eq_false rfl) ?_
            refine lp_X0_isImage (P := pI0 (v 0 12) (v o)) hh hn.2 k1 k0 n.toNat 0 _ (by omega) (by omega) ?_
            first
            | exact Or.inl ⟨rfl, (by unfold pI0; omega), rfl⟩
            | exact Or.inr ⟨rfl, fun z => absurd z.1 (by unfold pI0; omega)⟩
        · refine Gx_if_eq (tgt := 42) dX0_isImage_24 (by decide) (fun _ => ?_) (fun hz => absurd hz (by decide))
          refine Gx_aload_n (i := 1) dX0_isImage_42 rfl rfl ?_
          refine Gx_iconst ⟨by decide, by decide⟩ dX0_isImage_43 ?_
          refine Gx_iload_n (i := 3) dX0_isImage_44 rfl rfl ?_
          refine Gx_iadd dX0_isImage_45 ?_
          try simp (disch := omega) only [w32_id]
          try rw [show (1 : Int) + 0 = 1 from rfl]
          try rw [show (1 : Int) + 1 = 2 from rfl]
          refine Gx_iaload dX0_isImage_46 hh (by first | omega | (simp (disch := omega) only [w32_id]; omega)) ?_
          refine Gx_bipush dX0_isImage_47 ⟨by decide, by decide⟩ ?_
          refine Gx_icmp_ne (tgt := 56) dX0_isImage_49 (by decide) (fun c49 => ?_) (fun c49 => ?_)
          · refine Gx_iconst ⟨by decide, by decide⟩ dX0_isImage_56 ?_
            refine Gx_iand dX0_isImage_57 ?_
            first
            | rw [wAnd_b1 (by omega)]
            | rw [wAnd_b0 (by omega)]
            refine Gx_istore_n_2 dX0_isImage_58 (Nat.le_of_ble_eq_true rfl) (Nat.ne_of_beq_eq_false rfl) ?_
            refine Gx_iinc_3 dX0_isImage_59 (Nat.le_of_ble_eq_true rfl) (Nat.ne_of_beq_eq_false rfl) ?_
            rw [show w32 (1 + 1) = (2 : Int) from by decide]
            refine Gx_goto (tgt := 13) dX0_isImage_62 (by decide) ?_
            refine Gx_iload_n (i := 3) dX0_isImage_13 rfl rfl ?_
            refine Gx_iconst ⟨by decide, by decide⟩ dX0_isImage_14 ?_
            refine Gx_icmp_ge (tgt := 65) dX0_isImage_15 (by decide) (fun _ => ?_) (fun hz => absurd hz (by decide))
            refine Gx_iconst ⟨by decide, by decide⟩ dX0_isImage_65 ?_
            refine Gx_istore_n_3 dX0_isImage_66 (Nat.le_of_ble_eq_true rfl) (Nat.ne_of_beq_eq_false rfl) ?_
            refine lp_X0_isImage (P := pI0 (v 0 12) (v o)) hh hn.2 k1 k0 n.toNat 0 _ (by omega) (by omega) ?_
            first
            | exact Or.inl ⟨rfl, (by unfold pI0; omega), rfl⟩
            | exact Or.inr ⟨rfl, fun z => absurd z.1 (by unfold pI0; omega)⟩
          · refine Gx_iconst ⟨by decide, by decide⟩ dX0_isImage_52 ?_
            refine Gx_goto (tgt := 57) dX0_isImage_53 (by decide) ?_
            refine Gx_iand dX0_isImage_57 ?_
            first
            | rw [wAnd_b1 (by omega)]
            | rw [wAnd_b0 (by omega)]
            refine Gx_istore_n_2 dX0_isImage_58 (Nat.le_of_ble_eq_true rfl) (Nat.ne_of_beq_eq_false rfl) ?_
            refine Gx_iinc_3 dX0_isImage_59 (Nat.le_of_ble_eq_true rfl) (Nat.ne_of_beq_eq_false rfl) ?_
            rw [show w32 (1 + 1) = (2 : Int) from by decide]
            refine Gx_goto (tgt := 13) dX0_isImage_62 (by decide) ?_
            refine Gx_iload_n (i := 3) dX0_isImage_13 rfl rfl ?_
            refine Gx_iconst ⟨by decide, by decide⟩ dX0_isImage_14 ?_
            refine Gx_icmp_ge (tgt := 65) dX0_isImage_15 (by decide) (fun _ => ?_) (fun hz => absurd hz (by decide))
            refine Gx_iconst ⟨by decide, by decide⟩ dX0_isImage_65 ?_
            refine Gx_istore_n_3 dX0_isImage_66 (Nat.le_of_ble_eq_true rfl) (Nat.ne_of_beq_eq_false rfl) ?_
            refine lp_X0_isImage (P := pI0 (v 0 12) (v o)) hh hn.2 k1 k0 n.toNat 0 _ (by omega) (by omega) ?_
            first
            | exact Or.inl ⟨rfl, (by unfold pI0; omega), rfl⟩
            | exact Or.inr ⟨rfl, fun z => absurd z.1 (by unfold pI0; omega)⟩
      · refine Gx_goto (tgt := 57) dX0_isImage_39 (by decide) ?_
        refine Gx_iand dX0_isImage_57 ?_
        first
        | rw [wAnd_b1 (by omega)]
        | rw [wAnd_b0 (by omega)]
        refine Gx_istore_n_2 dX0_isImage_58 (Nat.le_of_ble_eq_true rfl) (Nat.ne_of_beq_eq_false rfl) ?_
        refine Gx_iinc_3 dX0_isImage_59 (Nat.le_of_ble_eq_true rfl) (Nat.ne_of_beq_eq_false rfl) ?_
        rw [show w32 (0 + 1) = (1 : Int) from by decide]
        refine Gx_goto (tgt := 13) dX0_isImage_62 (by decide) ?_
        refine Gx_iload_n (i := 3) dX0_isImage_13 rfl rfl ?_
        refine Gx_iconst ⟨by decide, by decide⟩ dX0_isImage_14 ?_
        refine Gx_icmp_ge (tgt := 65) dX0_isImage_15 (by decide) (fun hz => absurd hz (by decide)) (fun _ => ?_)
        refine Gx_iload_n (i := 2) dX0_isImage_18 rfl rfl ?_
        refine Gx_aload_n (i := 0) dX0_isImage_19 rfl rfl ?_
        refine Gx_iload_n (i := 3) dX0_isImage_20 rfl rfl ?_
        refine cl_X0_336 dX0_isImage_21 rfl rfl ⟨(Nat.le_of_ble_eq_true rfl), (Nat.le_of_ble_eq_true rfl)⟩ rfl ?_
        refine ct_X0_areEaters he (fun e2 => ?_) (fun e2 => ?_)
        · refine Gx_if_eq (tgt := 42) dX0_isImage_24 (by decide) (fun hz => absurd hz (by decide)) (fun _ => ?_)
          refine Gx_aload_n (i := 1) dX0_isImage_27 rfl rfl ?_
          refine Gx_iconst ⟨by decide, by decide⟩ dX0_isImage_28 ?_
          refine Gx_iload_n (i := 3) dX0_isImage_29 rfl rfl ?_
          refine Gx_iadd dX0_isImage_30 ?_
          try simp (disch := omega) only [w32_id]
          try rw [show (1 : Int) + 0 = 1 from rfl]
          try rw [show (1 : Int) + 1 = 2 from rfl]
          refine Gx_iaload dX0_isImage_31 hh (by first | omega | (simp (disch := omega) only [w32_id]; omega)) ?_
          refine Gx_iconst ⟨by decide, by decide⟩ dX0_isImage_32 ?_
          refine Gx_sipush dX0_isImage_33 ⟨by decide, by decide⟩ ?_
          refine cl_X0_129 dX0_isImage_36 rfl ⟨(Nat.le_of_ble_eq_true rfl), (Nat.le_of_ble_eq_true rfl)⟩ rfl ?_
          refine ct_X0_isIn (fun i2 => ?_) (fun i2 => ?_)
          · refine Gx_goto (tgt := 57) dX0_isImage_39 (by decide) ?_
            refine Gx_iand dX0_isImage_57 ?_
            first
            | rw [wAnd_b1 (by omega)]
            | rw [wAnd_b0 (by omega)]
            refine Gx_istore_n_2 dX0_isImage_58 (Nat.le_of_ble_eq_true rfl) (Nat.ne_of_beq_eq_false rfl) ?_
            refine Gx_iinc_3 dX0_isImage_59 (Nat.le_of_ble_eq_true rfl) (Nat.ne_of_beq_eq_false rfl) ?_
            rw [show w32 (1 + 1) = (2 : Int) from by decide]
            refine Gx_goto (tgt := 13) dX0_isImage_62 (by decide) ?_
            refine Gx_iload_n (i := 3) dX0_isImage_13 rfl rfl ?_
            refine Gx_iconst ⟨by decide, by decide⟩ dX0_isImage_14 ?_
            refine Gx_icmp_ge (tgt := 65) dX0_isImage_15 (by decide) (fun _ => ?_) (fun hz => absurd hz (by decide))
            refine Gx_iconst ⟨by decide, by decide⟩ dX0_isImage_65 ?_
            refine Gx_istore_n_3 dX0_isImage_66 (Nat.le_of_ble_eq_true rfl) (Nat.ne_of_beq_eq_false rfl) ?_
            refine lp_X0_isImage (P := pI0 (v 0 12) (v o)) hh hn.2 k1 k0 n.toNat 0 _ (by omega) (by omega) ?_
            first
            | exact Or.inl ⟨rfl, (by unfold pI0; omega), rfl⟩
            | exact Or.inr ⟨rfl, fun z => absurd z.1 (by unfold pI0; omega)⟩
          · refine Gx_goto (tgt := 57) dX0_isImage_39 (by decide) ?_
            refine Gx_iand dX0_isImage_57 ?_
            first
            | rw [wAnd_b1 (by omega)]
            | rw [wAnd_b0 (by omega)]
            refine Gx_istore_n_2 dX0_isImage_58 (Nat.le_of_ble_eq_true rfl) (Nat.ne_of_beq_eq_false rfl) ?_
            refine Gx_iinc_3 dX0_isImage_59 (Nat.le_of_ble_eq_true rfl) (Nat.ne_of_beq_eq_false rfl) ?_
            rw [show w32 (1 + 1) = (2 : Int) from by decide]
            refine Gx_goto (tgt := 13) dX0_isImage_62 (by decide) ?_
            refine Gx_iload_n (i := 3) dX0_isImage_13 rfl rfl ?_
            refine Gx_iconst ⟨by decide, by decide⟩ dX0_isImage_14 ?_
            refine Gx_icmp_ge (tgt := 65) dX0_isImage_15 (by decide) (fun _ => ?_) (fun hz => absurd hz (by decide))
            refine Gx_iconst ⟨by decide, by decide⟩ dX0_isImage_65 ?_
            refine Gx_istore_n_3 dX0_isImage_66 (Nat.le_of_ble_eq_true rfl) (Nat.ne_of_beq_eq_false rfl) ?_
            refine lp_X0_isImage (P := pI0 (v 0 12) (v o)) hh hn.2 k1 k0 n.toNat 0 _ (by omega) (by omega) ?_
            first
            | exact Or.inl ⟨rfl, (by unfold pI0; omega), rfl⟩
            | exact Or.inr ⟨rfl, fun z => absurd z.1 (by unfold pI0; omega)⟩
        · refine Gx_if_eq (tgt := 42) dX0_isImage_24 (by decide) (fun _ => ?_) (fun hz => absurd hz (by decide))
          refine Gx_aload_n (i := 1) dX0_isImage_42 rfl rfl ?_
          refine Gx_iconst ⟨by decide, by decide⟩ dX0_isImage_43 ?_
          refine Gx_iload_n (i := 3) dX0_isImage_44 rfl rfl ?_
          refine Gx_iadd dX0_isImage_45 ?_
          try simp (disch := omega) only [w32_id]
          try rw [show (1 : Int) + 0 = 1 from rfl]
          try rw [show (1 : Int) + 1 = 2 from rfl]
          refine Gx_iaload dX0_isImage_46 hh (by first | omega | (simp (disch := omega) only [w32_id]; omega)) ?_
          refine Gx_bipush dX0_isImage_47 ⟨by decide, by decide⟩ ?_
          refine Gx_icmp_ne (tgt := 56) dX0_isImage_49 (by decide) (fun c49 => ?_) (fun c49 => ?_)
          · refine Gx_iconst ⟨by decide, by decide⟩ dX0_isImage_56 ?_
            refine Gx_iand dX0_isImage_57 ?_
            first
            | rw [wAnd_b1 (by omega)]
            | rw [wAnd_b0 (by omega)]
            refine Gx_istore_n_2 dX0_isImage_58 (Nat.le_of_ble_eq_true rfl) (Nat.ne_of_beq_eq_false rfl) ?_
            refine Gx_iinc_3 dX0_isImage_59 (Nat.le_of_ble_eq_true rfl) (Nat.ne_of_beq_eq_false rfl) ?_
            rw [show w32 (1 + 1) = (2 : Int) from by decide]
            refine Gx_goto (tgt := 13) dX0_isImage_62 (by decide) ?_
            refine Gx_iload_n (i := 3) dX0_isImage_13 rfl rfl ?_
            refine Gx_iconst ⟨by decide, by decide⟩ dX0_isImage_14 ?_
            refine Gx_icmp_ge (tgt := 65) dX0_isImage_15 (by decide) (fun _ => ?_) (fun hz => absurd hz (by decide))
            refine Gx_iconst ⟨by decide, by decide⟩ dX0_isImage_65 ?_
            refine Gx_istore_n_3 dX0_isImage_66 (Nat.le_of_ble_eq_true rfl) (Nat.ne_of_beq_eq_false rfl) ?_
            refine lp_X0_isImage (P := pI0 (v 0 12) (v o)) hh hn.2 k1 k0 n.toNat 0 _ (by omega) (by omega) ?_
            first
            | exact Or.inl ⟨rfl, (by unfold pI0; omega), rfl⟩
            | exact Or.inr ⟨rfl, fun z => absurd z.1 (by unfold pI0; omega)⟩
          · refine Gx_iconst ⟨by decide, by decide⟩ dX0_isImage_52 ?_
            refine Gx_goto (tgt := 57) dX0_isImage_53 (by decide) ?_
            refine Gx_iand dX0_isImage_57 ?_
            first
            | rw [wAnd_b1 (by omega)]
            | rw [wAnd_b0 (by omega)]
            refine Gx_istore_n_2 dX0_isImage_58 (Nat.le_of_ble_eq_true rfl) (Nat.ne_of_beq_eq_false rfl) ?_
            refine Gx_iinc_3 dX0_isImage_59 (Nat.le_of_ble_eq_true rfl) (Nat.ne_of_beq_eq_false rfl) ?_
            rw [show w32 (1 + 1) = (2 : Int) from by decide]
            refine Gx_goto (tgt := 13) dX0_isImage_62 (by decide) ?_
            refine Gx_iload_n (i := 3) dX0_isImage_13 rfl rfl ?_
            refine Gx_iconst ⟨by decide, by decide⟩ dX0_isImage_14 ?_
            refine Gx_icmp_ge (tgt := 65) dX0_isImage_15 (by decide) (fun _ => ?_) (fun hz => absurd hz (by decide))
            refine Gx_iconst ⟨by decide, by decide⟩ dX0_isImage_65 ?_
            refine Gx_istore_n_3 dX0_isImage_66 (Nat.le_of_ble_eq_true rfl) (Nat.ne_of_beq_eq_false rfl) ?_
            refine lp_X0_isImage (P := pI0 (v 0 12) (v o)) hh hn.2 k1 k0 n.toNat 0 _ (by omega) (by omega) ?_
            first
            | exact Or.inl ⟨rfl, (by unfold pI0; omega), rfl⟩
            | exact Or.inr ⟨rfl, fun z => absurd z.1 (by unfold pI0; omega)⟩
    · refine Gx_if_eq (tgt := 42) dX0_isImage_24 (by decide) (fun _ => ?_) (fun hz => absurd hz (by decide))
      refine Gx_aload_n (i := 1) dX0_isImage_42 rfl rfl ?_
      refine Gx_iconst ⟨by decide, by decide⟩ dX0_isImage_43 ?_
      refine Gx_iload_n (i := 3) dX0_isImage_44 rfl rfl ?_
      refine Gx_iadd dX0_isImage_45 ?_
      try simp (disch := omega) only [w32_id]
      try rw [show (1 : Int) + 0 = 1 from rfl]
      try rw [show (1 : Int) + 1 = 2 from rfl]
      refine Gx_iaload dX0_isImage_46 hh (by first | omega | (simp (disch := omega) only [w32_id]; omega)) ?_
      refine Gx_bipush dX0_isImage_47 ⟨by decide, by decide⟩ ?_
      refine Gx_icmp_ne (tgt := 56) dX0_isImage_49 (by decide) (fun c49 => ?_) (fun c49 => ?_)
      · refine Gx_iconst ⟨by decide, by decide⟩ dX0_isImage_56 ?_
        refine Gx_iand dX0_isImage_57 ?_
        first
        | rw [wAnd_b1 (by omega)]
        | rw [wAnd_b0 (by omega)]
        refine Gx_istore_n_2 dX0_isImage_58 (Nat.le_of_ble_eq_true rfl) (Nat.ne_of_beq_eq_false rfl) ?_
        refine Gx_iinc_3 dX0_isImage_59 (Nat.le_of_ble_eq_true rfl) (Nat.ne_of_beq_eq_false rfl) ?_
        rw [show w32 (0 + 1) = (1 : Int) from by decide]
        refine Gx_goto (tgt := 13) dX0_isImage_62 (by decide) ?_
        refine Gx_iload_n (i := 3) dX0_isImage_13 rfl rfl ?_
        refine Gx_iconst ⟨by decide, by decide⟩ dX0_isImage_14 ?_
        refine Gx_icmp_ge (tgt := 65) dX0_isImage_15 (by decide) (fun hz => absurd hz (by decide)) (fun _ => ?_)
        refine Gx_iload_n (i := 2) dX0_isImage_18 rfl rfl ?_
        refine Gx_aload_n (i := 0) dX0_isImage_19 rfl rfl ?_
        refine Gx_iload_n (i := 3) dX0_isImage_20 rfl rfl ?_
        refine cl_X0_336 dX0_isImage_21 rfl rfl ⟨(Nat.le_of_ble_eq_true rfl), (Nat.le_of_ble_eq_true rfl)⟩ rfl ?_
        refine ct_X0_areEaters he (fun e2 => ?_) (fun e2 => ?_)
        · refine Gx_if_eq (tgt := 42) dX0_isImage_24 (by decide) (fun hz => absurd hz (by decide)) (fun _ => ?_)
          refine Gx_aload_n (i := 1) dX0_isImage_27 rfl rfl ?_
          refine Gx_iconst ⟨by decide, by decide⟩ dX0_isImage_28 ?_
          refine Gx_iload_n (i := 3) dX0_isImage_29 rfl rfl ?_
          refine Gx_iadd dX0_isImage_30 ?_
          try simp (disch := omega) only [w32_id]
          try rw [show (1 : Int) + 0 = 1 from rfl]
          try rw [show (1 : Int) + 1 = 2 from rfl]
          refine Gx_iaload dX0_isImage_31 hh (by first | omega | (simp (disch := omega) only [w32_id]; omega)) ?_
          refine Gx_iconst ⟨by decide, by decide⟩ dX0_isImage_32 ?_
          refine Gx_sipush dX0_isImage_33 ⟨by decide, by decide⟩ ?_
          refine cl_X0_129 dX0_isImage_36 rfl ⟨(Nat.le_of_ble_eq_true rfl), (Nat.le_of_ble_eq_true rfl)⟩ rfl ?_
          refine ct_X0_isIn (fun i1 => ?_) (fun i1 => ?_)
          · refine Gx_goto (tgt := 57) dX0_isImage_39 (by decide) ?_
            refine Gx_iand dX0_isImage_57 ?_
            first
            | rw [wAnd_b1 (by omega)]
            | rw [wAnd_b0 (by omega)]
            refine Gx_istore_n_2 dX0_isImage_58 (Nat.le_of_ble_eq_true rfl) (Nat.ne_of_beq_eq_false rfl) ?_
            refine Gx_iinc_3 dX0_isImage_59 (Nat.le_of_ble_eq_true rfl) (Nat.ne_of_beq_eq_false rfl) ?_
            rw [show w32 (1 + 1) = (2 : Int) from by decide]
            refine Gx_goto (tgt := 13) dX0_isImage_62 (by decide) ?_
            refine Gx_iload_n (i := 3) dX0_isImage_13 rfl rfl ?_
            refine Gx_iconst ⟨by decide, by decide⟩ dX0_isImage_14 ?_
            refine Gx_icmp_ge (tgt := 65) dX0_isImage_15 (by decide) (fun _ => ?_) (fun hz => absurd hz (by decide))
            refine Gx_iconst ⟨by decide, by decide⟩ dX0_isImage_65 ?_
            refine Gx_istore_n_3 dX0_isImage_66 (Nat.le_of_ble_eq_true rfl) (Nat.ne_of_beq_eq_false rfl) ?_
            refine lp_X0_isImage (P := pI0 (v 0 12) (v o)) hh hn.2 k1 k0 n.toNat 0 _ (by omega) (by omega) ?_
            first
            | exact Or.inl ⟨rfl, (by unfold pI0; omega), rfl⟩
            | exact Or.inr ⟨rfl, fun z => absurd z.1 (by unfold pI0; omega)⟩
          · refine Gx_goto (tgt := 57) dX0_isImage_39 (by decide) ?_
            refine Gx_iand dX0_isImage_57 ?_
            first
            | rw [wAnd_b1 (by omega)]
            | rw [wAnd_b0 (by omega)]
            refine Gx_istore_n_2 dX0_isImage_58 (Nat.le_of_ble_eq_true rfl) (Nat.ne_of_beq_eq_false rfl) ?_
            refine Gx_iinc_3 dX0_isImage_59 (Nat.le_of_ble_eq_true rfl) (Nat.ne_of_beq_eq_false rfl) ?_
            rw [show w32 (1 + 1) = (2 : Int) from by decide]
            refine Gx_goto (tgt := 13) dX0_isImage_62 (by decide) ?_
            refine Gx_iload_n (i := 3) dX0_isImage_13 rfl rfl ?_
            refine Gx_iconst ⟨by decide, by decide⟩ dX0_isImage_14 ?_
            refine Gx_icmp_ge (tgt := 65) dX0_isImage_15 (by decide) (fun _ => ?_) (fun hz => absurd hz (by decide))
            refine Gx_iconst ⟨by decide, by decide⟩ dX0_isImage_65 ?_
            refine Gx_istore_n_3 dX0_isImage_66 (Nat.le_of_ble_eq_true rfl) (Nat.ne_of_beq_eq_false rfl) ?_
            refine lp_X0_isImage (P := pI0 (v 0 12) (v o)) hh hn.2 k1 k0 n.toNat 0 _ (by omega) (by omega) ?_
            first
            | exact Or.inl ⟨rfl, (by unfold pI0; omega), rfl⟩
            | exact Or.inr ⟨rfl, fun z => absurd z.1 (by unfold pI0; omega)⟩
        · refine Gx_if_eq (tgt := 42) dX0_isImage_24 (by decide) (fun _ => ?_) (fun hz => absurd hz (by decide))
          refine Gx_aload_n (i := 1) dX0_isImage_42 rfl rfl ?_
          refine Gx_iconst ⟨by decide, by decide⟩ dX0_isImage_43 ?_
          refine Gx_iload_n (i := 3) dX0_isImage_44 rfl rfl ?_
          refine Gx_iadd dX0_isImage_45 ?_
          try simp (disch := omega) only [w32_id]
          try rw [show (1 : Int) + 0 = 1 from rfl]
          try rw [show (1 : Int) + 1 = 2 from rfl]
          refine Gx_iaload dX0_isImage_46 hh (by first | omega | (simp (disch := omega) only [w32_id]; omega)) ?_
          refine Gx_bipush dX0_isImage_47 ⟨by decide, by decide⟩ ?_
          refine Gx_icmp_ne (tgt := 56) dX0_isImage_49 (by decide) (fun c49 => ?_) (fun c49 => ?_)
          · refine Gx_iconst ⟨by decide, by decide⟩ dX0_isImage_56 ?_
            refine Gx_iand dX0_isImage_57 ?_
            first
            | rw [wAnd_b1 (by omega)]
            | rw [wAnd_b0 (by omega)]
            refine Gx_istore_n_2 dX0_isImage_58 (Nat.le_of_ble_eq_true rfl) (Nat.ne_of_beq_eq_false rfl) ?_
            refine Gx_iinc_3 dX0_isImage_59 (Nat.le_of_ble_eq_true rfl) (Nat.ne_of_beq_eq_false rfl) ?_
            rw [show w32 (1 + 1) = (2 : Int) from by decide]
            refine Gx_goto (tgt := 13) dX0_isImage_62 (by decide) ?_
            refine Gx_iload_n (i := 3) dX0_isImage_13 rfl rfl ?_
            refine Gx_iconst ⟨by decide, by decide⟩ dX0_isImage_14 ?_
            refine Gx_icmp_ge (tgt := 65) dX0_isImage_15 (by decide) (fun _ => ?_) (fun hz => absurd hz (by decide))
            refine Gx_iconst ⟨by decide, by decide⟩ dX0_isImage_65 ?_
            refine Gx_istore_n_3 dX0_isImage_66 (Nat.le_of_ble_eq_true rfl) (Nat.ne_of_beq_eq_false rfl) ?_
            refine lp_X0_isImage (P := pI0 (v 0 12) (v o)) hh hn.2 k1 k0 n.toNat 0 _ (by omega) (by omega) ?_
            first
            | exact Or.inl ⟨rfl, (by unfold pI0; omega), rfl⟩
            | exact Or.inr ⟨rfl, fun z => absurd z.1 (by unfold pI0; omega)⟩
          · refine Gx_iconst ⟨by decide, by decide⟩ dX0_isImage_52 ?_
            refine Gx_goto (tgt := 57) dX0_isImage_53 (by decide) ?_
            refine Gx_iand dX0_isImage_57 ?_
            first
            | rw [wAnd_b1 (by omega)]
            | rw [wAnd_b0 (by omega)]
            refine Gx_istore_n_2 dX0_isImage_58 (Nat.le_of_ble_eq_true rfl) (Nat.ne_of_beq_eq_false rfl) ?_
            refine Gx_iinc_3 dX0_isImage_59 (Nat.le_of_ble_eq_true rfl) (Nat.ne_of_beq_eq_false rfl) ?_
            rw [show w32 (1 + 1) = (2 : Int) from by decide]
            refine Gx_goto (tgt := 13) dX0_isImage_62 (by decide) ?_
            refine Gx_iload_n (i := 3) dX0_isImage_13 rfl rfl ?_
            refine Gx_iconst ⟨by decide, by decide⟩ dX0_isImage_14 ?_
            refine Gx_icmp_ge (tgt := 65) dX0_isImage_15 (by decide) (fun _ => ?_) (fun hz => absurd hz (by decide))
            refine Gx_iconst ⟨by decide, by decide⟩ dX0_isImage_65 ?_
            refine Gx_istore_n_3 dX0_isImage_66 (Nat.le_of_ble_eq_true rfl) (Nat.ne_of_beq_eq_false rfl) ?_
            refine lp_X0_isImage (P := pI0 (v 0 12) (v o)) hh hn.2 k1 k0 n.toNat 0 _ (by omega) (by omega) ?_
            first
            | exact Or.inl ⟨rfl, (by unfold pI0; omega), rfl⟩
            | exact Or.inr ⟨rfl, fun z => absurd z.1 (by unfold pI0; omega)⟩
      · refine Gx_iconst ⟨by decide, by decide⟩ dX0_isImage_52 ?_
        refine Gx_goto (tgt := 57) dX0_isImage_53 (by decide) ?_
        refine Gx_iand dX0_isImage_57 ?_
        first
        | rw [wAnd_b1 (by omega)]
        | rw [wAnd_b0 (by omega)]
        refine Gx_istore_n_2 dX0_isImage_58 (Nat.le_of_ble_eq_true rfl) (Nat.ne_of_beq_eq_false rfl) ?_
        refine Gx_iinc_3 dX0_isImage_59 (Nat.le_of_ble_eq_true rfl) (Nat.ne_of_beq_eq_false rfl) ?_
        rw [show w32 (0 + 1) = (1 : Int) from by decide]
        refine Gx_goto (tgt := 13) dX0_isImage_62 (by decide) ?_
        refine Gx_iload_n (i := 3) dX0_isImage_13 rfl rfl ?_
        refine Gx_iconst ⟨by decide, by decide⟩ dX0_isImage_14 ?_
        refine Gx_icmp_ge (tgt := 65) dX0_isImage_15 (by decide) (fun hz => absurd hz (by decide)) (fun _ => ?_)
        refine Gx_iload_n (i := 2) dX0_isImage_18 rfl rfl ?_
        refine Gx_aload_n (i := 0) dX0_isImage_19 rfl rfl ?_
        refine Gx_iload_n (i := 3) dX0_isImage_20 rfl rfl ?_
        refine cl_X0_336 dX0_isImage_21 rfl rfl ⟨(Nat.le_of_ble_eq_true rfl), (Nat.le_of_ble_eq_true rfl)⟩ rfl ?_
        refine ct_X0_areEaters he (fun e2 => ?_) (fun e2 => ?_)
        · refine Gx_if_eq (tgt := 42) dX0_isImage_24 (by decide) (fun hz => absurd hz (by decide)) (fun _ => ?_)
          refine Gx_aload_n (i := 1) dX0_isImage_27 rfl rfl ?_
          refine Gx_iconst ⟨by decide, by decide⟩ dX0_isImage_28 ?_
          refine Gx_iload_n (i := 3) dX0_isImage_29 rfl rfl ?_
          refine Gx_iadd dX0_isImage_30 ?_
          try simp (disch := omega) only [w32_id]
          try rw [show (1 : Int) + 0 = 1 from rfl]
          try rw [show (1 : Int) + 1 = 2 from rfl]
          refine Gx_iaload dX0_isImage_31 hh (by first | omega | (simp (disch := omega) only [w32_id]; omega)) ?_
          refine Gx_iconst ⟨by decide, by decide⟩ dX0_isImage_32 ?_
          refine Gx_sipush dX0_isImage_33 ⟨by decide, by decide⟩ ?_
          refine cl_X0_129 dX0_isImage_36 rfl ⟨(Nat.le_of_ble_eq_true rfl), (Nat.le_of_ble_eq_true rfl)⟩ rfl ?_
          refine ct_X0_isIn (fun i1 => ?_) (fun i1 => ?_)
          · refine Gx_goto (tgt := 57) dX0_isImage_39 (by decide) ?_
            refine Gx_iand dX0_isImage_57 ?_
            first
            | rw [wAnd_b1 (by omega)]
            | rw [wAnd_b0 (by omega)]
            refine Gx_istore_n_2 dX0_isImage_58 (Nat.le_of_ble_eq_true rfl) (Nat.ne_of_beq_eq_false rfl) ?_
            refine Gx_iinc_3 dX0_isImage_59 (Nat.le_of_ble_eq_true rfl) (Nat.ne_of_beq_eq_false rfl) ?_
            rw [show w32 (1 + 1) = (2 : Int) from by decide]
            refine Gx_goto (tgt := 13) dX0_isImage_62 (by decide) ?_
            refine Gx_iload_n (i := 3) dX0_isImage_13 rfl rfl ?_
            refine Gx_iconst ⟨by decide, by decide⟩ dX0_isImage_14 ?_
            refine Gx_icmp_ge (tgt := 65) dX0_isImage_15 (by decide) (fun _ => ?_) (fun hz => absurd hz (by decide))
            refine Gx_iconst ⟨by decide, by decide⟩ dX0_isImage_65 ?_
            refine Gx_istore_n_3 dX0_isImage_66 (Nat.le_of_ble_eq_true rfl) (Nat.ne_of_beq_eq_false rfl) ?_
            refine lp_X0_isImage (P := pI0 (v 0 12) (v o)) hh hn.2 k1 k0 n.toNat 0 _ (by omega) (by omega) ?_
            first
            | exact Or.inl ⟨rfl, (by unfold pI0; omega), rfl⟩
            | exact Or.inr ⟨rfl, fun z => absurd z.1 (by unfold pI0; omega)⟩
          · refine Gx_goto (tgt := 57) dX0_isImage_39 (by decide) ?_
            refine Gx_iand dX0_isImage_57 ?_
            first
            | rw [wAnd_b1 (by omega)]
            | rw [wAnd_b0 (by omega)]
            refine Gx_istore_n_2 dX0_isImage_58 (Nat.le_of_ble_eq_true rfl) (Nat.ne_of_beq_eq_false rfl) ?_
            refine Gx_iinc_3 dX0_isImage_59 (Nat.le_of_ble_eq_true rfl) (Nat.ne_of_beq_eq_false rfl) ?_
            rw [show w32 (1 + 1) = (2 : Int) from by decide]
            refine Gx_goto (tgt := 13) dX0_isImage_62 (by decide) ?_
            refine Gx_iload_n (i := 3) dX0_isImage_13 rfl rfl ?_
            refine Gx_iconst ⟨by decide, by decide⟩ dX0_isImage_14 ?_
            refine Gx_icmp_ge (tgt := 65) dX0_isImage_15 (by decide) (fun _ => ?_) (fun hz => absurd hz (by decide))
            refine Gx_iconst ⟨by decide, by decide⟩ dX0_isImage_65 ?_
            refine Gx_istore_n_3 dX0_isImage_66 (Nat.le_of_ble_eq_true rfl) (Nat.ne_of_beq_eq_false rfl) ?_
            refine lp_X0_isImage (P := pI0 (v 0 12) (v o)) hh hn.2 k1 k0 n.toNat 0 _ (by omega) (by omega) ?_
            first
            | exact Or.inl ⟨rfl, (by unfold pI0; omega), rfl⟩
            | exact Or.inr ⟨rfl, fun z => absurd z.1 (by unfold pI0; omega)⟩
        · refine Gx_if_eq (tgt := 42) dX0_isImage_24 (by decide) (fun _ => ?_) (fun hz => absurd hz (by decide))
          refine Gx_aload_n (i := 1) dX0_isImage_42 rfl rfl ?_
          refine Gx_iconst ⟨by decide, by decide⟩ dX0_isImage_43 ?_
          refine Gx_iload_n (i := 3) dX0_isImage_44 rfl rfl ?_
          refine Gx_iadd dX0_isImage_45 ?_
          try simp (disch := omega) only [w32_id]
          try rw [show (1 : Int) + 0 = 1 from rfl]
          try rw [show (1 : Int) + 1 = 2 from rfl]
          refine Gx_iaload dX0_isImage_46 hh (by first | omega | (simp (disch := omega) only [w32_id]; omega)) ?_
          refine Gx_bipush dX0_isImage_47 ⟨by decide, by decide⟩ ?_
          refine Gx_icmp_ne (tgt := 56) dX0_isImage_49 (by decide) (fun c49 => ?_) (fun c49 => ?_)
          · refine Gx_iconst ⟨by decide, by decide⟩ dX0_isImage_56 ?_
            refine Gx_iand dX0_isImage_57 ?_
            first
            | rw [wAnd_b1 (by omega)]
            | rw [wAnd_b0 (by omega)]
            refine Gx_istore_n_2 dX0_isImage_58 (Nat.le_of_ble_eq_true rfl) (Nat.ne_of_beq_eq_false rfl) ?_
            refine Gx_iinc_3 dX0_isImage_59 (Nat.le_of_ble_eq_true rfl) (Nat.ne_of_beq_eq_false rfl) ?_
            rw [show w32 (1 + 1) = (2 : Int) from by decide]
            refine Gx_goto (tgt := 13) dX0_isImage_62 (by decide) ?_
            refine Gx_iload_n (i := 3) dX0_isImage_13 rfl rfl ?_
            refine Gx_iconst ⟨by decide, by decide⟩ dX0_isImage_14 ?_
            refine Gx_icmp_ge (tgt := 65) dX0_isImage_15 (by decide) (fun _ => ?_) (fun hz => absurd hz (by decide))
            refine Gx_iconst ⟨by decide, by decide⟩ dX0_isImage_65 ?_
            refine Gx_istore_n_3 dX0_isImage_66 (Nat.le_of_ble_eq_true rfl) (Nat.ne_of_beq_eq_false rfl) ?_
            refine lp_X0_isImage (P := pI0 (v 0 12) (v o)) hh hn.2 k1 k0 n.toNat 0 _ (by omega) (by omega) ?_
            first
            | exact Or.inl ⟨rfl, (by unfold pI0; omega), rfl⟩
            | exact Or.inr ⟨rfl, fun z => absurd z.1 (by unfold pI0; omega)⟩
          · refine Gx_iconst ⟨by decide, by decide⟩ dX0_isImage_52 ?_
            refine Gx_goto (tgt := 57) dX0_isImage_53 (by decide) ?_
            refine Gx_iand dX0_isImage_57 ?_
            first
            | rw [wAnd_b1 (by omega)]
            | rw [wAnd_b0 (by omega)]
            refine Gx_istore_n_2 dX0_isImage_58 (Nat.le_of_ble_eq_true rfl) (Nat.ne_of_beq_eq_false rfl) ?_
            refine Gx_iinc_3 dX0_isImage_59 (Nat.le_of_ble_eq_true rfl) (Nat.ne_of_beq_eq_false rfl) ?_
            rw [show w32 (1 + 1) = (2 : Int) from by decide]
            refine Gx_goto (tgt := 13) dX0_isImage_62 (by decide) ?_
            refine Gx_iload_n (i := 3) dX0_isImage_13 rfl rfl ?_
            refine Gx_iconst ⟨by decide, by decide⟩ dX0_isImage_14 ?_
            refine Gx_icmp_ge (tgt := 65) dX0_isImage_15 (by decide) (fun _ => ?_) (fun hz => absurd hz (by decide))
            refine Gx_iconst ⟨by decide, by decide⟩ dX0_isImage_65 ?_
            refine Gx_istore_n_3 dX0_isImage_66 (Nat.le_of_ble_eq_true rfl) (Nat.ne_of_beq_eq_false rfl) ?_
            refine lp_X0_isImage (P := pI0 (v 0 12) (v o)) hh hn.2 k1 k0 n.toNat 0 _ (by omega) (by omega) ?_
            first
            | exact Or.inl ⟨rfl, (by unfold pI0; omega), rfl⟩
            | exact Or.inr ⟨rfl, fun z => absurd z.1 (by unfold pI0; omega)⟩
  · refine Gx_istore_n_2 dX0_isImage_10 (Nat.le_of_ble_eq_true rfl) (Nat.ne_of_beq_eq_false rfl) ?_
    refine Gx_iconst ⟨by decide, by decide⟩ dX0_isImage_11 ?_
    refine Gx_istore_n_3 dX0_isImage_12 (Nat.le_of_ble_eq_true rfl) (Nat.ne_of_beq_eq_false rfl) ?_
    refine Gx_iload_n (i := 3) dX0_isImage_13 rfl rfl ?_
    refine Gx_iconst ⟨by decide, by decide⟩ dX0_isImage_14 ?_
    refine Gx_icmp_ge (tgt := 65) dX0_isImage_15 (by decide) (fun hz => absurd hz (by decide)) (fun _ => ?_)
    refine Gx_iload_n (i := 2) dX0_isImage_18 rfl rfl ?_
    refine Gx_aload_n (i := 0) dX0_isImage_19 rfl rfl ?_
    refine Gx_iload_n (i := 3) dX0_isImage_20 rfl rfl ?_
    refine cl_X0_336 dX0_isImage_21 rfl rfl ⟨(Nat.le_of_ble_eq_true rfl), (Nat.le_of_ble_eq_true rfl)⟩ rfl ?_
    refine ct_X0_areEaters he (fun e1 => ?_) (fun e1 => ?_)
    · refine Gx_if_eq (tgt := 42) dX0_isImage_24 (by decide) (fun hz => absurd hz (by decide)) (fun _ => ?_)
      refine Gx_aload_n (i := 1) dX0_isImage_27 rfl rfl ?_
      refine Gx_iconst ⟨by decide, by decide⟩ dX0_isImage_28 ?_
      refine Gx_iload_n (i := 3) dX0_isImage_29 rfl rfl ?_
      refine Gx_iadd dX0_isImage_30 ?_
      try simp (disch := omega) only [w32_id]
      try rw [show (1 : Int) + 0 = 1 from rfl]
      try rw [show (1 : Int) + 1 = 2 from rfl]
      refine Gx_iaload dX0_isImage_31 hh (by first | omega | (simp (disch := omega) only [w32_id]; omega)) ?_
      refine Gx_iconst ⟨by decide, by decide⟩ dX0_isImage_32 ?_
      refine Gx_sipush dX0_isImage_33 ⟨by decide, by decide⟩ ?_
      refine cl_X0_129 dX0_isImage_36 rfl ⟨(Nat.le_of_ble_eq_true rfl), (Nat.le_of_ble_eq_true rfl)⟩ rfl ?_
      refine ct_X0_isIn (fun i1 => ?_) (fun i1 => ?_)
      · refine Gx_goto (tgt := 57) dX0_isImage_39 (by decide) ?_
        refine Gx_iand dX0_isImage_57 ?_
        first
        | rw [wAnd_b1 (by omega)]
        | rw [wAnd_b0 (by omega)]
        refine Gx_istore_n_2 dX0_isImage_58 (Nat.le_of_ble_eq_true rfl) (Nat.ne_of_beq_eq_false rfl) ?_
        refine Gx_iinc_3 dX0_isImage_59 (Nat.le_of_ble_eq_true rfl) (Nat.ne_of_beq_eq_false rfl) ?_
        rw [show w32 (0 + 1) = (1 : Int) from by decide]
        refine Gx_goto (tgt := 13) dX0_isImage_62 (by decide) ?_
        refine Gx_iload_n (i := 3) dX0_isImage_13 rfl rfl ?_
        refine Gx_iconst ⟨by decide, by decide⟩ dX0_isImage_14 ?_
        refine Gx_icmp_ge (tgt := 65) dX0_isImage_15 (by decide) (fun hz => absurd hz (by decide)) (fun _ => ?_)
        refine Gx_iload_n (i := 2) dX0_isImage_18 rfl rfl ?_
        refine Gx_aload_n (i := 0) dX0_isImage_19 rfl rfl ?_
        refine Gx_iload_n (i := 3) dX0_isImage_20 rfl rfl ?_
        refine cl_X0_336 dX0_isImage_21 rfl rfl ⟨(Nat.le_of_ble_eq_true rfl), (Nat.le_of_ble_eq_true rfl)⟩ rfl ?_
        refine ct_X0_areEaters he (fun e2 => ?_) (fun e2 => ?_)
        · refine Gx_if_eq (tgt := 42) dX0_isImage_24 (by decide) (fun hz => absurd hz (by decide)) (fun _ => ?_)
          refine Gx_aload_n (i := 1) dX0_isImage_27 rfl rfl ?_
          refine Gx_iconst ⟨by decide, by decide⟩ dX0_isImage_28 ?_
          refine Gx_iload_n (i := 3) dX0_isImage_29 rfl rfl ?_
          refine Gx_iadd dX0_isImage_30 ?_
          try simp (disch := omega) only [w32_id]
          try rw [show (1 : Int) + 0 = 1 from rfl]
          try rw [show (1 : Int) + 1 = 2 from rfl]
          refine Gx_iaload dX0_isImage_31 hh (by first | omega | (simp (disch := omega) only [w32_id]; omega)) ?_
          refine Gx_iconst ⟨by decide, by decide⟩ dX0_isImage_32 ?_
          refine Gx_sipush dX0_isImage_33 ⟨by decide, by decide⟩ ?_
          refine cl_X0_129 dX0_isImage_36 rfl ⟨(Nat.le_of_ble_eq_true rfl), (Nat.le_of_ble_eq_true rfl)⟩ rfl ?_
          refine ct_X0_isIn (fun i2 => ?_) (fun i2 => ?_)
          · refine Gx_goto (tgt := 57) dX0_isImage_39 (by decide) ?_
            refine Gx_iand dX0_isImage_57 ?_
            first
            | rw [wAnd_b1 (by omega)]
            | rw [wAnd_b0 (by omega)]
            refine Gx_istore_n_2 dX0_isImage_58 (Nat.le_of_ble_eq_true rfl) (Nat.ne_of_beq_eq_false rfl) ?_
            refine Gx_iinc_3 dX0_isImage_59 (Nat.le_of_ble_eq_true rfl) (Nat.ne_of_beq_eq_false rfl) ?_
            rw [show w32 (1 + 1) = (2 : Int) from by decide]
            refine Gx_goto (tgt := 13) dX0_isImage_62 (by decide) ?_
            refine Gx_iload_n (i := 3) dX0_isImage_13 rfl rfl ?_
            refine Gx_iconst ⟨by decide, by decide⟩ dX0_isImage_14 ?_
            refine Gx_icmp_ge (tgt := 65) dX0_isImage_15 (by decide) (fun _ => ?_) (fun hz => absurd hz (by decide))
            refine Gx_iconst ⟨by decide, by decide⟩ dX0_isImage_65 ?_
            refine Gx_istore_n_3 dX0_isImage_66 (Nat.le_of_ble_eq_true rfl) (Nat.ne_of_beq_eq_false rfl) ?_
            refine lp_X0_isImage (P := pI0 (v 0 12) (v o)) hh hn.2 k1 k0 n.toNat 0 _ (by omega) (by omega) ?_
            first
            | exact Or.inl ⟨rfl, (by unfold pI0; omega), rfl⟩
            | exact Or.inr ⟨rfl, fun z => absurd z.1 (by unfold pI0; omega)⟩
          · refine Gx_goto (tgt := 57) dX0_isImage_39 (by decide) ?_
            refine Gx_iand dX0_isImage_57 ?_
            first
            | rw [wAnd_b1 (by omega)]
            | rw [wAnd_b0 (by omega)]
            refine Gx_istore_n_2 dX0_isImage_58 (Nat.le_of_ble_eq_true rfl) (Nat.ne_of_beq_eq_false rfl) ?_
            refine Gx_iinc_3 dX0_isImage_59 (Nat.le_of_ble_eq_true rfl) (Nat.ne_of_beq_eq_false rfl) ?_
            rw [show w32 (1 + 1) = (2 : Int) from by decide]
            refine Gx_goto (tgt := 13) dX0_isImage_62 (by decide) ?_
            refine Gx_iload_n (i := 3) dX0_isImage_13 rfl rfl ?_
            refine Gx_iconst ⟨by decide, by decide⟩ dX0_isImage_14 ?_
            refine Gx_icmp_ge (tgt := 65) dX0_isImage_15 (by decide) (fun _ => ?_) (fun hz => absurd hz (by decide))
            refine Gx_iconst ⟨by decide, by decide⟩ dX0_isImage_65 ?_
            refine Gx_istore_n_3 dX0_isImage_66 (Nat.le_of_ble_eq_true rfl) (Nat.ne_of_beq_eq_false rfl) ?_
            refine lp_X0_isImage (P := pI0 (v 0 12) (v o)) hh hn.2 k1 k0 n.toNat 0 _ (by omega) (by omega) ?_
            first
            | exact Or.inl ⟨rfl, (by unfold pI0; omega), rfl⟩
            | exact Or.inr ⟨rfl, fun z => absurd z.1 (by unfold pI0; omega)⟩
        · refine Gx_if_eq (tgt := 42) dX0_isImage_24 (by decide) (fun _ => ?_) (fun hz => absurd hz (by decide))
          refine Gx_aload_n (i := 1) dX0_isImage_42 rfl rfl ?_
          refine Gx_iconst ⟨by decide, by decide⟩ dX0_isImage_43 ?_
          refine Gx_iload_n (i := 3) dX0_isImage_44 rfl rfl ?_
          refine Gx_iadd dX0_isImage_45 ?_
          try simp (disch := omega) only [w32_id]
          try rw [show (1 : Int) + 0 = 1 from rfl]
          try rw [show (1 : Int) + 1 = 2 from rfl]
          refine Gx_iaload dX0_isImage_46 hh (by first | omega | (simp (disch := omega) only [w32_id]; omega)) ?_
          refine Gx_bipush dX0_isImage_47 ⟨by decide, by decide⟩ ?_
          refine Gx_icmp_ne (tgt := 56) dX0_isImage_49 (by decide) (fun c49 => ?_) (fun c49 => ?_)
          · refine Gx_iconst ⟨by decide, by decide⟩ dX0_isImage_56 ?_
            refine Gx_iand dX0_isImage_57 ?_
            first
            | rw [wAnd_b1 (by omega)]
            | rw [wAnd_b0 (by omega)]
            refine Gx_istore_n_2 dX0_isImage_58 (Nat.le_of_ble_eq_true rfl) (Nat.ne_of_beq_eq_false rfl) ?_
            refine Gx_iinc_3 dX0_isImage_59 (Nat.le_of_ble_eq_true rfl) (Nat.ne_of_beq_eq_false rfl) ?_
            rw [show w32 (1 + 1) = (2 : Int) from by decide]
            refine Gx_goto (tgt := 13) dX0_isImage_62 (by decide) ?_
            refine Gx_iload_n (i := 3) dX0_isImage_13 rfl rfl ?_
            refine Gx_iconst ⟨by decide, by decide⟩ dX0_isImage_14 ?_
            refine Gx_icmp_ge (tgt := 65) dX0_isImage_15 (by decide) (fun _ => ?_) (fun hz => absurd hz (by decide))
            refine Gx_iconst ⟨by decide, by decide⟩ dX0_isImage_65 ?_
            refine Gx_istore_n_3 dX0_isImage_66 (Nat.le_of_ble_eq_true rfl) (Nat.ne_of_beq_eq_false rfl) ?_
            refine lp_X0_isImage (P := pI0 (v 0 12) (v o)) hh hn.2 k1 k0 n.toNat 0 _ (by omega) (by omega) ?_
            first
            | exact Or.inl ⟨rfl, (by unfold pI0; omega), rfl⟩
            | exact Or.inr ⟨rfl, fun z => absurd z.1 (by unfold pI0; omega)⟩
          · refine Gx_iconst ⟨by decide, by decide⟩ dX0_isImage_52 ?_
            refine Gx_goto (tgt := 57) dX0_isImage_53 (by decide) ?_
            refine Gx_iand dX0_isImage_57 ?_
            first
            | rw [wAnd_b1 (by omega)]
            | rw [wAnd_b0 (by omega)]
            refine Gx_istore_n_2 dX0_isImage_58 (Nat.le_of_ble_eq_true rfl) (Nat.ne_of_beq_eq_false rfl) ?_
            refine Gx_iinc_3 dX0_isImage_59 (Nat.le_of_ble_eq_true rfl) (Nat.ne_of_beq_eq_false rfl) ?_
            rw [show w32 (1 + 1) = (2 : Int) from by decide]
            refine Gx_goto (tgt := 13) dX0_isImage_62 (by decide) ?_
            refine Gx_iload_n (i := 3) dX0_isImage_13 rfl rfl ?_
            refine Gx_iconst ⟨by decide, by decide⟩ dX0_isImage_14 ?_
            refine Gx_icmp_ge (tgt := 65) dX0_isImage_15 (by decide) (fun _ => ?_) (fun hz => absurd hz (by decide))
            refine Gx_iconst ⟨by decide, by decide⟩ dX0_isImage_65 ?_
            refine Gx_istore_n_3 dX0_isImage_66 (Nat.le_of_ble_eq_true rfl) (Nat.ne_of_beq_eq_false rfl) ?_
            refine lp_X0_isImage (P := pI0 (v 0 12) (v o)) hh hn.2 k1 k0 n.toNat 0 _ (by omega) (by omega) ?_
            first
            | exact Or.inl ⟨rfl, (by unfold pI0; omega), rfl⟩
            | exact Or.inr ⟨rfl, fun z => absurd z.1 (by unfold pI0; omega)⟩
      · refine Gx_goto (tgt := 57) dX0_isImage_39 (by decide) ?_
        refine Gx_iand dX0_isImage_57 ?_
        first
        | rw [wAnd_b1 (by omega)]
        | rw [wAnd_b0 (by omega)]
        refine Gx_istore_n_2 dX0_isImage_58 (Nat.le_of_ble_eq_true rfl) (Nat.ne_of_beq_eq_false rfl) ?_
        refine Gx_iinc_3 dX0_isImage_59 (Nat.le_of_ble_eq_true rfl) (Nat.ne_of_beq_eq_false rfl) ?_
        rw [show w32 (0 + 1) = (1 : Int) from by decide]
        refine Gx_goto (tgt := 13) dX0_isImage_62 (by decide) ?_
        refine Gx_iload_n (i := 3) dX0_isImage_13 rfl rfl ?_
        refine Gx_iconst ⟨by decide, by decide⟩ dX0_isImage_14 ?_
        refine Gx_icmp_ge (tgt := 65) dX0_isImage_15 (by decide) (fun hz => absurd hz (by decide)) (fun _ => ?_)
        refine Gx_iload_n (i := 2) dX0_isImage_18 rfl rfl ?_
        refine Gx_aload_n (i := 0) dX0_isImage_19 rfl rfl ?_
        refine Gx_iload_n (i := 3) dX0_isImage_20 rfl rfl ?_
        refine cl_X0_336 dX0_isImage_21 rfl rfl ⟨(Nat.le_of_ble_eq_true rfl), (Nat.le_of_ble_eq_true rfl)⟩ rfl ?_
        refine ct_X0_areEaters he (fun e2 => ?_) (fun e2 => ?_)
        · refine Gx_if_eq (tgt := 42) dX0_isImage_24 (by decide) (fun hz => absurd hz (by decide)) (fun _ => ?_)
          refine Gx_aload_n (i := 1) dX0_isImage_27 rfl rfl ?_
          refine Gx_iconst ⟨by decide, by decide⟩ dX0_isImage_28 ?_
          refine Gx_iload_n (i := 3) dX0_isImage_29 rfl rfl ?_
          refine Gx_iadd dX0_isImage_30 ?_
          try simp (disch := omega) only [w32_id]
          try rw [show (1 : Int) + 0 = 1 from rfl]
          try rw [show (1 : Int) + 1 = 2 from rfl]
          refine Gx_iaload dX0_isImage_31 hh (by first | omega | (simp (disch := omega) only [w32_id]; omega)) ?_
          refine Gx_iconst ⟨by decide, by decide⟩ dX0_isImage_32 ?_
          refine Gx_sipush dX0_isImage_33 ⟨by decide, by decide⟩ ?_
          refine cl_X0_129 dX0_isImage_36 rfl ⟨(Nat.le_of_ble_eq_true rfl), (Nat.le_of_ble_eq_true rfl)⟩ rfl ?_
          refine ct_X0_isIn (fun i2 => ?_) (fun i2 => ?_)
          · refine Gx_goto (tgt := 57) dX0_isImage_39 (by decide) ?_
            refine Gx_iand dX0_isImage_57 ?_
            first
            | rw [wAnd_b1 (by omega)]
            | rw [wAnd_b0 (by omega)]
            refine Gx_istore_n_2 dX0_isImage_58 (Nat.le_of_ble_eq_true rfl) (Nat.ne_of_beq_eq_false rfl) ?_
            refine Gx_iinc_3 dX0_isImage_59 (Nat.le_of_ble_eq_true rfl) (Nat.ne_of_beq_eq_false rfl) ?_
            rw [show w32 (1 + 1) = (2 : Int) from by decide]
            refine Gx_goto (tgt := 13) dX0_isImage_62 (by decide) ?_
            refine Gx_iload_n (i := 3) dX0_isImage_13 rfl rfl ?_
            refine Gx_iconst ⟨by decide, by decide⟩ dX0_isImage_14 ?_
            refine Gx_icmp_ge (tgt := 65) dX0_isImage_15 (by decide) (fun _ => ?_) (fun hz => absurd hz (by decide))
            refine Gx_iconst ⟨by decide, by decide⟩ dX0_isImage_65 ?_
            refine Gx_istore_n_3 dX0_isImage_66 (Nat.le_of_ble_eq_true rfl) (Nat.ne_of_beq_eq_false rfl) ?_
            refine lp_X0_isImage (P := pI0 (v 0 12) (v o)) hh hn.2 k1 k0 n.toNat 0 _ (by omega) (by omega) ?_
            first
            | exact Or.inl ⟨rfl, (by unfold pI0; omega), rfl⟩
            | exact Or.inr ⟨rfl, fun z => absurd z.1 (by unfold pI0; omega)⟩
          · refine Gx_goto (tgt := 57) dX0_isImage_39 (by decide) ?_
            refine Gx_iand dX0_isImage_57 ?_
            first
            | rw [wAnd_b1 (by omega)]
            | rw [wAnd_b0 (by omega)]
            refine Gx_istore_n_2 dX0_isImage_58 (Nat.le_of_ble_eq_true rfl) (Nat.ne_of_beq_eq_false rfl) ?_
            refine Gx_iinc_3 dX0_isImage_59 (Nat.le_of_ble_eq_true rfl) (Nat.ne_of_beq_eq_false rfl) ?_
            rw [show w32 (1 + 1) = (2 : Int) from by decide]
            refine Gx_goto (tgt := 13) dX0_isImage_62 (by decide) ?_
            refine Gx_iload_n (i := 3) dX0_isImage_13 rfl rfl ?_
            refine Gx_iconst ⟨by decide, by decide⟩ dX0_isImage_14 ?_
            refine Gx_icmp_ge (tgt := 65) dX0_isImage_15 (by decide) (fun _ => ?_) (fun hz => absurd hz (by decide))
            refine Gx_iconst ⟨by decide, by decide⟩ dX0_isImage_65 ?_
            refine Gx_istore_n_3 dX0_isImage_66 (Nat.le_of_ble_eq_true rfl) (Nat.ne_of_beq_eq_false rfl) ?_
            refine lp_X0_isImage (P := pI0 (v 0 12) (v o)) hh hn.2 k1 k0 n.toNat 0 _ (by omega) (by omega) ?_
            first
            | exact Or.inl ⟨rfl, (by unfold pI0; omega), rfl⟩
            | exact Or.inr ⟨rfl, fun z => absurd z.1 (by unfold pI0; omega)⟩
        · refine Gx_if_eq (tgt := 42) dX0_isImage_24 (by decide) (fun _ => ?_) (fun hz => absurd hz (by decide))
          refine Gx_aload_n (i := 1) dX0_isImage_42 rfl rfl ?_
          refine Gx_iconst ⟨by decide, by decide⟩ dX0_isImage_43 ?_
          refine Gx_iload_n (i := 3) dX0_isImage_44 rfl rfl ?_
          refine Gx_iadd dX0_isImage_45 ?_
          try simp (disch := omega) only [w32_id]
          try rw [show (1 : Int) + 0 = 1 from rfl]
          try rw [show (1 : Int) + 1 = 2 from rfl]
          refine Gx_iaload dX0_isImage_46 hh (by first | omega | (simp (disch := omega) only [w32_id]; omega)) ?_
          refine Gx_bipush dX0_isImage_47 ⟨by decide, by decide⟩ ?_
          refine Gx_icmp_ne (tgt := 56) dX0_isImage_49 (by decide) (fun c49 => ?_) (fun c49 => ?_)
          · refine Gx_iconst ⟨by decide, by decide⟩ dX0_isImage_56 ?_
            refine Gx_iand dX0_isImage_57 ?_
            first
            | rw [wAnd_b1 (by omega)]
            | rw [wAnd_b0 (by omega)]
            refine Gx_istore_n_2 dX0_isImage_58 (Nat.le_of_ble_eq_true rfl) (Nat.ne_of_beq_eq_false rfl) ?_
            refine Gx_iinc_3 dX0_isImage_59 (Nat.le_of_ble_eq_true rfl) (Nat.ne_of_beq_eq_false rfl) ?_
            rw [show w32 (1 + 1) = (2 : Int) from by decide]
            refine Gx_goto (tgt := 13) dX0_isImage_62 (by decide) ?_
            refine Gx_iload_n (i := 3) dX0_isImage_13 rfl rfl ?_
            refine Gx_iconst ⟨by decide, by decide⟩ dX0_isImage_14 ?_
            refine Gx_icmp_ge (tgt := 65) dX0_isImage_15 (by decide) (fun _ => ?_) (fun hz => absurd hz (by decide))
            refine Gx_iconst ⟨by decide, by decide⟩ dX0_isImage_65 ?_
            refine Gx_istore_n_3 dX0_isImage_66 (Nat.le_of_ble_eq_true rfl) (Nat.ne_of_beq_eq_false rfl) ?_
            refine lp_X0_isImage (P := pI0 (v 0 12) (v o)) hh hn.2 k1 k0 n.toNat 0 _ (by omega) (by omega) ?_
            first
            | exact Or.inl ⟨rfl, (by unfold pI0; omega), rfl⟩
            | exact Or.inr ⟨rfl, fun z => absurd z.1 (by unfold pI0; omega)⟩
          · refine Gx_iconst ⟨by decide, by decide⟩ dX0_isImage_52 ?_
            refine Gx_goto (tgt := 57) dX0_isImage_53 (by decide) ?_
            refine Gx_iand dX0_isImage_57 ?_
            first
            | rw [wAnd_b1 (by omega)]
            | rw [wAnd_b0 (by omega)]
            refine Gx_istore_n_2 dX0_isImage_58 (Nat.le_of_ble_eq_true rfl) (Nat.ne_of_beq_eq_false rfl) ?_
            refine Gx_iinc_3 dX0_isImage_59 (Nat.le_of_ble_eq_true rfl) (Nat.ne_of_beq_eq_false rfl) ?_
            rw [show w32 (1 + 1) = (2 : Int) from by decide]
            refine Gx_goto (tgt := 13) dX0_isImage_62 (by decide) ?_
            refine Gx_iload_n (i := 3) dX0_isImage_13 rfl rfl ?_
            refine Gx_iconst ⟨by decide, by decide⟩ dX0_isImage_14 ?_
            refine Gx_icmp_ge (tgt := 65) dX0_isImage_15 (by decide) (fun _ => ?_) (fun hz => absurd hz (by decide))
            refine Gx_iconst ⟨by decide, by decide⟩ dX0_isImage_65 ?_
            refine Gx_istore_n_3 dX0_isImage_66 (Nat.le_of_ble_eq_true rfl) (Nat.ne_of_beq_eq_false rfl) ?_
            refine lp_X0_isImage (P := pI0 (v 0 12) (v o)) hh hn.2 k1 k0 n.toNat 0 _ (by omega) (by omega) ?_
            first
            | exact Or.inl ⟨rfl, (by unfold pI0; omega), rfl⟩
            | exact Or.inr ⟨rfl, fun z => absurd z.1 (by unfold pI0; omega)⟩
    · refine Gx_if_eq (tgt := 42) dX0_isImage_24 (by decide) (fun _ => ?_) (fun hz => absurd hz (by decide))
      refine Gx_aload_n (i := 1) dX0_isImage_42 rfl rfl ?_
      refine Gx_iconst ⟨by decide, by decide⟩ dX0_isImage_43 ?_
      refine Gx_iload_n (i := 3) dX0_isImage_44 rfl rfl ?_
      refine Gx_iadd dX0_isImage_45 ?_
      try simp (disch := omega) only [w32_id]
      try rw [show (1 : Int) + 0 = 1 from rfl]
      try rw [show (1 : Int) + 1 = 2 from rfl]
      refine Gx_iaload dX0_isImage_46 hh (by first | omega | (simp (disch := omega) only [w32_id]; omega)) ?_
      refine Gx_bipush dX0_isImage_47 ⟨by decide, by decide⟩ ?_
      refine Gx_icmp_ne (tgt := 56) dX0_isImage_49 (by decide) (fun c49 => ?_) (fun c49 => ?_)
      · refine Gx_iconst ⟨by decide, by decide⟩ dX0_isImage_56 ?_
        refine Gx_iand dX0_isImage_57 ?_
        first
        | rw [wAnd_b1 (by omega)]
        | rw [wAnd_b0 (by omega)]
        refine Gx_istore_n_2 dX0_isImage_58 (Nat.le_of_ble_eq_true rfl) (Nat.ne_of_beq_eq_false rfl) ?_
        refine Gx_iinc_3 dX0_isImage_59 (Nat.le_of_ble_eq_true rfl) (Nat.ne_of_beq_eq_false rfl) ?_
        rw [show w32 (0 + 1) = (1 : Int) from by decide]
        refine Gx_goto (tgt := 13) dX0_isImage_62 (by decide) ?_
        refine Gx_iload_n (i := 3) dX0_isImage_13 rfl rfl ?_
        refine Gx_iconst ⟨by decide, by decide⟩ dX0_isImage_14 ?_
        refine Gx_icmp_ge (tgt := 65) dX0_isImage_15 (by decide) (fun hz => absurd hz (by decide)) (fun _ => ?_)
        refine Gx_iload_n (i := 2) dX0_isImage_18 rfl rfl ?_
        refine Gx_aload_n (i := 0) dX0_isImage_19 rfl rfl ?_
        refine Gx_iload_n (i := 3) dX0_isImage_20 rfl rfl ?_
        refine cl_X0_336 dX0_isImage_21 rfl rfl ⟨(Nat.le_of_ble_eq_true rfl), (Nat.le_of_ble_eq_true rfl)⟩ rfl ?_
        refine ct_X0_areEaters he (fun e2 => ?_) (fun e2 => ?_)
        · refine Gx_if_eq (tgt := 42) dX0_isImage_24 (by decide) (fun hz => absurd hz (by decide)) (fun _ => ?_)
          refine Gx_aload_n (i := 1) dX0_isImage_27 rfl rfl ?_
          refine Gx_iconst ⟨by decide, by decide⟩ dX0_isImage_28 ?_
          refine Gx_iload_n (i := 3) dX0_isImage_29 rfl rfl ?_
          refine Gx_iadd dX0_isImage_30 ?_
          try simp (disch := omega) only [w32_id]
          try rw [show (1 : Int) + 0 = 1 from rfl]
          try rw [show (1 : Int) + 1 = 2 from rfl]
          refine Gx_iaload dX0_isImage_31 hh (by first | omega | (simp (disch := omega) only [w32_id]; omega)) ?_
          refine Gx_iconst ⟨by decide, by decide⟩ dX0_isImage_32 ?_
          refine Gx_sipush dX0_isImage_33 ⟨by decide, by decide⟩ ?_
          refine cl_X0_129 dX0_isImage_36 rfl ⟨(Nat.le_of_ble_eq_true rfl), (Nat.le_of_ble_eq_true rfl)⟩ rfl ?_
          refine ct_X0_isIn (fun i1 => ?_) (fun i1 => ?_)
          · refine Gx_goto (tgt := 57) dX0_isImage_39 (by decide) ?_
            refine Gx_iand dX0_isImage_57 ?_
            first
            | rw [wAnd_b1 (by omega)]
            | rw [wAnd_b0 (by omega)]
            refine Gx_istore_n_2 dX0_isImage_58 (Nat.le_of_ble_eq_true rfl) (Nat.ne_of_beq_eq_false rfl) ?_
            refine Gx_iinc_3 dX0_isImage_59 (Nat.le_of_ble_eq_true rfl) (Nat.ne_of_beq_eq_false rfl) ?_
            rw [show w32 (1 + 1) = (2 : Int) from by decide]
            refine Gx_goto (tgt := 13) dX0_isImage_62 (by decide) ?_
            refine Gx_iload_n (i := 3) dX0_isImage_13 rfl rfl ?_
            refine Gx_iconst ⟨by decide, by decide⟩ dX0_isImage_14 ?_
            refine Gx_icmp_ge (tgt := 65) dX0_isImage_15 (by decide) (fun _ => ?_) (fun hz => absurd hz (by decide))
            refine Gx_iconst ⟨by decide, by decide⟩ dX0_isImage_65 ?_
            refine Gx_istore_n_3 dX0_isImage_66 (Nat.le_of_ble_eq_true rfl) (Nat.ne_of_beq_eq_false rfl) ?_
            refine lp_X0_isImage (P := pI0 (v 0 12) (v o)) hh hn.2 k1 k0 n.toNat 0 _ (by omega) (by omega) ?_
            first
            | exact Or.inl ⟨rfl, (by unfold pI0; omega), rfl⟩
            | exact Or.inr ⟨rfl, fun z => absurd z.1 (by unfold pI0; omega)⟩
          · refine Gx_goto (tgt := 57) dX0_isImage_39 (by decide) ?_
            refine Gx_iand dX0_isImage_57 ?_
            first
            | rw [wAnd_b1 (by omega)]
            | rw [wAnd_b0 (by omega)]
            refine Gx_istore_n_2 dX0_isImage_58 (Nat.le_of_ble_eq_true rfl) (Nat.ne_of_beq_eq_false rfl) ?_
            refine Gx_iinc_3 dX0_isImage_59 (Nat.le_of_ble_eq_true rfl) (Nat.ne_of_beq_eq_false rfl) ?_
            rw [show w32 (1 + 1) = (2 : Int) from by decide]
            refine Gx_goto (tgt := 13) dX0_isImage_62 (by decide) ?_
            refine Gx_iload_n (i := 3) dX0_isImage_13 rfl rfl ?_
            refine Gx_iconst ⟨by decide, by decide⟩ dX0_isImage_14 ?_
            refine Gx_icmp_ge (tgt := 65) dX0_isImage_15 (by decide) (fun _ => ?_) (fun hz => absurd hz (by decide))
            refine Gx_iconst ⟨by decide, by decide⟩ dX0_isImage_65 ?_
            refine Gx_istore_n_3 dX0_isImage_66 (Nat.le_of_ble_eq_true rfl) (Nat.ne_of_beq_eq_false rfl) ?_
            refine lp_X0_isImage (P := pI0 (v 0 12) (v o)) hh hn.2 k1 k0 n.toNat 0 _ (by omega) (by omega) ?_
            first
            | exact Or.inl ⟨rfl, (by unfold pI0; omega), rfl⟩
            | exact Or.inr ⟨rfl, fun z => absurd z.1 (by unfold pI0; omega)⟩
        · refine Gx_if_eq (tgt := 42) dX0_isImage_24 (by decide) (fun _ => ?_) (fun hz => absurd hz (by decide))
          refine Gx_aload_n (i := 1) dX0_isImage_42 rfl rfl ?_
          refine Gx_iconst ⟨by decide, by decide⟩ dX0_isImage_43 ?_
          refine Gx_iload_n (i := 3) dX0_isImage_44 rfl rfl ?_
          refine Gx_iadd dX0_isImage_45 ?_
          try simp (disch := omega) only [w32_id]
          try rw [show (1 : Int) + 0 = 1 from rfl]
          try rw [show (1 : Int) + 1 = 2 from rfl]
          refine Gx_iaload dX0_isImage_46 hh (by first | omega | (simp (disch := omega) only [w32_id]; omega)) ?_
          refine Gx_bipush dX0_isImage_47 ⟨by decide, by decide⟩ ?_
          refine Gx_icmp_ne (tgt := 56) dX0_isImage_49 (by decide) (fun c49 => ?_) (fun c49 => ?_)
          · refine Gx_iconst ⟨by decide, by decide⟩ dX0_isImage_56 ?_
            refine Gx_iand dX0_isImage_57 ?_
            first
            | rw [wAnd_b1 (by omega)]
            | rw [wAnd_b0 (by omega)]
            refine Gx_istore_n_2 dX0_isImage_58 (Nat.le_of_ble_eq_true rfl) (Nat.ne_of_beq_eq_false rfl) ?_
            refine Gx_iinc_3 dX0_isImage_59 (Nat.le_of_ble_eq_true rfl) (Nat.ne_of_beq_eq_false rfl) ?_
            rw [show w32 (1 + 1) = (2 : Int) from by decide]
            refine Gx_goto (tgt := 13) dX0_isImage_62 (by decide) ?_
            refine Gx_iload_n (i := 3) dX0_isImage_13 rfl rfl ?_
            refine Gx_iconst ⟨by decide, by decide⟩ dX0_isImage_14 ?_
            refine Gx_icmp_ge (tgt := 65) dX0_isImage_15 (by decide) (fun _ => ?_) (fun hz => absurd hz (by decide))
            refine Gx_iconst ⟨by decide, by decide⟩ dX0_isImage_65 ?_
            refine Gx_istore_n_3 dX0_isImage_66 (Nat.le_of_ble_eq_true rfl) (Nat.ne_of_beq_eq_false rfl) ?_
            refine lp_X0_isImage (P := pI0 (v 0 12) (v o)) hh hn.2 k1 k0 n.toNat 0 _ (by omega) (by omega) ?_
            first
            | exact Or.inl ⟨rfl, (by unfold pI0; omega), rfl⟩
            | exact Or.inr ⟨rfl, fun z => absurd z.1 (by unfold pI0; omega)⟩
          · refine Gx_iconst ⟨by decide, by decide⟩ dX0_isImage_52 ?_
            refine Gx_goto (tgt := 57) dX0_isImage_53 (by decide) ?_
            refine Gx_iand dX0_isImage_57 ?_
            first
            | rw [wAnd_b1 (by omega)]
            | rw [wAnd_b0 (by omega)]
            refine Gx_istore_n_2 dX0_isImage_58 (Nat.le_of_ble_eq_true rfl) (Nat.ne_of_beq_eq_false rfl) ?_
            refine Gx_iinc_3 dX0_isImage_59 (Nat.le_of_ble_eq_true rfl) (Nat.ne_of_beq_eq_false rfl) ?_
            rw [show w32 (1 + 1) = (2 : Int) from by decide]
            refine Gx_goto (tgt := 13) dX0_isImage_62 (by decide) ?_
            refine Gx_iload_n (i := 3) dX0_isImage_13 rfl rfl ?_
            refine Gx_iconst ⟨by decide, by decide⟩ dX0_isImage_14 ?_
            refine Gx_icmp_ge (tgt := 65) dX0_isImage_15 (by decide) (fun _ => ?_) (fun hz => absurd hz (by decide))
            refine Gx_iconst ⟨by decide, by decide⟩ dX0_isImage_65 ?_
            refine Gx_istore_n_3 dX0_isImage_66 (Nat.le_of_ble_eq_true rfl) (Nat.ne_of_beq_eq_false rfl) ?_
            refine lp_X0_isImage (P := pI0 (v 0 12) (v o)) hh hn.2 k1 k0 n.toNat 0 _ (by omega) (by omega) ?_
            first
            | exact Or.inl ⟨rfl, (by unfold pI0; omega), rfl⟩
            | exact Or.inr ⟨rfl, fun z => absurd z.1 (by unfold pI0; omega)⟩
      · refine Gx_iconst ⟨by decide, by decide⟩ dX0_isImage_52 ?_
        refine Gx_goto (tgt := 57) dX0_isImage_53 (by decide) ?_
        refine Gx_iand dX0_isImage_57 ?_
        first
        | rw [wAnd_b1 (by omega)]
        | rw [wAnd_b0 (by omega)]
        refine Gx_istore_n_2 dX0_isImage_58 (Nat.le_of_ble_eq_true rfl) (Nat.ne_of_beq_eq_false rfl) ?_
        refine Gx_iinc_3 dX0_isImage_59 (Nat.le_of_ble_eq_true rfl) (Nat.ne_of_beq_eq_false rfl) ?_
        rw [show w32 (0 + 1) = (1 : Int) from by decide]
        refine Gx_goto (tgt := 13) dX0_isImage_62 (by decide) ?_
        refine Gx_iload_n (i := 3) dX0_isImage_13 rfl rfl ?_
        refine Gx_iconst ⟨by decide, by decide⟩ dX0_isImage_14 ?_
        refine Gx_icmp_ge (tgt := 65) dX0_isImage_15 (by decide) (fun hz => absurd hz (by decide)) (fun _ => ?_)
        refine Gx_iload_n (i := 2) dX0_isImage_18 rfl rfl ?_
        refine Gx_aload_n (i := 0) dX0_isImage_19 rfl rfl ?_
        refine Gx_iload_n (i := 3) dX0_isImage_20 rfl rfl ?_
        refine cl_X0_336 dX0_isImage_21 rfl rfl ⟨(Nat.le_of_ble_eq_true rfl), (Nat.le_of_ble_eq_true rfl)⟩ rfl ?_
        refine ct_X0_areEaters he (fun e2 => ?_) (fun e2 => ?_)
        · refine Gx_if_eq (tgt := 42) dX0_isImage_24 (by decide) (fun hz => absurd hz (by decide)) (fun _ => ?_)
          refine Gx_aload_n (i := 1) dX0_isImage_27 rfl rfl ?_
          refine Gx_iconst ⟨by decide, by decide⟩ dX0_isImage_28 ?_
          refine Gx_iload_n (i := 3) dX0_isImage_29 rfl rfl ?_
          refine Gx_iadd dX0_isImage_30 ?_
          try simp (disch := omega) only [w32_id]
          try rw [show (1 : Int) + 0 = 1 from rfl]
          try rw [show (1 : Int) + 1 = 2 from rfl]
          refine Gx_iaload dX0_isImage_31 hh (by first | omega | (simp (disch := omega) only [w32_id]; omega)) ?_
          refine Gx_iconst ⟨by decide, by decide⟩ dX0_isImage_32 ?_
          refine Gx_sipush dX0_isImage_33 ⟨by decide, by decide⟩ ?_
          refine cl_X0_129 dX0_isImage_36 rfl ⟨(Nat.le_of_ble_eq_true rfl), (Nat.le_of_ble_eq_true rfl)⟩ rfl ?_
          refine ct_X0_isIn (fun i1 => ?_) (fun i1 => ?_)
          · refine Gx_goto (tgt := 57) dX0_isImage_39 (by decide) ?_
            refine Gx_iand dX0_isImage_57 ?_
            first
            | rw [wAnd_b1 (by omega)]
            | rw [wAnd_b0 (by omega)]
            refine Gx_istore_n_2 dX0_isImage_58 (Nat.le_of_ble_eq_true rfl) (Nat.ne_of_beq_eq_false rfl) ?_
            refine Gx_iinc_3 dX0_isImage_59 (Nat.le_of_ble_eq_true rfl) (Nat.ne_of_beq_eq_false rfl) ?_
            rw [show w32 (1 + 1) = (2 : Int) from by decide]
            refine Gx_goto (tgt := 13) dX0_isImage_62 (by decide) ?_
            refine Gx_iload_n (i := 3) dX0_isImage_13 rfl rfl ?_
            refine Gx_iconst ⟨by decide, by decide⟩ dX0_isImage_14 ?_
            refine Gx_icmp_ge (tgt := 65) dX0_isImage_15 (by decide) (fun _ => ?_) (fun hz => absurd hz (by decide))
            refine Gx_iconst ⟨by decide, by decide⟩ dX0_isImage_65 ?_
            refine Gx_istore_n_3 dX0_isImage_66 (Nat.le_of_ble_eq_true rfl) (Nat.ne_of_beq_eq_false rfl) ?_
            refine lp_X0_isImage (P := pI0 (v 0 12) (v o)) hh hn.2 k1 k0 n.toNat 0 _ (by omega) (by omega) ?_
            first
            | exact Or.inl ⟨rfl, (by unfold pI0; omega), rfl⟩
            | exact Or.inr ⟨rfl, fun z => absurd z.1 (by unfold pI0; omega)⟩
          · refine Gx_goto (tgt := 57) dX0_isImage_39 (by decide) ?_
            refine Gx_iand dX0_isImage_57 ?_
            first
            | rw [wAnd_b1 (by omega)]
            | rw [wAnd_b0 (by omega)]
            refine Gx_istore_n_2 dX0_isImage_58 (Nat.le_of_ble_eq_true rfl) (Nat.ne_of_beq_eq_false rfl) ?_
            refine Gx_iinc_3 dX0_isImage_59 (Nat.le_of_ble_eq_true rfl) (Nat.ne_of_beq_eq_false rfl) ?_
            rw [show w32 (1 + 1) = (2 : Int) from by decide]
            refine Gx_goto (tgt := 13) dX0_isImage_62 (by decide) ?_
            refine Gx_iload_n (i := 3) dX0_isImage_13 rfl rfl ?_
            refine Gx_iconst ⟨by decide, by decide⟩ dX0_isImage_14 ?_
            refine Gx_icmp_ge (tgt := 65) dX0_isImage_15 (by decide) (fun _ => ?_) (fun hz => absurd hz (by decide))
            refine Gx_iconst ⟨by decide, by decide⟩ dX0_isImage_65 ?_
            refine Gx_istore_n_3 dX0_isImage_66 (Nat.le_of_ble_eq_true rfl) (Nat.ne_of_beq_eq_false rfl) ?_
            refine lp_X0_isImage (P := pI0 (v 0 12) (v o)) hh hn.2 k1 k0 n.toNat 0 _ (by omega) (by omega) ?_
            first
            | exact Or.inl ⟨rfl, (by unfold pI0; omega), rfl⟩
            | exact Or.inr ⟨rfl, fun z => absurd z.1 (by unfold pI0; omega)⟩
        · refine Gx_if_eq (tgt := 42) dX0_isImage_24 (by decide) (fun _ => ?_) (fun hz => absurd hz (by decide))
          refine Gx_aload_n (i := 1) dX0_isImage_42 rfl rfl ?_
          refine Gx_iconst ⟨by decide, by decide⟩ dX0_isImage_43 ?_
          refine Gx_iload_n (i := 3) dX0_isImage_44 rfl rfl ?_
          refine Gx_iadd dX0_isImage_45 ?_
          try simp (disch := omega) only [w32_id]
          try rw [show (1 : Int) + 0 = 1 from rfl]
          try rw [show (1 : Int) + 1 = 2 from rfl]
          refine Gx_iaload dX0_isImage_46 hh (by first | omega | (simp (disch := omega) only [w32_id]; omega)) ?_
          refine Gx_bipush dX0_isImage_47 ⟨by decide, by decide⟩ ?_
          refine Gx_icmp_ne (tgt := 56) dX0_isImage_49 (by decide) (fun c49 => ?_) (fun c49 => ?_)
          · refine Gx_iconst ⟨by decide, by decide⟩ dX0_isImage_56 ?_
            refine Gx_iand dX0_isImage_57 ?_
            first
            | rw [wAnd_b1 (by omega)]
            | rw [wAnd_b0 (by omega)]
            refine Gx_istore_n_2 dX0_isImage_58 (Nat.le_of_ble_eq_true rfl) (Nat.ne_of_beq_eq_false rfl) ?_
            refine Gx_iinc_3 dX0_isImage_59 (Nat.le_of_ble_eq_true rfl) (Nat.ne_of_beq_eq_false rfl) ?_
            rw [show w32 (1 + 1) = (2 : Int) from by decide]
            refine Gx_goto (tgt := 13) dX0_isImage_62 (by decide) ?_
            refine Gx_iload_n (i := 3) dX0_isImage_13 rfl rfl ?_
            refine Gx_iconst ⟨by decide, by decide⟩ dX0_isImage_14 ?_
            refine Gx_icmp_ge (tgt := 65) dX0_isImage_15 (by decide) (fun _ => ?_) (fun hz => absurd hz (by decide))
            refine Gx_iconst ⟨by decide, by decide⟩ dX0_isImage_65 ?_
            refine Gx_istore_n_3 dX0_isImage_66 (Nat.le_of_ble_eq_true rfl) (Nat.ne_of_beq_eq_false rfl) ?_
            refine lp_X0_isImage (P := pI0 (v 0 12) (v o)) hh hn.2 k1 k0 n.toNat 0 _ (by omega) (by omega) ?_
            first
            | exact Or.inl ⟨rfl, (by unfold pI0; omega), rfl⟩
            | exact Or.inr ⟨rfl, fun z => absurd z.1 (by unfold pI0; omega)⟩
          · refine Gx_iconst ⟨by decide, by decide⟩ dX0_isImage_52 ?_
            refine Gx_goto (tgt := 57) dX0_isImage_53 (by decide) ?_
            refine Gx_iand dX0_isImage_57 ?_
            first
            | rw [wAnd_b1 (by omega)]
            | rw [wAnd_b0 (by omega)]
            refine Gx_istore_n_2 dX0_isImage_58 (Nat.le_of_ble_eq_true rfl) (Nat.ne_of_beq_eq_false rfl) ?_
            refine Gx_iinc_3 dX0_isImage_59 (Nat.le_of_ble_eq_true rfl) (Nat.ne_of_beq_eq_false rfl) ?_
            rw [show w32 (1 + 1) = (2 : Int) from by decide]
            refine Gx_goto (tgt := 13) dX0_isImage_62 (by decide) ?_
            refine Gx_iload_n (i := 3) dX0_isImage_13 rfl rfl ?_
            refine Gx_iconst ⟨by decide, by decide⟩ dX0_isImage_14 ?_
            refine Gx_icmp_ge (tgt := 65) dX0_isImage_15 (by decide) (fun _ => ?_) (fun hz => absurd hz (by decide))
            refine Gx_iconst ⟨by decide, by decide⟩ dX0_isImage_65 ?_
            refine Gx_istore_n_3 dX0_isImage_66 (Nat.le_of_ble_eq_true rfl) (Nat.ne_of_beq_eq_false rfl) ?_
            refine lp_X0_isImage (P := pI0 (v 0 12) (v o)) hh hn.2 k1 k0 n.toNat 0 _ (by omega) (by omega) ?_
            first
            | exact Or.inl ⟨rfl, (by unfold pI0; omega), rfl⟩
            | exact Or.inr ⟨rfl, fun z => absurd z.1 (by unfold pI0; omega)⟩
/-- what an image of A's says -/
def aImg (v : gM) (i : Int) : Int := if i < 3 then aNow v 0 i else aTold v ((i - 3) / 3) (1 + i % 3)
def oIm (v v1 : gM) (c n : Int) : Prop := (∀ i, 0 ≤ i → i < n → v1 c i = aImg v i) ∧ ∀ a k, a ≠ c → v1 a k = v a k
theorem aImg_3 {v : gM} {i : Int} (h : 0 ≤ i) : aImg v (3 + 3 * i) = v 18 i ∧ aImg v (4 + 3 * i) = v (v 16 i) 1 ∧ aImg v (5 + 3 * i) = v (v 16 i) 2 := by
  refine ⟨?_, ?_, ?_⟩
  · show (if 3 + 3 * i < 3 then _ else aTold v ((3 + 3 * i - 3) / 3) (1 + (3 + 3 * i) % 3)) = _
    rw [if_neg (by omega), show (3 + 3 * i - 3) / 3 = i by omega, show 1 + (3 + 3 * i) % 3 = 1 by omega]
    rfl
  · show (if 4 + 3 * i < 3 then _ else aTold v ((4 + 3 * i - 3) / 3) (1 + (4 + 3 * i) % 3)) = _
    rw [if_neg (by omega), show (4 + 3 * i - 3) / 3 = i by omega, show 1 + (4 + 3 * i) % 3 = 2 by omega]
    rfl
  · show (if 5 + 3 * i < 3 then _ else aTold v ((5 + 3 * i - 3) / 3) (1 + (5 + 3 * i) % 3)) = _
    rw [if_neg (by omega), show (5 + 3 * i - 3) / 3 = i by omega, show 1 + (5 + 3 * i) % 3 = 3 by omega]
    rfl

set_option maxHeartbeats 1000000 in
theorem lp_X0_image {r c n : Int} {bc bs : Nat} {v0 : gM} (hW : aWf v0 (gHd K)) (hc : 66 ≤ c) (hcc : gHd K c = (10, 3 + 3 * n)) (hn : v0 0 32 = n) (hn24 : n ≤ 24) (cont : ∀ v1, oIm v0 v1 c (3 + 3 * n) → Gx Γ mX0_image 110 [(2, 0), (0, r), (2, c), (0, n)] [] v1 (gHd K) t bc bs Q) : ∀ (j : Nat) (i : Int) (v : gM), 0 ≤ i → i + j = n → oIm v0 v c (3 + 3 * i) → Gx Γ mX0_image 48 [(2, 0), (0, r), (2, c), (0, i)] [] v (gHd K) t bc bs Q := by
  intro j
  induction j with
  | zero =>
    intro i v h0 h1 hI
    have hF := hI.2
    have e32 : v 0 32 = n := by rw [hF 0 32 (by omega)]; exact hn
    refine Gx_iload_n (i := 3) dX0_image_48 rfl rfl ?_
    refine Gx_aload_n (i := 0) dX0_image_49 rfl rfl ?_
    refine gf_X0_276_20 dX0_image_50 rfl rfl ?_
    refine Gx_icmp_ge (tgt := 110) dX0_image_53 (by decide) (fun c53 => ?_) (fun c53 => ?_)
    · have e0 : i = n := by omega
      subst e0
      exact cont v hI
    · exfalso
      omega
  | succ j ih =>
    intro i v h0 h1 hI
    have hF := hI.2
    have e32 : v 0 32 = n := by rw [hF 0 32 (by omega)]; exact hn
    obtain ⟨ti, tk⟩ := hW.2.2.2.1 i h0 (by omega)
    have tne : v0 16 i ≠ c := fun z => by rw [z, hcc] at tk; exact absurd tk (by show ¬ (10 : Nat) = 8; decide)
    have e16 : v 16 i = v0 16 i := hF 16 i (by omega)
    have eh : gHd K (v 16 i) = (8, (gHd K (v0 16 i)).2) := by rw [e16]; exact pairEq tk
    have q1 : v 18 i = v0 18 i := hF 18 i (by omega)
    have q2 : v (v 16 i) 1 = v0 (v0 16 i) 1 := by rw [e16]; exact hF _ _ tne
    have q3 : v (v 16 i) 2 = v0 (v0 16 i) 2 := by rw [e16]; exact hF _ _ tne
    obtain ⟨b1, b2, b3⟩ := aImg_3 (v := v0) h0
    refine Gx_iload_n (i := 3) dX0_image_48 rfl rfl ?_
    refine Gx_aload_n (i := 0) dX0_image_49 rfl rfl ?_
    refine gf_X0_276_20 dX0_image_50 rfl rfl ?_
    refine Gx_icmp_ge (tgt := 110) dX0_image_53 (by decide) (fun c53 => ?_) (fun c53 => ?_)
    · exfalso
      omega
    · refine Gx_aload_n (i := 2) dX0_image_56 rfl rfl ?_
      refine Gx_iconst ⟨by decide, by decide⟩ dX0_image_57 ?_
      refine Gx_iconst ⟨by decide, by decide⟩ dX0_image_58 ?_
      refine Gx_iload_n (i := 3) dX0_image_59 rfl rfl ?_
      refine Gx_imul dX0_image_60 ?_
      try simp (disch := omega) only [w32_id]
      refine Gx_iadd dX0_image_61 ?_
      try simp (disch := omega) only [w32_id]
      refine Gx_aload_n (i := 0) dX0_image_62 rfl rfl ?_
      refine gf_X0_86_20 dX0_image_63 rfl rfl ?_
      refine gf_X0_288_21 dX0_image_66 rfl rfl ?_
      refine Gx_iload_n (i := 3) dX0_image_69 rfl rfl ?_
      rw [show (17 : Int) + 1 = 18 from rfl]
      refine Gx_iaload dX0_image_70 rfl (by first | omega | (simp (disch := omega) only [w32_id]; omega)) ?_
      rw [q1]
      refine Gx_iastore dX0_image_71 hcc (by first | omega | (simp (disch := omega) only [w32_id]; omega)) ?_
      refine Gx_aload_n (i := 2) dX0_image_72 rfl rfl ?_
      refine Gx_iconst ⟨by decide, by decide⟩ dX0_image_73 ?_
      refine Gx_iconst ⟨by decide, by decide⟩ dX0_image_74 ?_
      refine Gx_iload_n (i := 3) dX0_image_75 rfl rfl ?_
      refine Gx_imul dX0_image_76 ?_
      try simp (disch := omega) only [w32_id]
      refine Gx_iadd dX0_image_77 ?_
      try simp (disch := omega) only [w32_id]
      refine Gx_aload_n (i := 0) dX0_image_78 rfl rfl ?_
      refine gf_X0_79_20 dX0_image_79 rfl rfl ?_
      refine Gx_iload_n (i := 3) dX0_image_82 rfl rfl ?_
      refine Gx_aaload18 dX0_image_83 rfl (by first | omega | (simp (disch := omega) only [w32_id]; omega)) ?_
      refine gf_X0_324_8 dX0_image_84 rfl (by simp (disch := omega) only [gUp_ne2]; exact eh) ?_
      simp (disch := omega) only [gUp_ne2]
      rw [q2]
      refine Gx_iastore dX0_image_87 hcc (by first | omega | (simp (disch := omega) only [w32_id]; omega)) ?_
      refine Gx_aload_n (i := 2) dX0_image_88 rfl rfl ?_
      refine Gx_iconst ⟨by decide, by decide⟩ dX0_image_89 ?_
      refine Gx_iconst ⟨by decide, by decide⟩ dX0_image_90 ?_
      refine Gx_iload_n (i := 3) dX0_image_91 rfl rfl ?_
      refine Gx_imul dX0_image_92 ?_
      try simp (disch := omega) only [w32_id]
      refine Gx_iadd dX0_image_93 ?_
      try simp (disch := omega) only [w32_id]
      refine Gx_aload_n (i := 0) dX0_image_94 rfl rfl ?_
      refine gf_X0_79_20 dX0_image_95 rfl rfl ?_
      refine Gx_iload_n (i := 3) dX0_image_98 rfl rfl ?_
      refine Gx_aaload18 dX0_image_99 rfl (by first | omega | (simp (disch := omega) only [w32_id]; omega)) ?_
      refine gf_X0_327_8 dX0_image_100 rfl (by simp (disch := omega) only [gUp_ne2]; exact eh) ?_
      simp (disch := omega) only [gUp_ne2]
      rw [q3]
      refine Gx_iastore dX0_image_103 hcc (by first | omega | (simp (disch := omega) only [w32_id]; omega)) ?_
      refine Gx_iinc_3 dX0_image_104 (Nat.le_of_ble_eq_true rfl) (Nat.ne_of_beq_eq_false rfl) ?_
      try simp (disch := omega) only [w32_id]
      refine Gx_goto (tgt := 48) dX0_image_107 (by decide) ?_
      refine Gx_name (fun vN eN => ?_)
      refine ih (i + 1) vN (by omega) (by omega) ⟨fun z z0 z1 => ?_, fun a k hk => ?_⟩
      · rw [eN]
        by_cases g5 : z = 5 + 3 * i
        · subst g5
          rw [gUp_eq2 rfl rfl]
          exact b3.symm
        · rw [gUp_ne2 (by omega)]
          by_cases g4 : z = 4 + 3 * i
          · subst g4
            rw [gUp_eq2 rfl rfl]
            exact b2.symm
          · rw [gUp_ne2 (by omega)]
            by_cases g3 : z = 3 + 3 * i
            · subst g3
              rw [gUp_eq2 rfl rfl]
              exact b1.symm
            · rw [gUp_ne2 (by omega)]
              exact hI.1 z z0 (by omega)
      · rw [eN, gUp_ne2 (by omega), gUp_ne2 (by omega), gUp_ne2 (by omega)]
        exact hF a k hk
/-- a new cell behind all changes nothing of what is well -/
theorem aWf_hd {v : gM} {K : gH} {t : Nat} {n : Nat × Int} (hT : gTop (gHd K) t) (hW : aWf v (gHd K)) : aWf v (gHd (gUpH K t n)) := by
  obtain ⟨⟨w7, a1, a2, a3⟩, wS, ⟨w8, b1⟩, wT, wD⟩ := hW
  have ne : ∀ a, (gHd K a).1 ≠ 99 → gHd (gUpH K t n) a = gHd K a := fun a ha => gHd_ne (by have := (gHd_lt hT ha).2; omega)
  have e7 := ne (v 0 7) (by omega)
  have e8 := ne (v 0 8) (by omega)
  unfold aWf
  rw [e7, e8]
  refine ⟨⟨w7, a1, a2, a3⟩, fun s s0 s1 => ?_, ⟨w8, b1⟩, fun i i0 i1 => ?_, wD⟩
  · obtain ⟨g1, g2, g3, g4⟩ := wS s s0 s1
    rw [ne _ (by omega), ne (v (v (v 0 7) s) 0) (by rw [g4]; decide)]
    exact ⟨g1, g2, g3, g4⟩
  · obtain ⟨g1, g2⟩ := wT i i0 i1
    rw [ne _ (by omega)]
    exact ⟨g1, g2⟩

set_option maxHeartbeats 2000000 in
theorem ct_X0_image {r : Int} (hW : aWf v (gHd K)) (hn : 0 ≤ v 0 32 ∧ v 0 32 ≤ 24) (he : 0 ≤ v 0 12 ∧ v 0 12 ≤ 2) (kB : ¬ (0 ≤ r ∧ r ≤ 5) → Q (0, -1) v (gHd K) t) (kO : 0 ≤ r ∧ r ≤ 5 → ∀ v1, oIm v v1 t (3 + 3 * v 0 32) → Q (0, 3 + 3 * v 0 32) (gUp v1 2 r t) (gHd (gUpH K t (10, 3 + 3 * v 0 32))) (t + 1)) : Ctr Γ mX0_image [(2, 0), (0, r)] v (gHd K) t Q := by
  refine Ctr.ofG (ls := [(2, 0), (0, r), (9, 0), (9, 0)]) rfl rfl rfl rfl rfl ?_
  refine Gx_top (fun hT => ?_)
  have h66 := gHd_66 hT
  refine Gx_iload_n (i := 1) dX0_image_0 rfl rfl ?_
  refine cl_X0_133 dX0_image_1 rfl ⟨(Nat.le_of_ble_eq_true rfl), (Nat.le_of_ble_eq_true rfl)⟩ rfl ?_
  refine ct_X0_isRow (fun hr => ?_) (fun hr => ?_)
  · refine Gx_if_ne (tgt := 9) dX0_image_4 (by decide) (fun _ => ?_) (fun hz => absurd hz (by decide))
    refine Gx_iconst ⟨by decide, by decide⟩ dX0_image_9 ?_
    refine Gx_iconst ⟨by decide, by decide⟩ dX0_image_10 ?_
    refine Gx_aload_n (i := 0) dX0_image_11 rfl rfl ?_
    refine gf_X0_276_20 dX0_image_12 rfl rfl ?_
    refine Gx_imul dX0_image_15 ?_
    try simp (disch := omega) only [w32_id]
    refine Gx_iadd dX0_image_16 ?_
    try simp (disch := omega) only [w32_id]
    refine Gx_newarr (k := 10) (bc' := 0) (bs' := 0) dX0_image_17 ⟨by decide, by decide⟩ rfl q182 (by first | omega | (simp (disch := omega) only [w32_id]; omega)) (by decide) (by omega) ?_
    rw [gHd_up (by omega)]
    refine Gx_astore_n_2 dX0_image_19 (Nat.le_of_ble_eq_true rfl) (Nat.ne_of_beq_eq_false rfl) ?_
    refine Gx_aload_n (i := 2) dX0_image_20 rfl rfl ?_
    refine Gx_iconst ⟨by decide, by decide⟩ dX0_image_21 ?_
    refine Gx_aload_n (i := 0) dX0_image_22 rfl rfl ?_
    refine gf_X0_86_20 dX0_image_23 rfl rfl ?_
    refine gf_X0_279_21 dX0_image_26 rfl rfl ?_
    simp (disch := omega) only [gUp_ne2, gUp_eq2, gNf_ne]
    refine Gx_iastore dX0_image_29 (gHd_at (by omega)) (by first | omega | (simp (disch := omega) only [w32_id]; omega)) ?_
    refine Gx_aload_n (i := 2) dX0_image_30 rfl rfl ?_
    refine Gx_iconst ⟨by decide, by decide⟩ dX0_image_31 ?_
    refine Gx_aload_n (i := 0) dX0_image_32 rfl rfl ?_
    refine Gx_iconst ⟨by decide, by decide⟩ dX0_image_33 ?_
    have heN : True := trivial
    refine cl_X0_339 dX0_image_34 rfl rfl ⟨(Nat.le_of_ble_eq_true rfl), (Nat.le_of_ble_eq_true rfl)⟩ rfl ?_
    refine ct_X0_miceOf (by simp (disch := omega) only [gUp_ne2, gUp_eq2, gNf_ne]; exact he) (fun h34 => ?_) (fun h34 => ?_)
    · try simp (disch := omega) only [gUp_ne2, gUp_eq2, gNf_ne] at h34 ⊢
      try simp (disch := omega) only [gUp_ne2, gUp_eq2, gNf_ne]
      refine Gx_iastore dX0_image_37 (gHd_at (by omega)) (by first | omega | (simp (disch := omega) only [w32_id]; omega)) ?_
      refine Gx_aload_n (i := 2) dX0_image_38 rfl rfl ?_
      refine Gx_iconst ⟨by decide, by decide⟩ dX0_image_39 ?_
      refine Gx_aload_n (i := 0) dX0_image_40 rfl rfl ?_
      refine Gx_iconst ⟨by decide, by decide⟩ dX0_image_41 ?_
      refine cl_X0_339 dX0_image_42 rfl rfl ⟨(Nat.le_of_ble_eq_true rfl), (Nat.le_of_ble_eq_true rfl)⟩ rfl ?_
      refine ct_X0_miceOf (by simp (disch := omega) only [gUp_ne2, gUp_eq2, gNf_ne]; exact he) (fun h42 => ?_) (fun h42 => ?_)
      · try simp (disch := omega) only [gUp_ne2, gUp_eq2, gNf_ne] at h42 ⊢
        try simp (disch := omega) only [gUp_ne2, gUp_eq2, gNf_ne]
        refine Gx_iastore dX0_image_45 (gHd_at (by omega)) (by first | omega | (simp (disch := omega) only [w32_id]; omega)) ?_
        refine Gx_iconst ⟨by decide, by decide⟩ dX0_image_46 ?_
        refine Gx_istore_n_3 dX0_image_47 (Nat.le_of_ble_eq_true rfl) (Nat.ne_of_beq_eq_false rfl) ?_
        refine Gx_name (fun vN eN => ?_)
        have hW2 : aWf v (gHd (gUpH K t (10, 3 + 3 * v 0 32))) := aWf_hd hT hW
        have hI : oIm v vN t (3 + 3 * 0) := ⟨fun z z0 z1 => by
            rw [eN]
            rcases (by omega : z = 0 ∨ z = 1 ∨ z = 2) with g | g | g
            · subst g
              rw [gUp_ne2 (by omega), gUp_ne2 (by omega), gUp_eq2 rfl rfl]
              rfl
            · subst g
              rw [gUp_ne2 (by omega), gUp_eq2 rfl rfl]
              first
              | (show _ = if (1 : Int) - 1 < v 0 12 then v 19 (1 - 1) else -9
                 rw [if_pos (by omega)]
                 rfl)
              | (show _ = if (1 : Int) - 1 < v 0 12 then v 19 (1 - 1) else -9
                 rw [if_neg (by omega)])
            · subst g
              rw [gUp_eq2 rfl rfl]
              first
              | (show _ = if (2 : Int) - 1 < v 0 12 then v 19 (2 - 1) else -9
                 rw [if_pos (by omega)]
                 rfl)
              | (show _ = if (2 : Int) - 1 < v 0 12 then v 19 (2 - 1) else -9
                 rw [if_neg (by omega)]), fun a k hk => by
            rw [eN, gUp_ne2 (by omega), gUp_ne2 (by omega), gUp_ne2 (by omega), gNf_ne hk]⟩
        refine lp_X0_image (c := t) hW2 (by omega) (gHd_at (by omega)) rfl hn.2 (fun v1 h1 => ?_) (v 0 32).toNat 0 vN (by omega) (by omega) hI
        refine Gx_aload_n (i := 0) dX0_image_110 rfl rfl ?_
        refine gf_X0_28_20 dX0_image_111 rfl rfl ?_
        refine Gx_iload_n (i := 1) dX0_image_114 rfl rfl ?_
        refine Gx_aload_n (i := 2) dX0_image_115 rfl rfl ?_
        refine Gx_aast15 dX0_image_116 q138 rfl (by omega) (gHd_at (by omega)) ?_
        refine Gx_aload_n (i := 2) dX0_image_117 rfl rfl ?_
        refine Gx_alen dX0_image_118 (gHd_at (by omega)) (by decide) (by decide) ?_
        refine Gx_ireturn dX0_image_119 trivial ?_
        exact kO hr v1 h1
      · try simp (disch := omega) only [gUp_ne2, gUp_eq2, gNf_ne] at h42 ⊢
        try simp (disch := omega) only [gUp_ne2, gUp_eq2, gNf_ne]
        refine Gx_iastore dX0_image_45 (gHd_at (by omega)) (by first | omega | (simp (disch := omega) only [w32_id]; omega)) ?_
        refine Gx_iconst ⟨by decide, by decide⟩ dX0_image_46 ?_
        refine Gx_istore_n_3 dX0_image_47 (Nat.le_of_ble_eq_true rfl) (Nat.ne_of_beq_eq_false rfl) ?_
        refine Gx_name (fun vN eN => ?_)
        have hW2 : aWf v (gHd (gUpH K t (10, 3 + 3 * v 0 32))) := aWf_hd hT hW
        have hI : oIm v vN t (3 + 3 * 0) := ⟨fun z z0 z1 => by
            rw [eN]
            rcases (by omega : z = 0 ∨ z = 1 ∨ z = 2) with g | g | g
            · subst g
              rw [gUp_ne2 (by omega), gUp_ne2 (by omega), gUp_eq2 rfl rfl]
              rfl
            · subst g
              rw [gUp_ne2 (by omega), gUp_eq2 rfl rfl]
              first
              | (show _ = if (1 : Int) - 1 < v 0 12 then v 19 (1 - 1) else -9
                 rw [if_pos (by omega)]
                 rfl)
              | (show _ = if (1 : Int) - 1 < v 0 12 then v 19 (1 - 1) else -9
                 rw [if_neg (by omega)])
            · subst g
              rw [gUp_eq2 rfl rfl]
              first
              | (show _ = if (2 : Int) - 1 < v 0 12 then v 19 (2 - 1) else -9
                 rw [if_pos (by omega)]
                 rfl)
              | (show _ = if (2 : Int) - 1 < v 0 12 then v 19 (2 - 1) else -9
                 rw [if_neg (by omega)]), fun a k hk => by
            rw [eN, gUp_ne2 (by omega), gUp_ne2 (by omega), gUp_ne2 (by omega), gNf_ne hk]⟩
        refine lp_X0_image (c := t) hW2 (by omega) (gHd_at (by omega)) rfl hn.2 (fun v1 h1 => ?_) (v 0 32).toNat 0 vN (by omega) (by omega) hI
        refine Gx_aload_n (i := 0) dX0_image_110 rfl rfl ?_
        refine gf_X0_28_20 dX0_image_111 rfl rfl ?_
        refine Gx_iload_n (i := 1) dX0_image_114 rfl rfl ?_
        refine Gx_aload_n (i := 2) dX0_image_115 rfl rfl ?_
        refine Gx_aast15 dX0_image_116 q138 rfl (by omega) (gHd_at (by omega)) ?_
        refine Gx_aload_n (i := 2) dX0_image_117 rfl rfl ?_
        refine Gx_alen dX0_image_118 (gHd_at (by omega)) (by decide) (by decide) ?_
        refine Gx_ireturn dX0_image_119 trivial ?_
        exact kO hr v1 h1
    · try simp (disch := omega) only [gUp_ne2, gUp_eq2, gNf_ne] at h34 ⊢
      try simp (disch := omega) only [gUp_ne2, gUp_eq2, gNf_ne]
      refine Gx_iastore dX0_image_37 (gHd_at (by omega)) (by first | omega | (simp (disch := omega) only [w32_id]; omega)) ?_
      refine Gx_aload_n (i := 2) dX0_image_38 rfl rfl ?_
      refine Gx_iconst ⟨by decide, by decide⟩ dX0_image_39 ?_
      refine Gx_aload_n (i := 0) dX0_image_40 rfl rfl ?_
      refine Gx_iconst ⟨by decide, by decide⟩ dX0_image_41 ?_
      refine cl_X0_339 dX0_image_42 rfl rfl ⟨(Nat.le_of_ble_eq_true rfl), (Nat.le_of_ble_eq_true rfl)⟩ rfl ?_
      refine ct_X0_miceOf (by simp (disch := omega) only [gUp_ne2, gUp_eq2, gNf_ne]; exact he) (fun h42 => ?_) (fun h42 => ?_)
      · try simp (disch := omega) only [gUp_ne2, gUp_eq2, gNf_ne] at h42 ⊢
        try simp (disch := omega) only [gUp_ne2, gUp_eq2, gNf_ne]
        refine Gx_iastore dX0_image_45 (gHd_at (by omega)) (by first | omega | (simp (disch := omega) only [w32_id]; omega)) ?_
        refine Gx_iconst ⟨by decide, by decide⟩ dX0_image_46 ?_
        refine Gx_istore_n_3 dX0_image_47 (Nat.le_of_ble_eq_true rfl) (Nat.ne_of_beq_eq_false rfl) ?_
        refine Gx_name (fun vN eN => ?_)
        have hW2 : aWf v (gHd (gUpH K t (10, 3 + 3 * v 0 32))) := aWf_hd hT hW
        have hI : oIm v vN t (3 + 3 * 0) := ⟨fun z z0 z1 => by
            rw [eN]
            rcases (by omega : z = 0 ∨ z = 1 ∨ z = 2) with g | g | g
            · subst g
              rw [gUp_ne2 (by omega), gUp_ne2 (by omega), gUp_eq2 rfl rfl]
              rfl
            · subst g
              rw [gUp_ne2 (by omega), gUp_eq2 rfl rfl]
              first
              | (show _ = if (1 : Int) - 1 < v 0 12 then v 19 (1 - 1) else -9
                 rw [if_pos (by omega)]
                 rfl)
              | (show _ = if (1 : Int) - 1 < v 0 12 then v 19 (1 - 1) else -9
                 rw [if_neg (by omega)])
            · subst g
              rw [gUp_eq2 rfl rfl]
              first
              | (show _ = if (2 : Int) - 1 < v 0 12 then v 19 (2 - 1) else -9
                 rw [if_pos (by omega)]
                 rfl)
              | (show _ = if (2 : Int) - 1 < v 0 12 then v 19 (2 - 1) else -9
                 rw [if_neg (by omega)]), fun a k hk => by
            rw [eN, gUp_ne2 (by omega), gUp_ne2 (by omega), gUp_ne2 (by omega), gNf_ne hk]⟩
        refine lp_X0_image (c := t) hW2 (by omega) (gHd_at (by omega)) rfl hn.2 (fun v1 h1 => ?_) (v 0 32).toNat 0 vN (by omega) (by omega) hI
        refine Gx_aload_n (i := 0) dX0_image_110 rfl rfl ?_
        refine gf_X0_28_20 dX0_image_111 rfl rfl ?_
        refine Gx_iload_n (i := 1) dX0_image_114 rfl rfl ?_
        refine Gx_aload_n (i := 2) dX0_image_115 rfl rfl ?_
        refine Gx_aast15 dX0_image_116 q138 rfl (by omega) (gHd_at (by omega)) ?_
        refine Gx_aload_n (i := 2) dX0_image_117 rfl rfl ?_
        refine Gx_alen dX0_image_118 (gHd_at (by omega)) (by decide) (by decide) ?_
        refine Gx_ireturn dX0_image_119 trivial ?_
        exact kO hr v1 h1
      · try simp (disch := omega) only [gUp_ne2, gUp_eq2, gNf_ne] at h42 ⊢
        try simp (disch := omega) only [gUp_ne2, gUp_eq2, gNf_ne]
        refine Gx_iastore dX0_image_45 (gHd_at (by omega)) (by first | omega | (simp (disch := omega) only [w32_id]; omega)) ?_
        refine Gx_iconst ⟨by decide, by decide⟩ dX0_image_46 ?_
        refine Gx_istore_n_3 dX0_image_47 (Nat.le_of_ble_eq_true rfl) (Nat.ne_of_beq_eq_false rfl) ?_
        refine Gx_name (fun vN eN => ?_)
        have hW2 : aWf v (gHd (gUpH K t (10, 3 + 3 * v 0 32))) := aWf_hd hT hW
        have hI : oIm v vN t (3 + 3 * 0) := ⟨fun z z0 z1 => by
            rw [eN]
            rcases (by omega : z = 0 ∨ z = 1 ∨ z = 2) with g | g | g
            · subst g
              rw [gUp_ne2 (by omega), gUp_ne2 (by omega), gUp_eq2 rfl rfl]
              rfl
            · subst g
              rw [gUp_ne2 (by omega), gUp_eq2 rfl rfl]
              first
              | (show _ = if (1 : Int) - 1 < v 0 12 then v 19 (1 - 1) else -9
                 rw [if_pos (by omega)]
                 rfl)
              | (show _ = if (1 : Int) - 1 < v 0 12 then v 19 (1 - 1) else -9
                 rw [if_neg (by omega)])
            · subst g
              rw [gUp_eq2 rfl rfl]
              first
              | (show _ = if (2 : Int) - 1 < v 0 12 then v 19 (2 - 1) else -9
                 rw [if_pos (by omega)]
                 rfl)
              | (show _ = if (2 : Int) - 1 < v 0 12 then v 19 (2 - 1) else -9
                 rw [if_neg (by omega)]), fun a k hk => by
            rw [eN, gUp_ne2 (by omega), gUp_ne2 (by omega), gUp_ne2 (by omega), gNf_ne hk]⟩
        refine lp_X0_image (c := t) hW2 (by omega) (gHd_at (by omega)) rfl hn.2 (fun v1 h1 => ?_) (v 0 32).toNat 0 vN (by omega) (by omega) hI
        refine Gx_aload_n (i := 0) dX0_image_110 rfl rfl ?_
        refine gf_X0_28_20 dX0_image_111 rfl rfl ?_
        refine Gx_iload_n (i := 1) dX0_image_114 rfl rfl ?_
        refine Gx_aload_n (i := 2) dX0_image_115 rfl rfl ?_
        refine Gx_aast15 dX0_image_116 q138 rfl (by omega) (gHd_at (by omega)) ?_
        refine Gx_aload_n (i := 2) dX0_image_117 rfl rfl ?_
        refine Gx_alen dX0_image_118 (gHd_at (by omega)) (by decide) (by decide) ?_
        refine Gx_ireturn dX0_image_119 trivial ?_
        exact kO hr v1 h1
  · refine Gx_if_ne (tgt := 9) dX0_image_4 (by decide) (fun hz => absurd hz (by decide)) (fun _ => ?_)
    refine Gx_iconst ⟨by decide, by decide⟩ dX0_image_7 ?_
    refine Gx_ireturn dX0_image_8 trivial ?_
    exact kB hr
def oOa (v v1 : gM) (f : Int → Int) : Prop := (∀ a k, ¬ ((a = 17 ∧ k = 2) ∨ (a = 19 ∧ 0 ≤ k ∧ k < v 0 12) ∨ (a = 18 ∧ 0 ≤ k ∧ k < v 0 32) ∨ ((k = 1 ∨ k = 2) ∧ ∃ j, 0 ≤ j ∧ j < v 0 32 ∧ a = v 16 j)) → v1 a k = v a k) ∧ v1 17 2 = f 0 ∧ (∀ k, 0 ≤ k → k < v 0 12 → v1 19 k = f (1 + k)) ∧ ∀ k, 0 ≤ k → k < v 0 32 → v1 18 k = f (3 + 3 * k) ∧ v1 (v 16 k) 1 = f (4 + 3 * k) ∧ v1 (v 16 k) 2 = f (5 + 3 * k)

set_option maxHeartbeats 1000000 in
theorem lp_X0_on1 {r c : Int} {u : gM} {bc bs : Nat} (hc : 66 ≤ c) (hh : gHd K c = (10, 3 + 3 * u 0 32)) (hn : 0 ≤ u 0 32) (he : u 0 12 ≤ 2) (cont : ∀ v1, (∀ a k, ¬ (a = 19 ∧ 0 ≤ k ∧ k < u 0 12) → v1 a k = u a k) → (∀ k, 0 ≤ k → k < u 0 12 → v1 19 k = u c (1 + k)) → Gx Γ mX0_on 99 [(2, 0), (0, r), (2, c), (0, u 0 12)] [] v1 (gHd K) t bc bs Q) : ∀ (j : Nat) (i : Int) (v : gM), 0 ≤ i → i + j = u 0 12 → (∀ a k, ¬ (a = 19 ∧ 0 ≤ k ∧ k < i) → v a k = u a k) → (∀ k, 0 ≤ k → k < i → v 19 k = u c (1 + k)) → Gx Γ mX0_on 71 [(2, 0), (0, r), (2, c), (0, i)] [] v (gHd K) t bc bs Q := by
  intro j
  induction j with
  | zero =>
    intro i v h0 h1 hF hV
    have e12 : v 0 12 = u 0 12 := hF 0 12 (by omega)
    refine Gx_iload_n (i := 3) dX0_on_71 rfl rfl ?_
    refine Gx_aload_n (i := 0) dX0_on_72 rfl rfl ?_
    refine gf_X0_273_20 dX0_on_73 rfl rfl ?_
    refine Gx_icmp_ge (tgt := 99) dX0_on_76 (by decide) (fun c76 => ?_) (fun c76 => ?_)
    · have e0 : i = u 0 12 := by omega
      subst e0
      exact cont v hF hV
    · exfalso
      omega
  | succ j ih =>
    intro i v h0 h1 hF hV
    have e12 : v 0 12 = u 0 12 := hF 0 12 (by omega)
    refine Gx_iload_n (i := 3) dX0_on_71 rfl rfl ?_
    refine Gx_aload_n (i := 0) dX0_on_72 rfl rfl ?_
    refine gf_X0_273_20 dX0_on_73 rfl rfl ?_
    refine Gx_icmp_ge (tgt := 99) dX0_on_76 (by decide) (fun c76 => ?_) (fun c76 => ?_)
    · exfalso
      omega
    · refine Gx_aload_n (i := 0) dX0_on_79 rfl rfl ?_
      refine gf_X0_86_20 dX0_on_80 rfl rfl ?_
      refine gf_X0_282_21 dX0_on_83 rfl rfl ?_
      refine Gx_iload_n (i := 3) dX0_on_86 rfl rfl ?_
      refine Gx_aload_n (i := 2) dX0_on_87 rfl rfl ?_
      refine Gx_iconst ⟨by decide, by decide⟩ dX0_on_88 ?_
      refine Gx_iload_n (i := 3) dX0_on_89 rfl rfl ?_
      refine Gx_iadd dX0_on_90 ?_
      try simp (disch := omega) only [w32_id]
      refine Gx_iaload dX0_on_91 hh (by first | omega | (simp (disch := omega) only [w32_id]; omega)) ?_
      rw [hF c _ (by omega)]
      rw [show (17 : Int) + 2 = 19 from rfl]
      refine Gx_iastore dX0_on_92 rfl (by first | omega | (simp (disch := omega) only [w32_id]; omega)) ?_
      refine Gx_iinc_3 dX0_on_93 (Nat.le_of_ble_eq_true rfl) (Nat.ne_of_beq_eq_false rfl) ?_
      try simp (disch := omega) only [w32_id]
      refine Gx_goto (tgt := 71) dX0_on_96 (by decide) ?_
      refine ih (i + 1) _ (by omega) (by omega) (fun a k hk => ?_) (fun k k0 k1 => ?_)
      · rw [gUp_ne2 (by omega)]
        exact hF a k (by omega)
      · by_cases g : k = i
        · subst g
          rw [gUp_eq2 rfl rfl]
        · rw [gUp_ne2 (by omega)]
          exact hV k k0 (by omega)
set_option maxHeartbeats 1000000 in
theorem lp_X0_on2 {r c : Int} {u : gM} {bc bs : Nat} (hW : aWf u (gHd K)) (hc : 66 ≤ c) (hh : gHd K c = (10, 3 + 3 * u 0 32)) (hn : u 0 32 ≤ 24) (k1 : ∀ v1, (∀ a k, ¬ ((a = 18 ∧ 0 ≤ k ∧ k < u 0 32) ∨ ((k = 1 ∨ k = 2) ∧ ∃ j, 0 ≤ j ∧ j < u 0 32 ∧ a = u 16 j)) → v1 a k = u a k) → (∀ k, 0 ≤ k → k < u 0 32 → v1 18 k = u c (3 + 3 * k) ∧ v1 (u 16 k) 1 = u c (4 + 3 * k) ∧ v1 (u 16 k) 2 = u c (5 + 3 * k)) → Q (0, 1) v1 (gHd K) t) : ∀ (j : Nat) (i : Int) (v : gM), 0 ≤ i → i + j = u 0 32 → (∀ a k, ¬ ((a = 18 ∧ 0 ≤ k ∧ k < i) ∨ ((k = 1 ∨ k = 2) ∧ ∃ j, 0 ≤ j ∧ j < i ∧ a = u 16 j)) → v a k = u a k) → (∀ k, 0 ≤ k → k < i → v 18 k = u c (3 + 3 * k) ∧ v (u 16 k) 1 = u c (4 + 3 * k) ∧ v (u 16 k) 2 = u c (5 + 3 * k)) → Gx Γ mX0_on 101 [(2, 0), (0, r), (2, c), (0, i)] [] v (gHd K) t bc bs Q := by
  intro j
  induction j with
  | zero =>
    intro i v h0 h1 hF hV
    have wT := hW.2.2.2.1
    have low : ∀ a k, a < 66 → ¬ (a = 18 ∧ 0 ≤ k ∧ k < i) → v a k = u a k := fun a k ha hk => hF a k (fun z => by
      rcases z with z | ⟨-, q, q0, q1, e⟩
      · exact hk z
      · have := (wT q q0 (by omega)).1
        omega)
    have e32 : v 0 32 = u 0 32 := low 0 32 (by omega) (by omega)
    refine Gx_iload_n (i := 3) dX0_on_101 rfl rfl ?_
    refine Gx_aload_n (i := 0) dX0_on_102 rfl rfl ?_
    refine gf_X0_276_20 dX0_on_103 rfl rfl ?_
    refine Gx_icmp_ge (tgt := 163) dX0_on_106 (by decide) (fun c106 => ?_) (fun c106 => ?_)
    · refine Gx_iconst ⟨by decide, by decide⟩ dX0_on_163 ?_
      refine Gx_ireturn dX0_on_164 trivial ?_
      have e0 : i = u 0 32 := by omega
      subst e0
      exact k1 v hF hV
    · exfalso
      omega
  | succ j ih =>
    intro i v h0 h1 hF hV
    have wT := hW.2.2.2.1
    have low : ∀ a k, a < 66 → ¬ (a = 18 ∧ 0 ≤ k ∧ k < i) → v a k = u a k := fun a k ha hk => hF a k (fun z => by
      rcases z with z | ⟨-, q, q0, q1, e⟩
      · exact hk z
      · have := (wT q q0 (by omega)).1
        omega)
    have e32 : v 0 32 = u 0 32 := low 0 32 (by omega) (by omega)
    obtain ⟨ti, tk⟩ := wT i h0 (by omega)
    have e16 : v 16 i = u 16 i := low 16 i (by omega) (by omega)
    have eh : gHd K (v 16 i) = (8, (gHd K (u 16 i)).2) := by rw [e16]; exact pairEq tk
    have ec : ∀ z, v c z = u c z := fun z => hF c z (fun z => by
      rcases z with z | ⟨-, q, q0, q1, e⟩
      · omega
      · have := (wT q q0 (by omega)).2
        rw [← e, hh] at this
        exact absurd this (by show ¬ (10 : Nat) = 8; decide))
    have tc : u 16 i ≠ c := fun z => by rw [z, hh] at tk; exact absurd tk (by show ¬ (10 : Nat) = 8; decide)
    refine Gx_iload_n (i := 3) dX0_on_101 rfl rfl ?_
    refine Gx_aload_n (i := 0) dX0_on_102 rfl rfl ?_
    refine gf_X0_276_20 dX0_on_103 rfl rfl ?_
    refine Gx_icmp_ge (tgt := 163) dX0_on_106 (by decide) (fun c106 => ?_) (fun c106 => ?_)
    · refine Gx_iconst ⟨by decide, by decide⟩ dX0_on_163 ?_
      refine Gx_ireturn dX0_on_164 trivial ?_
      exfalso
      omega
    · refine Gx_aload_n (i := 0) dX0_on_109 rfl rfl ?_
      refine gf_X0_86_20 dX0_on_110 rfl rfl ?_
      refine gf_X0_288_21 dX0_on_113 rfl rfl ?_
      refine Gx_iload_n (i := 3) dX0_on_116 rfl rfl ?_
      refine Gx_aload_n (i := 2) dX0_on_117 rfl rfl ?_
      refine Gx_iconst ⟨by decide, by decide⟩ dX0_on_118 ?_
      refine Gx_iconst ⟨by decide, by decide⟩ dX0_on_119 ?_
      refine Gx_iload_n (i := 3) dX0_on_120 rfl rfl ?_
      refine Gx_imul dX0_on_121 ?_
      try simp (disch := omega) only [w32_id]
      refine Gx_iadd dX0_on_122 ?_
      try simp (disch := omega) only [w32_id]
      refine Gx_iaload dX0_on_123 hh (by first | omega | (simp (disch := omega) only [w32_id]; omega)) ?_
      rw [ec]
      rw [show (17 : Int) + 1 = 18 from rfl]
      refine Gx_iastore dX0_on_124 rfl (by first | omega | (simp (disch := omega) only [w32_id]; omega)) ?_
      refine Gx_aload_n (i := 0) dX0_on_125 rfl rfl ?_
      refine gf_X0_79_20 dX0_on_126 rfl rfl ?_
      refine Gx_iload_n (i := 3) dX0_on_129 rfl rfl ?_
      refine Gx_aaload18 dX0_on_130 rfl (by first | omega | (simp (disch := omega) only [w32_id]; omega)) ?_
      simp (disch := omega) only [gUp_ne2]
      rw [e16]
      refine Gx_aload_n (i := 2) dX0_on_131 rfl rfl ?_
      refine Gx_iconst ⟨by decide, by decide⟩ dX0_on_132 ?_
      refine Gx_iconst ⟨by decide, by decide⟩ dX0_on_133 ?_
      refine Gx_iload_n (i := 3) dX0_on_134 rfl rfl ?_
      refine Gx_imul dX0_on_135 ?_
      try simp (disch := omega) only [w32_id]
      refine Gx_iadd dX0_on_136 ?_
      try simp (disch := omega) only [w32_id]
      refine Gx_iaload dX0_on_137 hh (by first | omega | (simp (disch := omega) only [w32_id]; omega)) ?_
      simp (disch := omega) only [gUp_ne2]
      rw [ec]
      refine pf_X0_324_8 dX0_on_138 rfl (pairEq tk) ?_
      refine Gx_aload_n (i := 0) dX0_on_141 rfl rfl ?_
      refine gf_X0_79_20 dX0_on_142 rfl rfl ?_
      refine Gx_iload_n (i := 3) dX0_on_145 rfl rfl ?_
      refine Gx_aaload18 dX0_on_146 rfl (by first | omega | (simp (disch := omega) only [w32_id]; omega)) ?_
      simp (disch := omega) only [gUp_ne2]
      rw [e16]
      refine Gx_aload_n (i := 2) dX0_on_147 rfl rfl ?_
      refine Gx_iconst ⟨by decide, by decide⟩ dX0_on_148 ?_
      refine Gx_iconst ⟨by decide, by decide⟩ dX0_on_149 ?_
      refine Gx_iload_n (i := 3) dX0_on_150 rfl rfl ?_
      refine Gx_imul dX0_on_151 ?_
      try simp (disch := omega) only [w32_id]
      refine Gx_iadd dX0_on_152 ?_
      try simp (disch := omega) only [w32_id]
      refine Gx_iaload dX0_on_153 hh (by first | omega | (simp (disch := omega) only [w32_id]; omega)) ?_
      simp (disch := omega) only [gUp_ne2]
      rw [ec]
      refine pf_X0_327_8 dX0_on_154 rfl (pairEq tk) ?_
      refine Gx_iinc_3 dX0_on_157 (Nat.le_of_ble_eq_true rfl) (Nat.ne_of_beq_eq_false rfl) ?_
      try simp (disch := omega) only [w32_id]
      refine Gx_goto (tgt := 101) dX0_on_160 (by decide) ?_
      refine Gx_name (fun vN eN => ?_)
      refine ih (i + 1) vN (by omega) (by omega) (fun a k hk => ?_) (fun k k0 k1 => ?_)
      · have g1 : ¬ ((k = 1 ∨ k = 2) ∧ a = u 16 i) := fun z => hk (Or.inr ⟨z.1, i, h0, by omega, z.2⟩)
        rw [eN, gUp_ne2 (by omega), gUp_ne2 (by omega), gUp_ne2 (by omega)]
        refine hF a k (fun z => hk ?_)
        rcases z with z | ⟨z, q, q0, q1, e⟩
        · exact Or.inl ⟨z.1, z.2.1, by omega⟩
        · exact Or.inr ⟨z, q, q0, by omega, e⟩
      · rw [eN]
        by_cases g : k = i
        · subst g
          refine ⟨?_, ?_, ?_⟩
          · rw [gUp_ne2 (by omega), gUp_ne2 (by omega), gUp_eq2 rfl rfl]
          · rw [gUp_ne2 (by omega), gUp_eq2 rfl rfl]
          · rw [gUp_eq2 rfl rfl]
        · obtain ⟨b1, b2, b3⟩ := hV k k0 (by omega)
          have hd := hW.2.2.2.2 k i k0 (by omega) h0 (by omega) g
          have t66 := (wT k k0 (by omega)).1
          rw [gUp_ne2 (by omega), gUp_ne2 (by omega), gUp_ne2 (by omega), gUp_ne2 (by omega), gUp_ne2 (by omega), gUp_ne2 (by omega), gUp_ne2 (by omega), gUp_ne2 (by omega), gUp_ne2 (by omega)]
          exact ⟨b1, b2, b3⟩
set_option maxHeartbeats 1000000 in
theorem ct_X0_on {r n : Int} (hro : 0 ≤ r ∧ r ≤ 5 → v 2 r = -1 ∨ aRo v (gHd K) r n) (hW : aWf v (gHd K)) (hn : 0 ≤ v 0 32 ∧ v 0 32 ≤ 24) (he : 0 ≤ v 0 12 ∧ v 0 12 ≤ 2) (kB : ¬ (0 ≤ r ∧ r ≤ 5) → Q (0, -1) v (gHd K) t) (kN : 0 ≤ r ∧ r ≤ 5 → v 2 r = -1 → Q (0, -3) (aMet v 1) (gHd K) t) (kZ : 0 ≤ r ∧ r ≤ 5 → aRo v (gHd K) r n → n ≠ 3 + 3 * v 0 32 → Q (0, -3) (aMet v 5) (gHd K) t) (kU : 0 ≤ r ∧ r ≤ 5 → aRo v (gHd K) r n → n = 3 + 3 * v 0 32 → ¬ pImage (v 0 12) (v 0 32) (v (v 2 r)) → Q (0, -3) (aMet v 3) (gHd K) t) (kO : 0 ≤ r ∧ r ≤ 5 → aRo v (gHd K) r n → n = 3 + 3 * v 0 32 → pImage (v 0 12) (v 0 32) (v (v 2 r)) → ∀ v1, oOa v v1 (v (v 2 r)) → Q (0, 1) v1 (gHd K) t) : Ctr Γ mX0_on [(2, 0), (0, r)] v (gHd K) t Q := by
  refine Ctr.ofG (ls := [(2, 0), (0, r), (9, 0), (9, 0)]) rfl rfl rfl rfl rfl ?_
  refine Gx_iload_n (i := 1) dX0_on_0 rfl rfl ?_
  refine cl_X0_133 dX0_on_1 rfl ⟨(Nat.le_of_ble_eq_true rfl), (Nat.le_of_ble_eq_true rfl)⟩ rfl ?_
  refine ct_X0_isRow (fun hr => ?_) (fun hr => ?_)
  · refine Gx_if_ne (tgt := 9) dX0_on_4 (by decide) (fun _ => ?_) (fun hz => absurd hz (by decide))
    refine Gx_aload_n (i := 0) dX0_on_9 rfl rfl ?_
    refine gf_X0_28_20 dX0_on_10 rfl rfl ?_
    refine Gx_iload_n (i := 1) dX0_on_13 rfl rfl ?_
    refine Gx_aaload15 dX0_on_14 rfl (by first | omega | (simp (disch := omega) only [w32_id]; omega)) ?_
    refine Gx_astore_n_2 dX0_on_15 (Nat.le_of_ble_eq_true rfl) (Nat.ne_of_beq_eq_false rfl) ?_
    refine Gx_aload_n (i := 2) dX0_on_16 rfl rfl ?_
    refine Gx_ifnonnull (tgt := 26) dX0_on_17 (by decide) (fun c17 => ?_) (fun c17 => ?_)
    · have ho : aRo v (gHd K) r n := (hro hr).resolve_left (by omega)
      have n0 := ho.2.2.1
      have n1 := ho.2.2.2
      refine Gx_aload_n (i := 2) dX0_on_26 rfl rfl ?_
      refine Gx_alen dX0_on_27 ho.2.1 (by decide) (by decide) ?_
      refine Gx_iconst ⟨by decide, by decide⟩ dX0_on_28 ?_
      refine Gx_iconst ⟨by decide, by decide⟩ dX0_on_29 ?_
      refine Gx_aload_n (i := 0) dX0_on_30 rfl rfl ?_
      refine gf_X0_276_20 dX0_on_31 rfl rfl ?_
      refine Gx_imul dX0_on_34 ?_
      try simp (disch := omega) only [w32_id]
      refine Gx_iadd dX0_on_35 ?_
      try simp (disch := omega) only [w32_id]
      refine Gx_icmp_eq (tgt := 45) dX0_on_36 (by decide) (fun c36 => ?_) (fun c36 => ?_)
      · refine Gx_aload_n (i := 0) dX0_on_45 rfl rfl ?_
        refine Gx_aload_n (i := 2) dX0_on_46 rfl rfl ?_
        refine cl_X0_412 dX0_on_47 rfl rfl ⟨(Nat.le_of_ble_eq_true rfl), (Nat.le_of_ble_eq_true rfl)⟩ rfl ?_
        refine ct_X0_isImage (n := v 0 32) (by rw [ho.2.1, show n = 3 + 3 * v 0 32 by omega]) hn he (fun hI => ?_) (fun hI => ?_)
        · refine Gx_if_ne (tgt := 59) dX0_on_50 (by decide) (fun _ => ?_) (fun hz => absurd hz (by decide))
          refine Gx_aload_n (i := 0) dX0_on_59 rfl rfl ?_
          refine gf_X0_86_20 dX0_on_60 rfl rfl ?_
          refine Gx_aload_n (i := 2) dX0_on_63 rfl rfl ?_
          refine Gx_iconst ⟨by decide, by decide⟩ dX0_on_64 ?_
          refine Gx_iaload dX0_on_65 ho.2.1 (by first | omega | (simp (disch := omega) only [w32_id]; omega)) ?_
          refine pf_X0_279_21 dX0_on_66 rfl rfl ?_
          refine Gx_iconst ⟨by decide, by decide⟩ dX0_on_69 ?_
          refine Gx_istore_n_3 dX0_on_70 (Nat.le_of_ble_eq_true rfl) (Nat.ne_of_beq_eq_false rfl) ?_
          obtain ⟨r66, hrh, n0, n1⟩ := ho
          have hnn : n = 3 + 3 * v 0 32 := by omega
          rw [hnn] at hrh
          refine Gx_name (fun u0 eu => ?_)
          have uF : ∀ a k, ¬ (a = 17 ∧ k = 2) → u0 a k = v a k := fun a k hk => by rw [eu, gUp_ne2 (by omega)]
          have u12 : u0 0 12 = v 0 12 := uF 0 12 (by omega)
          have u32 : u0 0 32 = v 0 32 := uF 0 32 (by omega)
          refine lp_X0_on1 (u := u0) r66 (by rw [u32]; exact hrh) (by omega) (by omega) (fun v1 f1 g1 => ?_) (u0 0 12).toNat 0 u0 (by omega) (by omega) (fun a k _ => rfl) (fun k k0 k1 => absurd k1 (by omega))
          refine Gx_iconst ⟨by decide, by decide⟩ dX0_on_99 ?_
          refine Gx_istore_n_3 dX0_on_100 (Nat.le_of_ble_eq_true rfl) (Nat.ne_of_beq_eq_false rfl) ?_
          have hW1 : aWf v1 (gHd K) := aWf_congr hW (fun a k hk => by rw [f1 a k (by omega), uF a k (by omega)])
          have w32 : v1 0 32 = v 0 32 := by rw [f1 0 32 (by omega), u32]
          refine lp_X0_on2 (u := v1) hW1 r66 (by rw [w32]; exact hrh) (by omega) (fun v2 f2 g2 => ?_) (v1 0 32).toNat 0 v1 (by omega) (by omega) (fun a k _ => rfl) (fun k k0 k1 => absurd k1 (by omega))
          have ec : ∀ z, v1 (v 2 r) z = v (v 2 r) z := fun z => by rw [f1 _ _ (by omega), uF _ _ (by omega)]
          have e16 : ∀ z, v1 16 z = v 16 z := fun z => by rw [f1 _ _ (by omega), uF _ _ (by omega)]
          rw [w32] at f2 g2
          have wT := hW.2.2.2.1
          have lowf : ∀ a k, a < 66 → ¬ (a = 18 ∧ 0 ≤ k ∧ k < v 0 32) → v2 a k = v1 a k := fun a k ha hk => f2 a k (fun z => by
            rcases z with z | ⟨-, q, q0, q1, e⟩
            · exact hk z
            · have := (wT q q0 q1).1
              rw [e16] at e
              omega)
          refine kO hr ⟨r66, by rw [hnn]; exact hrh, n0, n1⟩ hnn hI v2 ⟨fun a k hk => ?_, ?_, fun k k0 k1 => ?_, fun k k0 k1 => ?_⟩
          · rw [f2 a k (fun z => hk (by
              rcases z with z | ⟨z, q, q0, q1, e⟩
              · exact Or.inr (Or.inr (Or.inl z))
              · exact Or.inr (Or.inr (Or.inr ⟨z, q, q0, q1, by rw [← e16]; exact e⟩)))), f1 a k (fun z => hk (Or.inr (Or.inl (by omega)))), uF a k (fun z => hk (Or.inl z))]
          · rw [lowf 17 2 (by omega) (by omega), f1 17 2 (by omega), eu, gUp_eq2 rfl rfl]
          · rw [lowf 19 k (by omega) (by omega), g1 k k0 (by omega), uF _ _ (by omega)]
          · have z := g2 k k0 k1
            rw [e16, ec, ec, ec] at z
            exact z
        · refine Gx_if_ne (tgt := 59) dX0_on_50 (by decide) (fun hz => absurd hz (by decide)) (fun _ => ?_)
          refine Gx_aload_n (i := 0) dX0_on_53 rfl rfl ?_
          refine Gx_iconst ⟨by decide, by decide⟩ dX0_on_54 ?_
          refine cl_X0_139 dX0_on_55 rfl rfl ⟨(Nat.le_of_ble_eq_true rfl), (Nat.le_of_ble_eq_true rfl)⟩ rfl ?_
          refine ct_X0_met (by omega) ?_
          refine Gx_ireturn dX0_on_58 trivial ?_
          exact kU hr ho (by omega) hI
      · refine Gx_aload_n (i := 0) dX0_on_39 rfl rfl ?_
        refine Gx_iconst ⟨by decide, by decide⟩ dX0_on_40 ?_
        refine cl_X0_139 dX0_on_41 rfl rfl ⟨(Nat.le_of_ble_eq_true rfl), (Nat.le_of_ble_eq_true rfl)⟩ rfl ?_
        refine ct_X0_met (by omega) ?_
        refine Gx_ireturn dX0_on_44 trivial ?_
        exact kZ hr ho (by omega)
    · refine Gx_aload_n (i := 0) dX0_on_20 rfl rfl ?_
      refine Gx_iconst ⟨by decide, by decide⟩ dX0_on_21 ?_
      refine cl_X0_139 dX0_on_22 rfl rfl ⟨(Nat.le_of_ble_eq_true rfl), (Nat.le_of_ble_eq_true rfl)⟩ rfl ?_
      refine ct_X0_met (by omega) ?_
      refine Gx_ireturn dX0_on_25 trivial ?_
      exact kN hr (by omega)
  · refine Gx_if_ne (tgt := 9) dX0_on_4 (by decide) (fun hz => absurd hz (by decide)) (fun _ => ?_)
    refine Gx_iconst ⟨by decide, by decide⟩ dX0_on_7 ?_
    refine Gx_ireturn dX0_on_8 trivial ?_
    exact kB hr
end
