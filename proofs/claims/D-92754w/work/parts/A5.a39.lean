/-! AcornYears: layers -/
section
variable {Γ : gC} {v : gM} {K : gH} {t : Nat} {Q : gQ}
theorem pLay_ff {f : Int → Int} {i n : Int} (h0 : 0 ≤ i) (h1 : i < n) (h : ¬ (0 ≤ f i ∧ f i ≤ 1)) : pLay f n.toNat = false := by
  obtain ⟨d, hd⟩ : ∃ d : Nat, n = i + 1 + d := ⟨(n - i - 1).toNat, by omega⟩
  subst hd
  clear h1
  induction d with
  | zero => rw [show i + 1 + ((0 : Nat) : Int) = i + 1 by omega, pLay_s h0, decide_eq_false h, Bool.and_false]
  | succ d ih => rw [show i + 1 + ((d + 1 : Nat) : Int) = i + 1 + (d : Int) + 1 by omega, pLay_s (by omega), ih]; rfl

set_option maxHeartbeats 1000000 in
theorem lp_X0_askedLayers {r m n : Int} {bc bs : Nat} (hro : aRo v (gHd K) r n) (kU : pLay (v (v 2 r)) n.toNat = false → Q (0, -3) (aMet v 3) (gHd K) t) (k0 : pLay (v (v 2 r)) n.toNat = true → Q (0, 0) v (gHd K) t) : ∀ (j : Nat) (i : Int) (z6 : gV), 0 ≤ i → i + j = n → pLay (v (v 2 r)) i.toNat = true → Gx Γ mX0_askedLayers 59 [(2, 0), (0, r), (0, m), (2, v 2 r), (0, n), (0, i), z6] [] v (gHd K) t bc bs Q := by
  intro j
  induction j with
  | zero =>
    intro i z6 h0 h1 hP
    obtain ⟨r66, hrh, n0, n1⟩ := hro
    have hps := pLay_s (f := v (v 2 r)) h0
    refine Gx_iload dX0_askedLayers_59 rfl ?_
    refine Gx_iload dX0_askedLayers_61 rfl ?_
    refine Gx_icmp_ge (tgt := 94) dX0_askedLayers_63 (by decide) (fun c63 => ?_) (fun c63 => ?_)
    · refine Gx_iconst ⟨by decide, by decide⟩ dX0_askedLayers_94 ?_
      refine Gx_ireturn dX0_askedLayers_95 trivial ?_
      have e0 : i = n := by omega
      subst e0
      exact k0 hP
    · exfalso
      omega
  | succ j ih =>
    intro i z6 h0 h1 hP
    obtain ⟨r66, hrh, n0, n1⟩ := hro
    have hps := pLay_s (f := v (v 2 r)) h0
    refine Gx_iload dX0_askedLayers_59 rfl ?_
    refine Gx_iload dX0_askedLayers_61 rfl ?_
    refine Gx_icmp_ge (tgt := 94) dX0_askedLayers_63 (by decide) (fun c63 => ?_) (fun c63 => ?_)
    · exfalso
      omega
    · refine Gx_aload_n (i := 3) dX0_askedLayers_66 rfl rfl ?_
      refine Gx_iload dX0_askedLayers_67 rfl ?_
      refine Gx_iaload dX0_askedLayers_69 hrh (by first | omega | (simp (disch := omega) only [w32_id]; omega)) ?_
      refine Gx_istore_6 dX0_askedLayers_70 (Nat.le_of_ble_eq_true rfl) (Nat.ne_of_beq_eq_false rfl) ?_
      refine Gx_iload dX0_askedLayers_72 rfl ?_
      refine Gx_iconst ⟨by decide, by decide⟩ dX0_askedLayers_74 ?_
      refine Gx_iconst ⟨by decide, by decide⟩ dX0_askedLayers_75 ?_
      refine cl_X0_129 dX0_askedLayers_76 rfl ⟨(Nat.le_of_ble_eq_true rfl), (Nat.le_of_ble_eq_true rfl)⟩ rfl ?_
      refine ct_X0_isIn (fun hx => ?_) (fun hx => ?_)
      · refine Gx_if_ne (tgt := 88) dX0_askedLayers_79 (by decide) (fun _ => ?_) (fun hz => absurd hz (by decide))
        refine Gx_iinc_5 dX0_askedLayers_88 (Nat.le_of_ble_eq_true rfl) (Nat.ne_of_beq_eq_false rfl) ?_
        try simp (disch := omega) only [w32_id]
        refine Gx_goto (tgt := 59) dX0_askedLayers_91 (by decide) ?_
        refine ih (i + 1) _ (by omega) (by omega) ?_
        rw [hps, hP, Bool.true_and]
        exact decide_eq_true hx
      · refine Gx_if_ne (tgt := 88) dX0_askedLayers_79 (by decide) (fun hz => absurd hz (by decide)) (fun _ => ?_)
        refine Gx_aload_n (i := 0) dX0_askedLayers_82 rfl rfl ?_
        refine Gx_iconst ⟨by decide, by decide⟩ dX0_askedLayers_83 ?_
        refine cl_X0_139 dX0_askedLayers_84 rfl rfl ⟨(Nat.le_of_ble_eq_true rfl), (Nat.le_of_ble_eq_true rfl)⟩ rfl ?_
        refine ct_X0_met (by omega) ?_
        refine Gx_ireturn dX0_askedLayers_87 trivial ?_
        exact kU (pLay_ff h0 (by omega) hx)
set_option maxHeartbeats 1000000 in
theorem ct_X0_askedLayers {r m n : Int} (hro : 0 ≤ r ∧ r ≤ 5 → v 2 r = -1 ∨ aRo v (gHd K) r n) (kB : ¬ (0 ≤ r ∧ r ≤ 5) → Q (0, -1) v (gHd K) t) (kN : 0 ≤ r ∧ r ≤ 5 → v 2 r = -1 → Q (0, -3) (aMet v 1) (gHd K) t) (kZ : 0 ≤ r ∧ r ≤ 5 → aRo v (gHd K) r n → ¬ (1 ≤ n ∧ n ≤ m) → Q (0, -3) (aMet v 5) (gHd K) t) (kU : 0 ≤ r ∧ r ≤ 5 → aRo v (gHd K) r n → (1 ≤ n ∧ n ≤ m) → pLay (v (v 2 r)) n.toNat = false → Q (0, -3) (aMet v 3) (gHd K) t) (k0 : 0 ≤ r ∧ r ≤ 5 → aRo v (gHd K) r n → (1 ≤ n ∧ n ≤ m) → pLay (v (v 2 r)) n.toNat = true → Q (0, 0) v (gHd K) t) : Ctr Γ mX0_askedLayers [(2, 0), (0, r), (0, m)] v (gHd K) t Q := by
  refine Ctr.ofG (ls := [(2, 0), (0, r), (0, m), (9, 0), (9, 0), (9, 0), (9, 0)]) rfl rfl rfl rfl rfl ?_
  refine Gx_iload_n (i := 1) dX0_askedLayers_0 rfl rfl ?_
  refine cl_X0_133 dX0_askedLayers_1 rfl ⟨(Nat.le_of_ble_eq_true rfl), (Nat.le_of_ble_eq_true rfl)⟩ rfl ?_
  refine ct_X0_isRow (fun hr => ?_) (fun hr => ?_)
  · refine Gx_if_ne (tgt := 9) dX0_askedLayers_4 (by decide) (fun _ => ?_) (fun hz => absurd hz (by decide))
    refine Gx_aload_n (i := 0) dX0_askedLayers_9 rfl rfl ?_
    refine gf_X0_28_20 dX0_askedLayers_10 rfl rfl ?_
    refine Gx_iload_n (i := 1) dX0_askedLayers_13 rfl rfl ?_
    refine Gx_aaload15 dX0_askedLayers_14 rfl (by first | omega | (simp (disch := omega) only [w32_id]; omega)) ?_
    refine Gx_ifnonnull (tgt := 24) dX0_askedLayers_15 (by decide) (fun c15 => ?_) (fun c15 => ?_)
    · have ho : aRo v (gHd K) r n := (hro hr).resolve_left (by omega)
      have n0 := ho.2.2.1
      have n1 := ho.2.2.2
      refine Gx_aload_n (i := 0) dX0_askedLayers_24 rfl rfl ?_
      refine gf_X0_28_20 dX0_askedLayers_25 rfl rfl ?_
      refine Gx_iload_n (i := 1) dX0_askedLayers_28 rfl rfl ?_
      refine Gx_aaload15 dX0_askedLayers_29 rfl (by first | omega | (simp (disch := omega) only [w32_id]; omega)) ?_
      refine Gx_alen dX0_askedLayers_30 ho.2.1 (by decide) (by decide) ?_
      refine Gx_iconst ⟨by decide, by decide⟩ dX0_askedLayers_31 ?_
      refine Gx_iload_n (i := 2) dX0_askedLayers_32 rfl rfl ?_
      refine cl_X0_129 dX0_askedLayers_33 rfl ⟨(Nat.le_of_ble_eq_true rfl), (Nat.le_of_ble_eq_true rfl)⟩ rfl ?_
      refine ct_X0_isIn (fun hx => ?_) (fun hx => ?_)
      · refine Gx_if_ne (tgt := 45) dX0_askedLayers_36 (by decide) (fun _ => ?_) (fun hz => absurd hz (by decide))
        refine Gx_aload_n (i := 0) dX0_askedLayers_45 rfl rfl ?_
        refine gf_X0_28_20 dX0_askedLayers_46 rfl rfl ?_
        refine Gx_iload_n (i := 1) dX0_askedLayers_49 rfl rfl ?_
        refine Gx_aaload15 dX0_askedLayers_50 rfl (by first | omega | (simp (disch := omega) only [w32_id]; omega)) ?_
        refine Gx_astore_n_3 dX0_askedLayers_51 (Nat.le_of_ble_eq_true rfl) (Nat.ne_of_beq_eq_false rfl) ?_
        refine Gx_aload_n (i := 3) dX0_askedLayers_52 rfl rfl ?_
        refine Gx_alen dX0_askedLayers_53 ho.2.1 (by decide) (by decide) ?_
        refine Gx_istore_4 dX0_askedLayers_54 (Nat.le_of_ble_eq_true rfl) (Nat.ne_of_beq_eq_false rfl) ?_
        refine Gx_iconst ⟨by decide, by decide⟩ dX0_askedLayers_56 ?_
        refine Gx_istore_5 dX0_askedLayers_57 (Nat.le_of_ble_eq_true rfl) (Nat.ne_of_beq_eq_false rfl) ?_
        exact lp_X0_askedLayers ho (kU hr ho hx) (k0 hr ho hx) n.toNat 0 _ (by omega) (by omega) rfl
      · refine Gx_if_ne (tgt := 45) dX0_askedLayers_36 (by decide) (fun hz => absurd hz (by decide)) (fun _ => ?_)
        refine Gx_aload_n (i := 0) dX0_askedLayers_39 rfl rfl ?_
        refine Gx_iconst ⟨by decide, by decide⟩ dX0_askedLayers_40 ?_
        refine cl_X0_139 dX0_askedLayers_41 rfl rfl ⟨(Nat.le_of_ble_eq_true rfl), (Nat.le_of_ble_eq_true rfl)⟩ rfl ?_
        refine ct_X0_met (by omega) ?_
        refine Gx_ireturn dX0_askedLayers_44 trivial ?_
        exact kZ hr ho hx
    · refine Gx_aload_n (i := 0) dX0_askedLayers_18 rfl rfl ?_
      refine Gx_iconst ⟨by decide, by decide⟩ dX0_askedLayers_19 ?_
      refine cl_X0_139 dX0_askedLayers_20 rfl rfl ⟨(Nat.le_of_ble_eq_true rfl), (Nat.le_of_ble_eq_true rfl)⟩ rfl ?_
      refine ct_X0_met (by omega) ?_
      refine Gx_ireturn dX0_askedLayers_23 trivial ?_
      exact kN hr (by rcases hro hr with z | z <;> omega)
  · refine Gx_if_ne (tgt := 9) dX0_askedLayers_4 (by decide) (fun hz => absurd hz (by decide)) (fun _ => ?_)
    refine Gx_iconst ⟨by decide, by decide⟩ dX0_askedLayers_7 ?_
    refine Gx_ireturn dX0_askedLayers_8 trivial ?_
    exact kB hr
set_option maxHeartbeats 2000000 in
theorem lp_X0_fits {o g b c n : Int} {bc bs : Nat} (ho : gHd K o = (10, n)) (hn : 0 ≤ n ∧ n ≤ 80) (hg : 0 ≤ g ∧ g ≤ 9) (hb : 0 ≤ b ∧ b ≤ 60) (hc : 1 ≤ c ∧ c ≤ b + 1) (k1 : (gFt (v o) g b c n.toNat).1 = true → Q (0, 1) v (gHd K) t) (k0 : (gFt (v o) g b c n.toNat).1 = false → Q (0, 0) v (gHd K) t) : ∀ (j : Nat) (i s : Int) (z8 : gV), 0 ≤ i → i + j = n → gFt (v o) g b c i.toNat = (true, s) → Gx Γ mX0_fits 14 [(2, o), (0, g), (0, b), (0, c), (0, s), (2, o), (0, n), (0, i), z8] [] v (gHd K) t bc bs Q := by
  intro j
  induction j with
  | zero =>
    intro i s z8 h0 h1 hq
    have hsl := gFt_le (f := v o) hg hc i.toNat
    have hx := gFt_s (f := v o) (g := g) (b := b) (c := c) h0
    rw [hq, if_pos rfl] at hx
    rw [hq] at hsl
    dsimp only at hx hsl
    refine Gx_iload dX0_fits_14 rfl ?_
    refine Gx_iload dX0_fits_16 rfl ?_
    refine Gx_icmp_ge (tgt := 88) dX0_fits_18 (by decide) (fun c18 => ?_) (fun c18 => ?_)
    · refine Gx_iconst ⟨by decide, by decide⟩ dX0_fits_88 ?_
      refine Gx_ireturn dX0_fits_89 (Or.inr rfl) ?_
      have e0 : i = n := by omega
      subst e0
      exact k1 (by rw [hq])
    · exfalso
      omega
  | succ j ih =>
    intro i s z8 h0 h1 hq
    have hsl := gFt_le (f := v o) hg hc i.toNat
    have hx := gFt_s (f := v o) (g := g) (b := b) (c := c) h0
    rw [hq, if_pos rfl] at hx
    rw [hq] at hsl
    dsimp only at hx hsl
    refine Gx_iload dX0_fits_14 rfl ?_
    refine Gx_iload dX0_fits_16 rfl ?_
    refine Gx_icmp_ge (tgt := 88) dX0_fits_18 (by decide) (fun c18 => ?_) (fun c18 => ?_)
    · exfalso
      omega
    · refine Gx_aload dX0_fits_21 rfl ?_
      refine Gx_iload dX0_fits_23 rfl ?_
      refine Gx_iaload dX0_fits_25 ho (by first | omega | (simp (disch := omega) only [w32_id]; omega)) ?_
      refine Gx_istore_8 dX0_fits_26 (Nat.le_of_ble_eq_true rfl) (Nat.ne_of_beq_eq_false rfl) ?_
      refine Gx_bipush dX0_fits_28 ⟨by decide, by decide⟩ ?_
      refine Gx_iload dX0_fits_30 rfl ?_
      refine Gx_iload_n (i := 1) dX0_fits_32 rfl rfl ?_
      refine Gx_iadd dX0_fits_33 ?_
      try simp (disch := omega) only [w32_id]
      refine cl_X0_207 dX0_fits_34 rfl ⟨(Nat.le_of_ble_eq_true rfl), (Nat.le_of_ble_eq_true rfl)⟩ rfl ?_
      refine Gx_istore_4 dX0_fits_37 (Nat.le_of_ble_eq_true rfl) (Nat.ne_of_beq_eq_false rfl) ?_
      refine Gx_iload dX0_fits_39 rfl ?_
      refine Gx_iload_n (i := 2) dX0_fits_41 rfl rfl ?_
      refine Gx_icmp_le (tgt := 49) dX0_fits_42 (by decide) (fun c42 => ?_) (fun c42 => ?_)
      · refine Gx_iconst ⟨by decide, by decide⟩ dX0_fits_49 ?_
        refine Gx_iload dX0_fits_50 rfl ?_
        refine Gx_iconst ⟨by decide, by decide⟩ dX0_fits_52 ?_
        refine Gx_icmp_ne (tgt := 60) dX0_fits_53 (by decide) (fun c53 => ?_) (fun c53 => ?_)
        · refine Gx_iconst ⟨by decide, by decide⟩ dX0_fits_60 ?_
          refine Gx_icmp_eq (tgt := 66) dX0_fits_61 (by decide) (fun _ => ?_) (fun hz => absurd hz (by decide))
          refine Gx_iload dX0_fits_66 rfl ?_
          refine Gx_iload dX0_fits_68 rfl ?_
          refine Gx_iconst ⟨by decide, by decide⟩ dX0_fits_70 ?_
          refine Gx_icmp_ne (tgt := 78) dX0_fits_71 (by decide) (fun c71 => ?_) (fun c71 => ?_)
          · refine Gx_iconst ⟨by decide, by decide⟩ dX0_fits_78 ?_
            refine Gx_isub dX0_fits_79 ?_
            try simp (disch := omega) only [w32_id]
            refine Gx_istore_4 dX0_fits_80 (Nat.le_of_ble_eq_true rfl) (Nat.ne_of_beq_eq_false rfl) ?_
            refine Gx_iinc_7 dX0_fits_82 (Nat.le_of_ble_eq_true rfl) (Nat.ne_of_beq_eq_false rfl) ?_
            try simp (disch := omega) only [w32_id]
            refine Gx_goto (tgt := 14) dX0_fits_85 (by decide) ?_
            refine ih (i + 1) _ _ (by omega) (by omega) ?_
            rw [hx]
            first
            | (rw [decide_eq_true (by omega), if_pos (by omega)]; done)
            | (rw [decide_eq_true (by omega), if_neg (by omega)]; done)
          · refine Gx_iload_n (i := 3) dX0_fits_74 rfl rfl ?_
            refine Gx_goto (tgt := 79) dX0_fits_75 (by decide) ?_
            refine Gx_isub dX0_fits_79 ?_
            try simp (disch := omega) only [w32_id]
            refine Gx_istore_4 dX0_fits_80 (Nat.le_of_ble_eq_true rfl) (Nat.ne_of_beq_eq_false rfl) ?_
            refine Gx_iinc_7 dX0_fits_82 (Nat.le_of_ble_eq_true rfl) (Nat.ne_of_beq_eq_false rfl) ?_
            try simp (disch := omega) only [w32_id]
            refine Gx_goto (tgt := 14) dX0_fits_85 (by decide) ?_
            refine ih (i + 1) _ _ (by omega) (by omega) ?_
            rw [hx]
            first
            | (rw [decide_eq_true (by omega), if_pos (by omega)]; done)
            | (rw [decide_eq_true (by omega), if_neg (by omega)]; done)
        · refine Gx_iconst ⟨by decide, by decide⟩ dX0_fits_56 ?_
          refine Gx_goto (tgt := 61) dX0_fits_57 (by decide) ?_
          refine Gx_icmp_eq (tgt := 66) dX0_fits_61 (by decide) (fun hz => absurd hz (by decide)) (fun _ => ?_)
          refine Gx_iconst ⟨by decide, by decide⟩ dX0_fits_64 ?_
          refine Gx_ireturn dX0_fits_65 (Or.inl rfl) ?_
          exact k0 (gFt_dead (i := (i + 1).toNat) (by rw [hx]; exact decide_eq_false (by omega)) n.toNat (by omega))
      · refine Gx_iconst ⟨by decide, by decide⟩ dX0_fits_45 ?_
        refine Gx_goto (tgt := 50) dX0_fits_46 (by decide) ?_
        refine Gx_iload dX0_fits_50 rfl ?_
        refine Gx_iconst ⟨by decide, by decide⟩ dX0_fits_52 ?_
        refine Gx_icmp_ne (tgt := 60) dX0_fits_53 (by decide) (fun c53 => ?_) (fun c53 => ?_)
        · refine Gx_iconst ⟨by decide, by decide⟩ dX0_fits_60 ?_
          refine Gx_icmp_eq (tgt := 66) dX0_fits_61 (by decide) (fun hz => absurd hz (by decide)) (fun _ => ?_)
          refine Gx_iconst ⟨by decide, by decide⟩ dX0_fits_64 ?_
          refine Gx_ireturn dX0_fits_65 (Or.inl rfl) ?_
          exact k0 (gFt_dead (i := (i + 1).toNat) (by rw [hx]; exact decide_eq_false (by omega)) n.toNat (by omega))
        · refine Gx_iconst ⟨by decide, by decide⟩ dX0_fits_56 ?_
          refine Gx_goto (tgt := 61) dX0_fits_57 (by decide) ?_
          refine Gx_icmp_eq (tgt := 66) dX0_fits_61 (by decide) (fun _ => ?_) (fun hz => absurd hz (by decide))
          refine Gx_iload dX0_fits_66 rfl ?_
          refine Gx_iload dX0_fits_68 rfl ?_
          refine Gx_iconst ⟨by decide, by decide⟩ dX0_fits_70 ?_
          refine Gx_icmp_ne (tgt := 78) dX0_fits_71 (by decide) (fun c71 => ?_) (fun c71 => ?_)
          · refine Gx_iconst ⟨by decide, by decide⟩ dX0_fits_78 ?_
            refine Gx_isub dX0_fits_79 ?_
            try simp (disch := omega) only [w32_id]
            refine Gx_istore_4 dX0_fits_80 (Nat.le_of_ble_eq_true rfl) (Nat.ne_of_beq_eq_false rfl) ?_
            refine Gx_iinc_7 dX0_fits_82 (Nat.le_of_ble_eq_true rfl) (Nat.ne_of_beq_eq_false rfl) ?_
            try simp (disch := omega) only [w32_id]
            refine Gx_goto (tgt := 14) dX0_fits_85 (by decide) ?_
            refine ih (i + 1) _ _ (by omega) (by omega) ?_
            rw [hx]
            first
            | (rw [decide_eq_true (by omega), if_pos (by omega)]; done)
            | (rw [decide_eq_true (by omega), if_neg (by omega)]; done)
          · refine Gx_iload_n (i := 3) dX0_fits_74 rfl rfl ?_
            refine Gx_goto (tgt := 79) dX0_fits_75 (by decide) ?_
            refine Gx_isub dX0_fits_79 ?_
            try simp (disch := omega) only [w32_id]
            refine Gx_istore_4 dX0_fits_80 (Nat.le_of_ble_eq_true rfl) (Nat.ne_of_beq_eq_false rfl) ?_
            refine Gx_iinc_7 dX0_fits_82 (Nat.le_of_ble_eq_true rfl) (Nat.ne_of_beq_eq_false rfl) ?_
            try simp (disch := omega) only [w32_id]
            refine Gx_goto (tgt := 14) dX0_fits_85 (by decide) ?_
            refine ih (i + 1) _ _ (by omega) (by omega) ?_
            rw [hx]
            first
            | (rw [decide_eq_true (by omega), if_pos (by omega)]; done)
            | (rw [decide_eq_true (by omega), if_neg (by omega)]; done)
theorem ct_X0_fits {o g b c n : Int} (ho : gHd K o = (10, n)) (hn : 0 ≤ n ∧ n ≤ 80) (hg : 0 ≤ g ∧ g ≤ 9) (hb : 0 ≤ b ∧ b ≤ 60) (hc : 1 ≤ c ∧ c ≤ b + 1) (k1 : (gFt (v o) g b c n.toNat).1 = true → Q (0, 1) v (gHd K) t) (k0 : (gFt (v o) g b c n.toNat).1 = false → Q (0, 0) v (gHd K) t) : Ctr Γ mX0_fits [(2, o), (0, g), (0, b), (0, c)] v (gHd K) t Q := by
  refine Ctr.ofG (ls := [(2, o), (0, g), (0, b), (0, c), (9, 0), (9, 0), (9, 0), (9, 0), (9, 0)]) rfl rfl rfl rfl rfl ?_
  refine Gx_iconst ⟨by decide, by decide⟩ dX0_fits_0 ?_
  refine Gx_istore_4 dX0_fits_1 (Nat.le_of_ble_eq_true rfl) (Nat.ne_of_beq_eq_false rfl) ?_
  refine Gx_aload_n (i := 0) dX0_fits_3 rfl rfl ?_
  refine Gx_astore_5 dX0_fits_4 (Nat.le_of_ble_eq_true rfl) (Nat.ne_of_beq_eq_false rfl) ?_
  refine Gx_aload dX0_fits_6 rfl ?_
  refine Gx_alen dX0_fits_8 ho (by decide) (by decide) ?_
  refine Gx_istore_6 dX0_fits_9 (Nat.le_of_ble_eq_true rfl) (Nat.ne_of_beq_eq_false rfl) ?_
  refine Gx_iconst ⟨by decide, by decide⟩ dX0_fits_11 ?_
  refine Gx_istore_7 dX0_fits_12 (Nat.le_of_ble_eq_true rfl) (Nat.ne_of_beq_eq_false rfl) ?_
  exact lp_X0_fits ho hn hg hb hc k1 k0 n.toNat 0 0 _ (by omega) (by omega) rfl
end
