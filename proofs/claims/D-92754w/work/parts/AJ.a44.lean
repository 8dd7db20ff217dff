/-! AcornYears: text spring mean lay -/
section
variable {Γ : gC} {v : gM} {K : gH} {t : Nat} {Q : gQ}
theorem gFill_up {v : gM} {a lo i x : Int} (h : lo ≤ i) : gUp (gFill v a lo i x) a i x = gFill v a lo (i + 1) x := by
  funext b k
  unfold gUp gFill
  by_cases hb : b = a
  · subst hb
    by_cases hk : k = i
    · subst hk
      rw [if_pos rfl, if_pos rfl, if_pos ⟨rfl, h, by omega⟩]
    · rw [if_pos rfl, if_neg hk]
      by_cases h2 : lo ≤ k ∧ k < i
      · rw [if_pos ⟨rfl, h2⟩, if_pos ⟨rfl, h2.1, by omega⟩]
      · rw [if_neg (fun z => h2 z.2), if_neg (fun z => h2 ⟨z.2.1, by omega⟩)]
  · rw [if_neg hb, if_neg (fun z => hb z.1), if_neg (fun z => hb z.1)]
theorem gFill_0 {v : gM} {a lo x : Int} : gFill v a lo lo x = v := by
  funext b k
  unfold gFill
  rw [if_neg (by omega)]

set_option maxHeartbeats 1000000 in
theorem lp_X0_text {r n : Int} {bc bs : Nat} {a : Int} (hh : gHd K a = (11, n)) (hn : 0 ≤ n ∧ n ≤ 80) (cont : Gx Γ mX0_text 40 [(2, 0), (0, r), (0, n), (2, a), (0, n)] [] (gFill v a 0 n 32) (gHd K) t bc bs Q) : ∀ (j : Nat) (i : Int), 0 ≤ i → i + j = n → Gx Γ mX0_text 22 [(2, 0), (0, r), (0, n), (2, a), (0, i)] [] (gFill v a 0 i 32) (gHd K) t bc bs Q := by
  intro j
  induction j with
  | zero =>
    intro i h0 h1
    refine Gx_iload dX0_text_22 rfl ?_
    refine Gx_iload_n (i := 2) dX0_text_24 rfl rfl ?_
    refine Gx_icmp_ge (tgt := 40) dX0_text_25 (by decide) (fun c25 => ?_) (fun c25 => ?_)
    · have e0 : i = n := by omega
      subst e0
      exact cont
    · exfalso
      omega
  | succ j ih =>
    intro i h0 h1
    refine Gx_iload dX0_text_22 rfl ?_
    refine Gx_iload_n (i := 2) dX0_text_24 rfl rfl ?_
    refine Gx_icmp_ge (tgt := 40) dX0_text_25 (by decide) (fun c25 => ?_) (fun c25 => ?_)
    · exfalso
      omega
    · refine Gx_aload_n (i := 3) dX0_text_28 rfl rfl ?_
      refine Gx_iload dX0_text_29 rfl ?_
      refine Gx_bipush dX0_text_31 ⟨by decide, by decide⟩ ?_
      refine Gx_bastore dX0_text_33 hh (by first | omega | (simp (disch := omega) only [w32_id]; omega)) (by first | omega | (simp (disch := omega) only [w32_id]; omega)) ?_
      refine Gx_iinc_4 dX0_text_34 (Nat.le_of_ble_eq_true rfl) (Nat.ne_of_beq_eq_false rfl) ?_
      try simp (disch := omega) only [w32_id]
      refine Gx_goto (tgt := 22) dX0_text_37 (by decide) ?_
      rw [gFill_up h0]
      exact ih (i + 1) (by omega) (by omega)
set_option maxHeartbeats 1000000 in
theorem ct_X0_text {r n : Int} (hfl : Γ.1.stackTraces = false) (kB : ¬ (0 ≤ r ∧ r ≤ 3) ∨ 80 < n → Q (0, -1) v (gHd K) t) (kZ : 0 ≤ r ∧ r ≤ 3 → n < 0 → Q (0, -3) (aMet v 5) (gHd K) (t + 3)) (k1 : 0 ≤ r ∧ r ≤ 3 → 0 ≤ n → n ≤ 80 → 66 ≤ t → Q (0, n) (gUp (gFill (gNf v t (fun _ => 0)) t 0 n 32) 3 r t) (gHd (gUpH K t (11, n))) (t + 1)) : CtrW Γ mX0_text [(2, 0), (0, r), (0, n)] v (gHd K) t Q := by
  refine CtrW.ofG (ls := [(2, 0), (0, r), (0, n), (9, 0), (9, 0)]) rfl rfl rfl rfl rfl ?_
  refine Gx_top (fun hT => ?_)
  have h66 := gHd_66 hT
  refine Gx_iload_n (i := 1) dX0_text_0 rfl rfl ?_
  refine cl_X0_164 dX0_text_1 rfl ⟨(Nat.le_of_ble_eq_true rfl), (Nat.le_of_ble_eq_true rfl)⟩ rfl ?_
  refine ct_X0_isText (fun hr => ?_) (fun hr => ?_)
  · refine Gx_if_eq (tgt := 13) dX0_text_4 (by decide) (fun hz => absurd hz (by decide)) (fun _ => ?_)
    refine Gx_iload_n (i := 2) dX0_text_7 rfl rfl ?_
    refine Gx_bipush dX0_text_8 ⟨by decide, by decide⟩ ?_
    refine Gx_icmp_le (tgt := 15) dX0_text_10 (by decide) (fun c10 => ?_) (fun c10 => ?_)
    · refine Gx_iload_n (i := 2) dX0_text_15 rfl rfl ?_
      refine Gx_rst (fun hrs => ?_)
      rcases (by omega : n < 0 ∨ 0 ≤ n) with z16 | z16
      · refine Gx_newa_neg (bc' := 5) (bs' := 11) dX0_text_16 hfl xLd_text (xRm_ok (c := 0) rfl (by decide +kernel)) (by decide) (by decide) z16 (r32_of hrs.1) ?_
        refine Gx_astore_n_3 dX0_text_49 (Nat.le_of_ble_eq_true rfl) (Nat.ne_of_beq_eq_false rfl) ?_
        refine Gx_aload_n (i := 0) dX0_text_50 rfl rfl ?_
        refine Gx_iconst ⟨by decide, by decide⟩ dX0_text_51 ?_
        refine cl_X0_139 dX0_text_52 rfl rfl ⟨(Nat.le_of_ble_eq_true rfl), (Nat.le_of_ble_eq_true rfl)⟩ rfl ?_
        refine ct_X0_met (by omega) ?_
        refine Gx_ireturn dX0_text_55 trivial ?_
        exact kZ hr z16
      · refine Gx_newarr (k := 11) (bc' := 7) (bs' := 300) dX0_text_16 ⟨by decide, by decide⟩ rfl q350 (by first | omega | (simp (disch := omega) only [w32_id]; omega)) (by decide) (by show n.toNat + 300 ≤ (445 : Nat); omega) ?_
        rw [gHd_up (by omega)]
        refine Gx_astore_n_3 dX0_text_18 (Nat.le_of_ble_eq_true rfl) (Nat.ne_of_beq_eq_false rfl) ?_
        refine Gx_iconst ⟨by decide, by decide⟩ dX0_text_19 ?_
        refine Gx_istore_4 dX0_text_20 (Nat.le_of_ble_eq_true rfl) (Nat.ne_of_beq_eq_false rfl) ?_
        have hl := fun cont => lp_X0_text (Γ := Γ) (Q := Q) (r := r) (v := gNf v t (fun _ => 0)) (K := gUpH K t (11, n)) (t := t + 1) (bc := 7) (bs := 300) (gHd_at (by omega)) ⟨z16, by omega⟩ cont n.toNat 0 (by omega) (by omega)
        rw [gFill_0] at hl
        refine hl ?_
        refine Gx_aload_n (i := 0) dX0_text_40 rfl rfl ?_
        refine gf_X0_34_20 dX0_text_41 rfl rfl ?_
        refine Gx_iload_n (i := 1) dX0_text_44 rfl rfl ?_
        refine Gx_aload_n (i := 3) dX0_text_45 rfl rfl ?_
        refine Gx_aast16 dX0_text_46 q140 (by rw [gHd_ne (by omega)]; rfl) (by omega) (gHd_at (by omega)) ?_
        refine Gx_iload_n (i := 2) dX0_text_47 rfl rfl ?_
        refine Gx_ireturn dX0_text_48 trivial ?_
        exact k1 hr z16 (by omega) h66
    · refine Gx_iconst ⟨by decide, by decide⟩ dX0_text_13 ?_
      refine Gx_ireturn dX0_text_14 trivial ?_
      exact kB (by omega)
  · refine Gx_if_eq (tgt := 13) dX0_text_4 (by decide) (fun _ => ?_) (fun hz => absurd hz (by decide))
    refine Gx_iconst ⟨by decide, by decide⟩ dX0_text_13 ?_
    refine Gx_ireturn dX0_text_14 trivial ?_
    exact kB (by omega)
set_option maxHeartbeats 1000000 in
theorem ct_X0_spring {i w n : Int} (hfl : Γ.1.stackTraces = false) (hh : gHd K (v 0 8) = (11, n)) (hn : 0 ≤ n ∧ n ≤ 8) (kB : ¬ (0 ≤ w ∧ w ≤ 2) → Q (0, -1) v (gHd K) t) (kO : 0 ≤ w ∧ w ≤ 2 → ¬ (0 ≤ i ∧ i < n) → Q (0, -3) (aMet v 2) (gHd K) (t + 3)) (k1 : 0 ≤ w ∧ w ≤ 2 → 0 ≤ i ∧ i < n → Q (0, v (v 0 8) i) (gUp v (v 0 8) i w) (gHd K) t) : CtrW Γ mX0_spring [(2, 0), (0, i), (0, w)] v (gHd K) t Q := by
  refine CtrW.ofG (ls := [(2, 0), (0, i), (0, w), (9, 0)]) rfl rfl rfl rfl rfl ?_
  refine Gx_iload_n (i := 2) dX0_spring_0 rfl rfl ?_
  refine Gx_iconst ⟨by decide, by decide⟩ dX0_spring_1 ?_
  refine Gx_iconst ⟨by decide, by decide⟩ dX0_spring_2 ?_
  refine cl_X0_129 dX0_spring_3 rfl ⟨(Nat.le_of_ble_eq_true rfl), (Nat.le_of_ble_eq_true rfl)⟩ rfl ?_
  refine ct_X0_isIn (fun hw => ?_) (fun hw => ?_)
  · refine Gx_if_ne (tgt := 11) dX0_spring_6 (by decide) (fun _ => ?_) (fun hz => absurd hz (by decide))
    refine Gx_aload_n (i := 0) dX0_spring_11 rfl rfl ?_
    refine gf_X0_126_20 dX0_spring_12 rfl rfl ?_
    refine Gx_iload_n (i := 1) dX0_spring_15 rfl rfl ?_
    rcases (by omega : ¬ (0 ≤ i ∧ i < n) ∨ (0 ≤ i ∧ i < n)) with z16 | z16
    · refine Gx_rst (fun hrs => ?_)
      refine Gx_bald_o (bc' := 5) (bs' := 11) dX0_spring_16 hfl xLd_spr (xRm_ok (c := 0) rfl (by decide +kernel)) (by decide) (by decide) hh (by omega) z16 (r32_of hrs.1) ?_
      refine Gx_astore_n_3 dX0_spring_28 (Nat.le_of_ble_eq_true rfl) (Nat.ne_of_beq_eq_false rfl) ?_
      refine Gx_aload_n (i := 0) dX0_spring_29 rfl rfl ?_
      refine Gx_iconst ⟨by decide, by decide⟩ dX0_spring_30 ?_
      refine cl_X0_139 dX0_spring_31 rfl rfl ⟨(Nat.le_of_ble_eq_true rfl), (Nat.le_of_ble_eq_true rfl)⟩ rfl ?_
      refine ct_X0_met (by omega) ?_
      refine Gx_ireturn dX0_spring_34 trivial ?_
      exact kO hw z16
    · refine Gx_baload dX0_spring_16 hh (by first | omega | (simp (disch := omega) only [w32_id]; omega)) ?_
      refine Gx_istore_n_3 dX0_spring_17 (Nat.le_of_ble_eq_true rfl) (Nat.ne_of_beq_eq_false rfl) ?_
      refine Gx_aload_n (i := 0) dX0_spring_18 rfl rfl ?_
      refine gf_X0_126_20 dX0_spring_19 rfl rfl ?_
      refine Gx_iload_n (i := 1) dX0_spring_22 rfl rfl ?_
      refine Gx_iload_n (i := 2) dX0_spring_23 rfl rfl ?_
      refine Gx_i2b dX0_spring_24 ?_
      rw [w8_id (by omega) (by omega)]
      refine Gx_bastore dX0_spring_25 hh (by first | omega | (simp (disch := omega) only [w32_id]; omega)) (by first | omega | (simp (disch := omega) only [w32_id]; omega)) ?_
      refine Gx_iload_n (i := 3) dX0_spring_26 rfl rfl ?_
      refine Gx_ireturn dX0_spring_27 trivial ?_
      exact k1 hw z16
  · refine Gx_if_ne (tgt := 11) dX0_spring_6 (by decide) (fun hz => absurd hz (by decide)) (fun _ => ?_)
    refine Gx_iconst ⟨by decide, by decide⟩ dX0_spring_9 ?_
    refine Gx_ireturn dX0_spring_10 trivial ?_
    exact kB hw
set_option maxHeartbeats 1000000 in
theorem lp_X0_mean {r n : Int} {bc bs : Nat} (ho : aRo v (gHd K) r n) (cont : ∀ z7 : gV, Gx Γ mX0_mean 53 [(2, 0), (0, r), (1, gSum (v (v 2 r)) n.toNat), (9, 0), (2, v 2 r), (0, n), (0, n), z7] [] v (gHd K) t bc bs Q) : ∀ (j : Nat) (i : Int) (z7 : gV), 0 ≤ i → i + j = n → Gx Γ mX0_mean 27 [(2, 0), (0, r), (1, gSum (v (v 2 r)) i.toNat), (9, 0), (2, v 2 r), (0, n), (0, i), z7] [] v (gHd K) t bc bs Q := by
  intro j
  induction j with
  | zero =>
    intro i z7 h0 h1
    obtain ⟨r66, hrh, n0, n1⟩ := ho
    refine Gx_iload dX0_mean_27 rfl ?_
    refine Gx_iload dX0_mean_29 rfl ?_
    refine Gx_icmp_ge (tgt := 53) dX0_mean_31 (by decide) (fun c31 => ?_) (fun c31 => ?_)
    · have e0 : i = n := by omega
      subst e0
      exact cont z7
    · exfalso
      omega
  | succ j ih =>
    intro i z7 h0 h1
    obtain ⟨r66, hrh, n0, n1⟩ := ho
    refine Gx_iload dX0_mean_27 rfl ?_
    refine Gx_iload dX0_mean_29 rfl ?_
    refine Gx_icmp_ge (tgt := 53) dX0_mean_31 (by decide) (fun c31 => ?_) (fun c31 => ?_)
    · exfalso
      omega
    · refine Gx_aload dX0_mean_34 rfl ?_
      refine Gx_iload dX0_mean_36 rfl ?_
      refine Gx_iaload dX0_mean_38 hrh (by first | omega | (simp (disch := omega) only [w32_id]; omega)) ?_
      refine Gx_istore_7 dX0_mean_39 (Nat.le_of_ble_eq_true rfl) (Nat.ne_of_beq_eq_false rfl) ?_
      refine Gx_lload_n (i := 2) dX0_mean_41 rfl rfl ?_
      refine Gx_iload dX0_mean_42 rfl ?_
      refine Gx_i2l dX0_mean_44 ?_
      refine Gx_ladd dX0_mean_45 ?_
      refine Gx_lstore_n_2 dX0_mean_46 (Nat.le_of_ble_eq_true rfl) (Nat.ne_of_beq_eq_false rfl) ?_
      refine Gx_iinc_6 dX0_mean_47 (Nat.le_of_ble_eq_true rfl) (Nat.ne_of_beq_eq_false rfl) ?_
      try simp (disch := omega) only [w32_id]
      refine Gx_goto (tgt := 27) dX0_mean_50 (by decide) ?_
      have e : w64 (gSum (v (v 2 r)) i.toNat + v (v 2 r) i) = gSum (v (v 2 r)) (i + 1).toNat := by
        rw [show (i + 1).toNat = i.toNat + 1 by omega]
        show _ = w64 (gSum (v (v 2 r)) i.toNat + v (v 2 r) (i.toNat : Int))
        rw [show ((i.toNat : Nat) : Int) = i by omega]
      rw [e]
      exact ih (i + 1) _ (by omega) (by omega)
set_option maxHeartbeats 1000000 in
theorem ct_X0_mean {r n : Int} (hfl : Γ.1.stackTraces = false) (hro : 0 ≤ r ∧ r ≤ 5 → v 2 r = -1 ∨ aRo v (gHd K) r n) (kB : ¬ (0 ≤ r ∧ r ≤ 5) → Q (0, -1) v (gHd K) t) (kN : 0 ≤ r ∧ r ≤ 5 → v 2 r = -1 → Q (0, -3) (aMet v 1) (gHd K) (t + 1)) (kZ : 0 ≤ r ∧ r ≤ 5 → aRo v (gHd K) r n → n = 0 → Q (0, -3) (aMet v 4) (gHd K) (t + 3)) (k1 : 0 ≤ r ∧ r ≤ 5 → aRo v (gHd K) r n → n ≠ 0 → Q (0, 1) (gUp v 0 2 (w32 (w64 ((gSum (v (v 2 r)) n.toNat).tdiv n)))) (gHd K) t) : CtrW Γ mX0_mean [(2, 0), (0, r)] v (gHd K) t Q := by
  refine CtrW.ofG (ls := [(2, 0), (0, r), (9, 0), (9, 0), (9, 0), (9, 0), (9, 0), (9, 0)]) rfl rfl rfl rfl rfl ?_
  refine Gx_iload_n (i := 1) dX0_mean_0 rfl rfl ?_
  refine cl_X0_133 dX0_mean_1 rfl ⟨(Nat.le_of_ble_eq_true rfl), (Nat.le_of_ble_eq_true rfl)⟩ rfl ?_
  refine ct_X0_isRow (fun hr => ?_) (fun hr => ?_)
  · refine Gx_if_ne (tgt := 9) dX0_mean_4 (by decide) (fun _ => ?_) (fun hz => absurd hz (by decide))
    refine Gx_lconst0 dX0_mean_9 ?_
    refine Gx_lstore_n_2 dX0_mean_10 (Nat.le_of_ble_eq_true rfl) (Nat.ne_of_beq_eq_false rfl) ?_
    refine Gx_aload_n (i := 0) dX0_mean_11 rfl rfl ?_
    refine gf_X0_28_20 dX0_mean_12 rfl rfl ?_
    refine Gx_iload_n (i := 1) dX0_mean_15 rfl rfl ?_
    refine Gx_aaload15 dX0_mean_16 rfl (by first | omega | (simp (disch := omega) only [w32_id]; omega)) ?_
    refine Gx_astore_4 dX0_mean_17 (Nat.le_of_ble_eq_true rfl) (Nat.ne_of_beq_eq_false rfl) ?_
    refine Gx_aload dX0_mean_19 rfl ?_
    rcases (by rcases hro hr with z | z <;> omega : v 2 r < 0 ∨ 0 ≤ v 2 r) with z21 | z21
    · refine Gx_alen_n (bc' := 7) (bs' := 400) dX0_mean_21 hfl xLd_mean1 (xRm_ok (c := 0) rfl (by decide +kernel)) (by decide) (by decide) z21 ?_
      refine Gx_astore_n_2 dX0_mean_70 (Nat.le_of_ble_eq_true rfl) (Nat.ne_of_beq_eq_false rfl) ?_
      refine Gx_aload_n (i := 0) dX0_mean_71 rfl rfl ?_
      refine Gx_iconst ⟨by decide, by decide⟩ dX0_mean_72 ?_
      refine cl_X0_139 dX0_mean_73 rfl rfl ⟨(Nat.le_of_ble_eq_true rfl), (Nat.le_of_ble_eq_true rfl)⟩ rfl ?_
      refine ct_X0_met (by omega) ?_
      refine Gx_ireturn dX0_mean_76 trivial ?_
      exact kN hr (by rcases hro hr with z | z <;> omega)
    · refine Gx_alen dX0_mean_21 ((hro hr).resolve_left (by omega)).2.1 (by decide) (by decide) ?_
      refine Gx_istore_5 dX0_mean_22 (Nat.le_of_ble_eq_true rfl) (Nat.ne_of_beq_eq_false rfl) ?_
      refine Gx_iconst ⟨by decide, by decide⟩ dX0_mean_24 ?_
      refine Gx_istore_6 dX0_mean_25 (Nat.le_of_ble_eq_true rfl) (Nat.ne_of_beq_eq_false rfl) ?_
      have ho : aRo v (gHd K) r n := (hro hr).resolve_left (by omega)
      have n0 := ho.2.2.1
      refine lp_X0_mean ho (fun z7 => ?_) n.toNat 0 _ (by omega) (by omega)
      refine Gx_aload_n (i := 0) dX0_mean_53 rfl rfl ?_
      refine Gx_lload_n (i := 2) dX0_mean_54 rfl rfl ?_
      refine Gx_aload_n (i := 0) dX0_mean_55 rfl rfl ?_
      refine gf_X0_28_20 dX0_mean_56 rfl rfl ?_
      refine Gx_iload_n (i := 1) dX0_mean_59 rfl rfl ?_
      refine Gx_aaload15 dX0_mean_60 rfl (by first | omega | (simp (disch := omega) only [w32_id]; omega)) ?_
      refine Gx_alen dX0_mean_61 ho.2.1 (by decide) (by decide) ?_
      refine Gx_i2l dX0_mean_62 ?_
      rcases (by omega : n = 0 ∨ n ≠ 0) with z63 | z63
      · refine Gx_ldiv_z (bc' := 5) (bs' := 11) dX0_mean_63 hfl xLd_mean2 (xRm_ok (c := 1) rfl (by decide +kernel)) (by decide) (by decide) z63 ?_
        refine Gx_astore_n_2 dX0_mean_77 (Nat.le_of_ble_eq_true rfl) (Nat.ne_of_beq_eq_false rfl) ?_
        refine Gx_aload_n (i := 0) dX0_mean_78 rfl rfl ?_
        refine Gx_iconst ⟨by decide, by decide⟩ dX0_mean_79 ?_
        refine cl_X0_139 dX0_mean_80 rfl rfl ⟨(Nat.le_of_ble_eq_true rfl), (Nat.le_of_ble_eq_true rfl)⟩ rfl ?_
        refine ct_X0_met (by omega) ?_
        refine Gx_ireturn dX0_mean_83 trivial ?_
        exact kZ hr ho z63
      · refine Gx_ldiv dX0_mean_63 (by first | omega | (simp (disch := omega) only [w32_id]; omega)) ?_
        refine Gx_l2i dX0_mean_64 ?_
        refine Gx_iconst ⟨by decide, by decide⟩ dX0_mean_65 ?_
        refine cl_X0_147 dX0_mean_66 rfl rfl ⟨(Nat.le_of_ble_eq_true rfl), (Nat.le_of_ble_eq_true rfl)⟩ rfl ?_
        refine ct_X0_ask ?_
        refine Gx_ireturn dX0_mean_69 trivial ?_
        exact k1 hr ho z63
  · refine Gx_if_ne (tgt := 9) dX0_mean_4 (by decide) (fun hz => absurd hz (by decide)) (fun _ => ?_)
    refine Gx_iconst ⟨by decide, by decide⟩ dX0_mean_7 ?_
    refine Gx_ireturn dX0_mean_8 trivial ?_
    exact kB hr
end
