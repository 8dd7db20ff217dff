/-! AcornYearsModel: step, powerOf, hope, plan -/
section
variable {Γ : gC} {v : gM} {K : gH} {t : Nat} {Q : gQ}
theorem has_not {x k : Int} (hk : 0 ≤ k ∧ k < 32) : gHas (wXor x (-1)) k = !gHas x k := by
  unfold gHas
  have e2 : Int32.ofInt (wXor x (-1)) = Int32.ofInt x ^^^ Int32.ofInt (-1) := of32_eq rfl
  rw [e2, b_xor, show Int32.ofInt (-1) = -1 by decide, b_m1 k.toNat (by omega)]
  simp
theorem and_iff {x y : Int} : wAnd x y ≠ 0 ↔ ∃ k, 0 ≤ k ∧ k < 32 ∧ gHas x k = true ∧ gHas y k = true := by
  constructor
  · intro h
    refine Classical.byContradiction (fun hn => h ?_)
    refine has_ext (r32_toInt _) (by unfold r32; decide) (fun k k0 k1 => ?_)
    rw [has_and, has_0]
    cases hx : gHas x k
    · rfl
    · cases hy : gHas y k
      · rfl
      · exact absurd ⟨k, k0, k1, hx, hy⟩ hn
  · rintro ⟨k, k0, k1, hx, hy⟩ e
    have h1 := has_and (x := x) (y := y) (k := k)
    rw [e, has_0, hx, hy] at h1
    cases h1
theorem shl_1 : ∀ k : Nat, k < 25 → wShl 1 (k : Int) = 2 ^ k := by decide +kernel
theorem shl_le {n : Int} (h0 : 0 ≤ n) (h1 : n ≤ 24) : wShl 1 n = 2 ^ n.toNat ∧ 1 ≤ wShl 1 n ∧ wShl 1 n ≤ 16777216 := by
  have e := shl_1 n.toNat (by omega)
  rw [show (n.toNat : Int) = n by omega] at e
  have b : ∀ k : Nat, k < 25 → (1 : Int) ≤ 2 ^ k ∧ (2 : Int) ^ k ≤ 16777216 := by decide +kernel
  have := b n.toNat (by omega)
  rw [e]
  exact ⟨rfl, this⟩
theorem oTrip_itH {v0 v v3 : gM} {u : gM} {h : Int} {x : Nat} (hm : mN v = yItH u h x) (h3 : oYr v v3 (yMay (mN v)) h 0) : mN v3 = yItH u h (x + 1) := by
  rw [h3.1, hm]
  rfl

set_option maxHeartbeats 4000000 in
theorem lp_X2_step {h n : Int} {bc bs : Nat} {v0 : gM} (hok : yOK v0) (hy : v0 38 31 ≤ 9999) (hn : 1 ≤ n ∧ n ≤ 200) (k1 : ∀ (v1 : gM) (r : Int), oScr v0 v1 → oStp (mN v0) h n r → Q (0, r) v1 (gHd K) t) : ∀ (j : Nat) (i b : Int) (v : gM) (z5 z6 : gV), 1 ≤ i → i + j = n + 1 → oTrip v0 v → mN v = yItH (mN v0) h (i - 1).toNat → ((b = -9 ∧ ∀ q, 1 ≤ q → q < i → ¬ yCr (yItH (mN v0) h (q - 1).toNat) h) ∨ ((1 ≤ b ∧ b ≤ n) ∧ yCr (yItH (mN v0) h (b - 1).toNat) h ∧ ∀ q, 1 ≤ q → q < b → ¬ yCr (yItH (mN v0) h (q - 1).toNat) h)) → Gx Γ mX2_step 39 [(2, 38), (0, h), (0, n), (0, b), (0, i), z5, z6] [] v (gHd K) t bc bs Q := by
  intro j
  induction j with
  | zero =>
    intro i b v z5 z6 h0 h1 hT hm hI
    have hov : yOK v := yOK_of (by rw [hm]; exact yOK_itH (yOK_N hok) _)
    have hyy : v 38 31 = yItH (mN v0) h (i - 1).toNat 38 31 := by rw [← hm, mN_c (by omega)]
    rw [(yItH_c _).1, mN_c (by omega)] at hyy
    have q22 := oTrip_22 hT
    have h22 := hok.2.2.2.2.1.1
    refine Gx_iload dX2_step_39 rfl ?_
    refine Gx_iload_n (i := 2) dX2_step_41 rfl rfl ?_
    refine Gx_icmp_gt (tgt := 116) dX2_step_42 (by decide) (fun c42 => ?_) (fun c42 => ?_)
    · refine Gx_aload_n (i := 0) dX2_step_116 rfl rfl ?_
      refine cl_X2_296 dX2_step_117 rfl rfl ⟨(Nat.le_of_ble_eq_true rfl), (Nat.le_of_ble_eq_true rfl)⟩ rfl ?_
      refine ct_X2_back (oTrip_cs hok hT).2.2.2.1 (fun v4 hb => ?_)
      refine Gx_iload_n (i := 3) dX2_step_120 rfl rfl ?_
      refine Gx_ireturn dX2_step_121 trivial ?_
      refine k1 v4 b (oTrip_back hT hb).1 ?_
      rcases hI with ⟨e, hz⟩ | hz
      · exact Or.inl ⟨e, fun q q0 q1 => hz q q0 (by omega)⟩
      · exact Or.inr hz
    · exfalso
      omega
  | succ j ih =>
    intro i b v z5 z6 h0 h1 hT hm hI
    have hov : yOK v := yOK_of (by rw [hm]; exact yOK_itH (yOK_N hok) _)
    have hyy : v 38 31 = yItH (mN v0) h (i - 1).toNat 38 31 := by rw [← hm, mN_c (by omega)]
    rw [(yItH_c _).1, mN_c (by omega)] at hyy
    have q22 := oTrip_22 hT
    have h22 := hok.2.2.2.2.1.1
    refine Gx_iload dX2_step_39 rfl ?_
    refine Gx_iload_n (i := 2) dX2_step_41 rfl rfl ?_
    refine Gx_icmp_gt (tgt := 116) dX2_step_42 (by decide) (fun c42 => ?_) (fun c42 => ?_)
    · refine Gx_aload_n (i := 0) dX2_step_116 rfl rfl ?_
      refine cl_X2_296 dX2_step_117 rfl rfl ⟨(Nat.le_of_ble_eq_true rfl), (Nat.le_of_ble_eq_true rfl)⟩ rfl ?_
      refine ct_X2_back (oTrip_cs hok hT).2.2.2.1 (fun v4 hb => ?_)
      refine Gx_iload_n (i := 3) dX2_step_120 rfl rfl ?_
      refine Gx_ireturn dX2_step_121 trivial ?_
      refine k1 v4 b (oTrip_back hT hb).1 ?_
      rcases hI with ⟨e, hz⟩ | hz
      · exact Or.inl ⟨e, fun q q0 q1 => hz q q0 (by omega)⟩
      · exact Or.inr hz
    · refine Gx_iload_n (i := 3) dX2_step_45 rfl rfl ?_
      refine Gx_bipush dX2_step_46 ⟨by decide, by decide⟩ ?_
      refine Gx_icmp_ne (tgt := 116) dX2_step_48 (by decide) (fun c48 => ?_) (fun c48 => ?_)
      · refine Gx_aload_n (i := 0) dX2_step_116 rfl rfl ?_
        refine cl_X2_296 dX2_step_117 rfl rfl ⟨(Nat.le_of_ble_eq_true rfl), (Nat.le_of_ble_eq_true rfl)⟩ rfl ?_
        refine ct_X2_back (oTrip_cs hok hT).2.2.2.1 (fun v4 hb => ?_)
        refine Gx_iload_n (i := 3) dX2_step_120 rfl rfl ?_
        refine Gx_ireturn dX2_step_121 trivial ?_
        refine k1 v4 b (oTrip_back hT hb).1 ?_
        rcases hI with ⟨e, hz⟩ | hz
        · exact Or.inl ⟨e, fun q q0 q1 => hz q q0 (by omega)⟩
        · exact Or.inr hz
      · refine Gx_aload_n (i := 0) dX2_step_51 rfl rfl ?_
        refine Gx_aload_n (i := 0) dX2_step_52 rfl rfl ?_
        refine cl_X2_273 dX2_step_53 rfl rfl ⟨(Nat.le_of_ble_eq_true rfl), (Nat.le_of_ble_eq_true rfl)⟩ rfl ?_
        refine ct_X2_mayY hov ?_
        refine Gx_iload_n (i := 1) dX2_step_56 rfl rfl ?_
        refine Gx_iconst ⟨by decide, by decide⟩ dX2_step_57 ?_
        refine cl_X2_269 dX2_step_58 rfl rfl ⟨(Nat.le_of_ble_eq_true rfl), (Nat.le_of_ble_eq_true rfl)⟩ rfl ?_
        refine ct_X2_passY (yMay_le (yOK_N hov)) hov (by omega) (fun v3 h3 => ?_)
        have hT3 := oTrip_yr hT (by omega) h3
        have hm3 : mN v3 = yItH (mN v0) h (i + 1 - 1).toNat := by
          rw [h3.1, hm, show (i + 1 - 1).toNat = (i - 1).toNat + 1 by omega]
          rfl
        have hbits := h3.2.2.2.2.1
        rw [hm] at hbits
        have e33 : v 38 33 = yItH (mN v0) h (i - 1).toNat 38 33 := by rw [← hm, mN_c (by omega)]
        have cs33 := (oTrip_cs hok hT).2.2.2.1
        have hone : wAnd (v3 38 41) h ≠ 0 ↔ ∃ i', (0 ≤ i' ∧ i' < yItH (mN v0) h (i - 1).toNat 38 33) ∧ yB (yItH (mN v0) h (i - 1).toNat) (yMay (yItH (mN v0) h (i - 1).toNat)) i' = true ∧ gHas h i' = true := by
          rw [and_iff]
          constructor
          · rintro ⟨k, k0, k1, ha, hb⟩
            rw [hbits k k0 k1, Bool.and_eq_true, decide_eq_true_iff] at ha
            exact ⟨k, ⟨k0, by omega⟩, ha.2, hb⟩
          · rintro ⟨k, k0, ha, hb⟩
            refine ⟨k, k0.1, by omega, ?_, hb⟩
            rw [hbits k k0.1 (by omega), Bool.and_eq_true, decide_eq_true_iff]
            exact ⟨by omega, ha⟩
        have hoth : wAnd (v3 38 41) (wXor h (-1)) ≠ 0 ↔ ∃ i', (0 ≤ i' ∧ i' < yItH (mN v0) h (i - 1).toNat 38 33) ∧ yB (yItH (mN v0) h (i - 1).toNat) (yMay (yItH (mN v0) h (i - 1).toNat)) i' = true ∧ gHas h i' = false := by
          rw [and_iff]
          constructor
          · rintro ⟨k, k0, k1, ha, hb⟩
            rw [hbits k k0 k1, Bool.and_eq_true, decide_eq_true_iff] at ha
            rw [has_not ⟨k0, k1⟩] at hb
            exact ⟨k, ⟨k0, by omega⟩, ha.2, by cases hh : gHas h k; rfl; rw [hh] at hb; exact absurd hb (by decide)⟩
          · rintro ⟨k, k0, ha, hb⟩
            refine ⟨k, k0.1, by omega, ?_, ?_⟩
            · rw [hbits k k0.1 (by omega), Bool.and_eq_true, decide_eq_true_iff]
              exact ⟨by omega, ha⟩
            · rw [has_not ⟨k0.1, by omega⟩, hb]
              rfl
        have hcr : yCr (yItH (mN v0) h (i - 1).toNat) h ↔ ¬ (wAnd (v3 38 41) h ≠ 0 ↔ wAnd (v3 38 41) (wXor h (-1)) ≠ 0) := by
          unfold yCr
          rw [hone, hoth]
        refine Gx_aload_n (i := 0) dX2_step_61 rfl rfl ?_
        refine gf_X2_242_22 dX2_step_62 rfl rfl ?_
        refine Gx_iload_n (i := 1) dX2_step_65 rfl rfl ?_
        refine Gx_iand dX2_step_66 ?_
        refine Gx_if_eq (tgt := 74) dX2_step_67 (by decide) (fun c67 => ?_) (fun c67 => ?_)
        · refine Gx_iconst ⟨by decide, by decide⟩ dX2_step_74 ?_
          refine Gx_istore_5 dX2_step_75 (Nat.le_of_ble_eq_true rfl) (Nat.ne_of_beq_eq_false rfl) ?_
          refine Gx_aload_n (i := 0) dX2_step_77 rfl rfl ?_
          refine gf_X2_242_22 dX2_step_78 rfl rfl ?_
          refine Gx_iload_n (i := 1) dX2_step_81 rfl rfl ?_
          refine Gx_iconst ⟨by decide, by decide⟩ dX2_step_82 ?_
          refine Gx_ixor dX2_step_83 ?_
          refine Gx_iand dX2_step_84 ?_
          refine Gx_if_eq (tgt := 92) dX2_step_85 (by decide) (fun c85 => ?_) (fun c85 => ?_)
          · refine Gx_iconst ⟨by decide, by decide⟩ dX2_step_92 ?_
            refine Gx_istore_6 dX2_step_93 (Nat.le_of_ble_eq_true rfl) (Nat.ne_of_beq_eq_false rfl) ?_
            refine Gx_iload dX2_step_95 rfl ?_
            refine Gx_iload dX2_step_97 rfl ?_
            refine Gx_icmp_eq (tgt := 107) dX2_step_99 (by decide) (fun _ => ?_) (fun hz => absurd hz (by decide))
            refine Gx_bipush dX2_step_107 ⟨by decide, by decide⟩ ?_
            refine Gx_istore_n_3 dX2_step_109 (Nat.le_of_ble_eq_true rfl) (Nat.ne_of_beq_eq_false rfl) ?_
            refine Gx_iinc_4 dX2_step_110 (Nat.le_of_ble_eq_true rfl) (Nat.ne_of_beq_eq_false rfl) ?_
            try simp (disch := omega) only [w32_id]
            refine Gx_goto (tgt := 39) dX2_step_113 (by decide) ?_
            refine ih (i + 1) _ v3 _ _ (by omega) (by omega) hT3 hm3 ?_
            rcases hI with ⟨e, hz⟩ | ⟨hz, -⟩
            · first
              | (refine Or.inr ⟨⟨h0, by omega⟩, hcr.2 ?_, hz⟩
                 omega)
              | (refine Or.inl ⟨rfl, fun q q0 q1 => ?_⟩
                 by_cases c : q = i
                 · rw [c, hcr]
                   omega
                 · exact hz q q0 (by omega))
            · exfalso
              omega
          · refine Gx_iconst ⟨by decide, by decide⟩ dX2_step_88 ?_
            refine Gx_goto (tgt := 93) dX2_step_89 (by decide) ?_
            refine Gx_istore_6 dX2_step_93 (Nat.le_of_ble_eq_true rfl) (Nat.ne_of_beq_eq_false rfl) ?_
            refine Gx_iload dX2_step_95 rfl ?_
            refine Gx_iload dX2_step_97 rfl ?_
            refine Gx_icmp_eq (tgt := 107) dX2_step_99 (by decide) (fun hz => absurd hz (by decide)) (fun _ => ?_)
            refine Gx_iload dX2_step_102 rfl ?_
            refine Gx_goto (tgt := 109) dX2_step_104 (by decide) ?_
            refine Gx_istore_n_3 dX2_step_109 (Nat.le_of_ble_eq_true rfl) (Nat.ne_of_beq_eq_false rfl) ?_
            refine Gx_iinc_4 dX2_step_110 (Nat.le_of_ble_eq_true rfl) (Nat.ne_of_beq_eq_false rfl) ?_
            try simp (disch := omega) only [w32_id]
            refine Gx_goto (tgt := 39) dX2_step_113 (by decide) ?_
            refine ih (i + 1) _ v3 _ _ (by omega) (by omega) hT3 hm3 ?_
            rcases hI with ⟨e, hz⟩ | ⟨hz, -⟩
            · first
              | (refine Or.inr ⟨⟨h0, by omega⟩, hcr.2 ?_, hz⟩
                 omega)
              | (refine Or.inl ⟨rfl, fun q q0 q1 => ?_⟩
                 by_cases c : q = i
                 · rw [c, hcr]
                   omega
                 · exact hz q q0 (by omega))
            · exfalso
              omega
        · refine Gx_iconst ⟨by decide, by decide⟩ dX2_step_70 ?_
          refine Gx_goto (tgt := 75) dX2_step_71 (by decide) ?_
          refine Gx_istore_5 dX2_step_75 (Nat.le_of_ble_eq_true rfl) (Nat.ne_of_beq_eq_false rfl) ?_
          refine Gx_aload_n (i := 0) dX2_step_77 rfl rfl ?_
          refine gf_X2_242_22 dX2_step_78 rfl rfl ?_
          refine Gx_iload_n (i := 1) dX2_step_81 rfl rfl ?_
          refine Gx_iconst ⟨by decide, by decide⟩ dX2_step_82 ?_
          refine Gx_ixor dX2_step_83 ?_
          refine Gx_iand dX2_step_84 ?_
          refine Gx_if_eq (tgt := 92) dX2_step_85 (by decide) (fun c85 => ?_) (fun c85 => ?_)
          · refine Gx_iconst ⟨by decide, by decide⟩ dX2_step_92 ?_
            refine Gx_istore_6 dX2_step_93 (Nat.le_of_ble_eq_true rfl) (Nat.ne_of_beq_eq_false rfl) ?_
            refine Gx_iload dX2_step_95 rfl ?_
            refine Gx_iload dX2_step_97 rfl ?_
            refine Gx_icmp_eq (tgt := 107) dX2_step_99 (by decide) (fun hz => absurd hz (by decide)) (fun _ => ?_)
            refine Gx_iload dX2_step_102 rfl ?_
            refine Gx_goto (tgt := 109) dX2_step_104 (by decide) ?_
            refine Gx_istore_n_3 dX2_step_109 (Nat.le_of_ble_eq_true rfl) (Nat.ne_of_beq_eq_false rfl) ?_
            refine Gx_iinc_4 dX2_step_110 (Nat.le_of_ble_eq_true rfl) (Nat.ne_of_beq_eq_false rfl) ?_
            try simp (disch := omega) only [w32_id]
            refine Gx_goto (tgt := 39) dX2_step_113 (by decide) ?_
            refine ih (i + 1) _ v3 _ _ (by omega) (by omega) hT3 hm3 ?_
            rcases hI with ⟨e, hz⟩ | ⟨hz, -⟩
            · first
              | (refine Or.inr ⟨⟨h0, by omega⟩, hcr.2 ?_, hz⟩
                 omega)
              | (refine Or.inl ⟨rfl, fun q q0 q1 => ?_⟩
                 by_cases c : q = i
                 · rw [c, hcr]
                   omega
                 · exact hz q q0 (by omega))
            · exfalso
              omega
          · refine Gx_iconst ⟨by decide, by decide⟩ dX2_step_88 ?_
            refine Gx_goto (tgt := 93) dX2_step_89 (by decide) ?_
            refine Gx_istore_6 dX2_step_93 (Nat.le_of_ble_eq_true rfl) (Nat.ne_of_beq_eq_false rfl) ?_
            refine Gx_iload dX2_step_95 rfl ?_
            refine Gx_iload dX2_step_97 rfl ?_
            refine Gx_icmp_eq (tgt := 107) dX2_step_99 (by decide) (fun _ => ?_) (fun hz => absurd hz (by decide))
            refine Gx_bipush dX2_step_107 ⟨by decide, by decide⟩ ?_
            refine Gx_istore_n_3 dX2_step_109 (Nat.le_of_ble_eq_true rfl) (Nat.ne_of_beq_eq_false rfl) ?_
            refine Gx_iinc_4 dX2_step_110 (Nat.le_of_ble_eq_true rfl) (Nat.ne_of_beq_eq_false rfl) ?_
            try simp (disch := omega) only [w32_id]
            refine Gx_goto (tgt := 39) dX2_step_113 (by decide) ?_
            refine ih (i + 1) _ v3 _ _ (by omega) (by omega) hT3 hm3 ?_
            rcases hI with ⟨e, hz⟩ | ⟨hz, -⟩
            · first
              | (refine Or.inr ⟨⟨h0, by omega⟩, hcr.2 ?_, hz⟩
                 omega)
              | (refine Or.inl ⟨rfl, fun q q0 q1 => ?_⟩
                 by_cases c : q = i
                 · rw [c, hcr]
                   omega
                 · exact hz q q0 (by omega))
            · exfalso
              omega
set_option maxHeartbeats 2000000 in
theorem ct_X2_step {h n : Int} (hok : yOK v) (hy : v 38 31 ≤ 9999) (kB : ¬ ((1 ≤ h ∧ h ≤ wShl 1 (v 38 33) - 2) ∧ 1 ≤ n ∧ n ≤ 200) → Q (0, -1) v (gHd K) t) (k1 : (1 ≤ h ∧ h ≤ wShl 1 (v 38 33) - 2) → (1 ≤ n ∧ n ≤ 200) → ∀ (v1 : gM) (r : Int), oScr v v1 → oStp (mN v) h n r → Q (0, r) v1 (gHd K) t) : Ctr Γ mX2_step [(2, 38), (0, h), (0, n)] v (gHd K) t Q := by
  refine Ctr.ofG (ls := [(2, 38), (0, h), (0, n), (9, 0), (9, 0), (9, 0), (9, 0)]) rfl rfl rfl rfl rfl ?_
  have hs := shl_le hok.2.2.1.1 hok.2.2.1.2
  refine Gx_iload_n (i := 1) dX2_step_0 rfl rfl ?_
  refine Gx_iconst ⟨by decide, by decide⟩ dX2_step_1 ?_
  refine Gx_iconst ⟨by decide, by decide⟩ dX2_step_2 ?_
  refine Gx_aload_n (i := 0) dX2_step_3 rfl rfl ?_
  refine gf_X2_203_22 dX2_step_4 rfl rfl ?_
  refine Gx_ishl dX2_step_7 ?_
  refine Gx_iconst ⟨by decide, by decide⟩ dX2_step_8 ?_
  refine Gx_isub dX2_step_9 ?_
  try simp (disch := omega) only [w32_id]
  refine cl_X2_104 dX2_step_10 rfl ⟨(Nat.le_of_ble_eq_true rfl), (Nat.le_of_ble_eq_true rfl)⟩ rfl ?_
  refine ct_X2_in (fun hh => ?_) (fun hh => ?_)
  · refine Gx_if_eq (tgt := 27) dX2_step_13 (by decide) (fun hz => absurd hz (by decide)) (fun _ => ?_)
    refine Gx_iload_n (i := 2) dX2_step_16 rfl rfl ?_
    refine Gx_iconst ⟨by decide, by decide⟩ dX2_step_17 ?_
    refine Gx_sipush dX2_step_18 ⟨by decide, by decide⟩ ?_
    refine cl_X2_104 dX2_step_21 rfl ⟨(Nat.le_of_ble_eq_true rfl), (Nat.le_of_ble_eq_true rfl)⟩ rfl ?_
    refine ct_X2_in (fun hn => ?_) (fun hn => ?_)
    · refine Gx_if_ne (tgt := 29) dX2_step_24 (by decide) (fun _ => ?_) (fun hz => absurd hz (by decide))
      refine Gx_aload_n (i := 0) dX2_step_29 rfl rfl ?_
      refine cl_X2_286 dX2_step_30 rfl rfl ⟨(Nat.le_of_ble_eq_true rfl), (Nat.le_of_ble_eq_true rfl)⟩ rfl ?_
      refine ct_X2_keep hok.2.2.1 (fun v1 hk => ?_)
      refine Gx_bipush dX2_step_33 ⟨by decide, by decide⟩ ?_
      refine Gx_istore_n_3 dX2_step_35 (Nat.le_of_ble_eq_true rfl) (Nat.ne_of_beq_eq_false rfl) ?_
      refine Gx_iconst ⟨by decide, by decide⟩ dX2_step_36 ?_
      refine Gx_istore_4 dX2_step_37 (Nat.le_of_ble_eq_true rfl) (Nat.ne_of_beq_eq_false rfl) ?_
      refine lp_X2_step hok hy hn (k1 (by omega) hn) n.toNat 1 (-9) v1 _ _ (by omega) (by omega) (oTrip_keep hk) ?_ (Or.inl ⟨rfl, fun q q0 q1 => by omega⟩)
      rw [mN_congr (fun a k hR => hk.1 a k (by unfold yR at hR; omega))]
      rfl
    · refine Gx_if_ne (tgt := 29) dX2_step_24 (by decide) (fun hz => absurd hz (by decide)) (fun _ => ?_)
      refine Gx_iconst ⟨by decide, by decide⟩ dX2_step_27 ?_
      refine Gx_ireturn dX2_step_28 trivial ?_
      exact kB (by omega)
  · refine Gx_if_eq (tgt := 27) dX2_step_13 (by decide) (fun _ => ?_) (fun hz => absurd hz (by decide))
    refine Gx_iconst ⟨by decide, by decide⟩ dX2_step_27 ?_
    refine Gx_ireturn dX2_step_28 trivial ?_
    exact kB (by omega)
theorem pow_le12 {b : Int} (h0 : 0 ≤ b) (h1 : b ≤ 12) : ∀ n : Nat, 0 ≤ b ^ n ∧ b ^ n ≤ 12 ^ n
  | 0 => by simp
  | n + 1 => by
    have g := pow_le12 h0 h1 n
    rw [Int.pow_succ, Int.pow_succ]
    exact mul_le_of g.1 g.2 h0 h1
theorem pow12_6 : ∀ n : Nat, n ≤ 6 → (12 : Int) ^ n ≤ 2985984 := by decide

set_option maxHeartbeats 1000000 in
theorem lp_X2_powerOf {b n : Int} {bc bs : Nat} (hb : 0 ≤ b ∧ b ≤ 12) (hn : 0 ≤ n ∧ n ≤ 6) (k1 : Q (1, b ^ n.toNat) v (gHd K) t) : ∀ (j : Nat) (x : Int), 0 ≤ x → x + j = n → Gx Γ mX2_powerOf 5 [(1, b), (9, 0), (0, n), (1, b ^ x.toNat), (9, 0), (0, x)] [] v (gHd K) t bc bs Q := by
  intro j
  induction j with
  | zero =>
    intro x h0 h1
    have g := pow_le12 hb.1 hb.2 x.toNat
    have g1 := pow12_6 x.toNat (by omega)
    refine Gx_iload dX2_powerOf_5 rfl ?_
    refine Gx_iload_n (i := 2) dX2_powerOf_7 rfl rfl ?_
    refine Gx_icmp_ge (tgt := 21) dX2_powerOf_8 (by decide) (fun c8 => ?_) (fun c8 => ?_)
    · refine Gx_lload_n (i := 3) dX2_powerOf_21 rfl rfl ?_
      refine Gx_lreturn dX2_powerOf_22 rfl ?_
      rw [show x = n by omega]
      exact k1
    · exfalso
      omega
  | succ j ih =>
    intro x h0 h1
    have g := pow_le12 hb.1 hb.2 x.toNat
    have g1 := pow12_6 x.toNat (by omega)
    refine Gx_iload dX2_powerOf_5 rfl ?_
    refine Gx_iload_n (i := 2) dX2_powerOf_7 rfl rfl ?_
    refine Gx_icmp_ge (tgt := 21) dX2_powerOf_8 (by decide) (fun c8 => ?_) (fun c8 => ?_)
    · refine Gx_lload_n (i := 3) dX2_powerOf_21 rfl rfl ?_
      refine Gx_lreturn dX2_powerOf_22 rfl ?_
      exfalso
      omega
    · refine Gx_lload_n (i := 3) dX2_powerOf_11 rfl rfl ?_
      refine Gx_lload_n (i := 0) dX2_powerOf_12 rfl rfl ?_
      refine Gx_lmul dX2_powerOf_13 ?_
      have g2 := mul_le_of g.1 (show _ ≤ 2985984 by omega) hb.1 hb.2
      rw [w64_id (by omega) (by omega)]
      refine Gx_lstore_n_3 dX2_powerOf_14 (Nat.le_of_ble_eq_true rfl) (Nat.ne_of_beq_eq_false rfl) ?_
      refine Gx_iinc_5 dX2_powerOf_15 (Nat.le_of_ble_eq_true rfl) (Nat.ne_of_beq_eq_false rfl) ?_
      try simp (disch := omega) only [w32_id]
      refine Gx_goto (tgt := 5) dX2_powerOf_18 (by decide) ?_
      have hi := ih (x + 1) (by omega) (by omega)
      rw [show (x + 1).toNat = x.toNat + 1 by omega, Int.pow_succ] at hi
      exact hi
theorem ct_X2_powerOf {b n : Int} (hb : 0 ≤ b ∧ b ≤ 12) (hn : 0 ≤ n ∧ n ≤ 6) (k1 : Q (1, b ^ n.toNat) v (gHd K) t) : Ctr Γ mX2_powerOf [(1, b), (0, n)] v (gHd K) t Q := by
  refine Ctr.ofG (ls := [(1, b), (9, 0), (0, n), (9, 0), (9, 0), (9, 0)]) rfl rfl rfl rfl rfl ?_
  refine Gx_lconst1 dX2_powerOf_0 ?_
  refine Gx_lstore_n_3 dX2_powerOf_1 (Nat.le_of_ble_eq_true rfl) (Nat.ne_of_beq_eq_false rfl) ?_
  refine Gx_iconst ⟨by decide, by decide⟩ dX2_powerOf_2 ?_
  refine Gx_istore_5 dX2_powerOf_3 (Nat.le_of_ble_eq_true rfl) (Nat.ne_of_beq_eq_false rfl) ?_
  have hl := lp_X2_powerOf (Γ := Γ) (bc := 0) (bs := 0) hb hn k1 n.toNat 0 (by omega) (by omega)
  rw [show (0 : Int).toNat = 0 from rfl, Int.pow_zero] at hl
  exact hl
set_option maxHeartbeats 4000000 in
theorem lp_X2_hope1 {n sm cd c : Int} {bc bs : Nat} {v0 : gM} (hok : yOK v0) (hc : yCh (mN v0)) (hy : v0 38 31 ≤ 9999) (hn : 1 ≤ n ∧ n ≤ 6) (hc0 : 0 ≤ c ∧ c ≤ 1000) (cont : ∀ (v1 : gM) (z : gV), oTrip v0 v1 → Gx Γ mX2_hope 106 [(2, 38), (0, n), (1, sm), (9, 0), (1, cd), (9, 0), (0, c), (0, (hSt (mN v0) c n.toNat).1), (1, (hSt (mN v0) c n.toNat).2.1), (9, 0), (0, (hSt (mN v0) c n.toNat).2.2.1), (0, n), z] [] v1 (gHd K) t bc bs Q) : ∀ (j : Nat) (x : Int) (v : gM) (z : gV), 0 ≤ x → x + j = n → oTrip v0 v → mN v = (hSt (mN v0) c x.toNat).2.2.2 → Gx Γ mX2_hope 52 [(2, 38), (0, n), (1, sm), (9, 0), (1, cd), (9, 0), (0, c), (0, (hSt (mN v0) c x.toNat).1), (1, (hSt (mN v0) c x.toNat).2.1), (9, 0), (0, (hSt (mN v0) c x.toNat).2.2.1), (0, x), z] [] v (gHd K) t bc bs Q := by
  intro j
  induction j with
  | zero =>
    intro x v z h0 h1 hT hm
    obtain ⟨g1, g2, g3, g4, g5, g6, g7⟩ := hSt_le (yOK_N hok) hc hc0.1 x.toNat
    have hov : yOK v := yOK_of (by rw [hm]; exact g5)
    have hyy : v 38 31 = (hSt (mN v0) c x.toNat).2.2.2 38 31 := by rw [← hm, mN_c (by omega)]
    rw [g7, mN_c (by omega)] at hyy
    have q22 := oTrip_22 hT
    have h22 := hok.2.2.2.2.1.1
    have g12 := pow12_6 x.toNat (by omega)
    refine Gx_iload dX2_hope_52 rfl ?_
    refine Gx_iload_n (i := 1) dX2_hope_54 rfl rfl ?_
    refine Gx_icmp_ge (tgt := 106) dX2_hope_55 (by decide) (fun c55 => ?_) (fun c55 => ?_)
    · have e0 : x = n := by omega
      rw [e0]
      exact cont v z hT
    · exfalso
      omega
  | succ j ih =>
    intro x v z h0 h1 hT hm
    obtain ⟨g1, g2, g3, g4, g5, g6, g7⟩ := hSt_le (yOK_N hok) hc hc0.1 x.toNat
    have hov : yOK v := yOK_of (by rw [hm]; exact g5)
    have hyy : v 38 31 = (hSt (mN v0) c x.toNat).2.2.2 38 31 := by rw [← hm, mN_c (by omega)]
    rw [g7, mN_c (by omega)] at hyy
    have q22 := oTrip_22 hT
    have h22 := hok.2.2.2.2.1.1
    have g12 := pow12_6 x.toNat (by omega)
    refine Gx_iload dX2_hope_52 rfl ?_
    refine Gx_iload_n (i := 1) dX2_hope_54 rfl rfl ?_
    refine Gx_icmp_ge (tgt := 106) dX2_hope_55 (by decide) (fun c55 => ?_) (fun c55 => ?_)
    · exfalso
      omega
    · refine Gx_iload dX2_hope_58 rfl ?_
      refine Gx_iconst ⟨by decide, by decide⟩ dX2_hope_60 ?_
      refine Gx_irem dX2_hope_61 (by first | omega | (simp (disch := omega) only [w32_id]; omega)) ?_
      rw [Int.tmod_eq_emod_of_nonneg g1]
      have hd0 : 0 ≤ (hSt (mN v0) c x.toNat).1 % 3 ∧ (hSt (mN v0) c x.toNat).1 % 3 ≤ 2 := by omega
      refine Gx_istore_12 dX2_hope_62 (Nat.le_of_ble_eq_true rfl) (Nat.ne_of_beq_eq_false rfl) ?_
      refine Gx_iload dX2_hope_64 rfl ?_
      refine Gx_iconst ⟨by decide, by decide⟩ dX2_hope_66 ?_
      refine Gx_idiv dX2_hope_67 (by first | omega | (simp (disch := omega) only [w32_id]; omega)) ?_
      rw [Int.tdiv_eq_ediv_of_nonneg g1]
      rw [w32_id (by omega) (by omega)]
      refine Gx_istore_7 dX2_hope_68 (Nat.le_of_ble_eq_true rfl) (Nat.ne_of_beq_eq_false rfl) ?_
      refine Gx_lload dX2_hope_70 rfl ?_
      refine Gx_aload_n (i := 0) dX2_hope_72 rfl rfl ?_
      refine gf_X2_59_22 dX2_hope_73 rfl rfl ?_
      refine Gx_iload dX2_hope_76 rfl ?_
      refine Gx_iaload dX2_hope_78 rfl (by first | omega | (simp (disch := omega) only [w32_id]; omega)) ?_
      have e55 : v 55 ((hSt (mN v0) c x.toNat).1 % 3) = (hSt (mN v0) c x.toNat).2.2.2 55 ((hSt (mN v0) c x.toNat).1 % 3) := by
        rw [← hm]
        exact (mN_at (by unfold yR; omega)).symm
      rw [e55]
      have cc := hc _ hd0.1 hd0.2
      rw [← g6] at cc
      have pp := mul_le_of g3.1 (show _ ≤ 2985984 by omega) cc.1 cc.2
      refine Gx_i2l dX2_hope_79 ?_
      refine Gx_lmul dX2_hope_80 ?_
      rw [w64_id (by omega) (by omega)]
      refine Gx_lstore_8 dX2_hope_81 (Nat.le_of_ble_eq_true rfl) (Nat.ne_of_beq_eq_false rfl) ?_
      refine Gx_aload_n (i := 0) dX2_hope_83 rfl rfl ?_
      refine Gx_iload dX2_hope_84 rfl ?_
      refine Gx_iconst ⟨by decide, by decide⟩ dX2_hope_86 ?_
      refine Gx_iconst ⟨by decide, by decide⟩ dX2_hope_87 ?_
      refine cl_X2_269 dX2_hope_88 rfl rfl ⟨(Nat.le_of_ble_eq_true rfl), (Nat.le_of_ble_eq_true rfl)⟩ rfl ?_
      refine ct_X2_passY hd0 hov (by omega) (fun v3 h3 => ?_)
      have hT3 := oTrip_yr hT (by omega) h3
      have hm3 : mN v3 = (hSt (mN v0) c (x + 1).toNat).2.2.2 := by
        rw [h3.1, hm, show (x + 1).toNat = x.toNat + 1 by omega]
        rfl
      have d39 : v3 38 39 = ySd (hSt (mN v0) c x.toNat).2.2.2 ((hSt (mN v0) c x.toNat).1 % 3) 0 0 := by rw [h3.2.2.1, hm]
      have bsd := ySd_le (h := 0) (pg := 0) hd0 (yOK_tr g5) g5.2.2.2.2.1 g5.2.2.2.2.2.1 g5.2.2.2.2.2.2.1
      refine Gx_iload dX2_hope_91 rfl ?_
      refine Gx_aload_n (i := 0) dX2_hope_93 rfl rfl ?_
      refine gf_X2_266_22 dX2_hope_94 rfl rfl ?_
      rw [d39]
      refine Gx_iadd dX2_hope_97 ?_
      try simp (disch := omega) only [w32_id]
      refine Gx_istore_10 dX2_hope_98 (Nat.le_of_ble_eq_true rfl) (Nat.ne_of_beq_eq_false rfl) ?_
      refine Gx_iinc_11 dX2_hope_100 (Nat.le_of_ble_eq_true rfl) (Nat.ne_of_beq_eq_false rfl) ?_
      try simp (disch := omega) only [w32_id]
      refine Gx_goto (tgt := 52) dX2_hope_103 (by decide) ?_
      have hi := ih (x + 1) v3 (0, (hSt (mN v0) c x.toNat).1 % 3) (by omega) (by omega) hT3 hm3
      rw [show (x + 1).toNat = x.toNat + 1 by omega] at hi
      exact hi
theorem hSum_le {u : gM} {n : Nat} (hu : yOK u) (hc : yCh u) (hn : n ≤ 6) : ∀ c : Nat, 0 ≤ hSum u n c ∧ hSum u n c ≤ 25798901760 * c
  | 0 => by unfold hSum; omega
  | c + 1 => by
    have g := hSum_le hu hc hn c
    obtain ⟨g1, g2, g3, g4, -⟩ := hSt_le hu hc (show (0 : Int) ≤ (c : Int) by omega) n
    have g12 := pow12_6 n hn
    have p := mul_le_of g3.1 (show _ ≤ 2985984 by omega) g4.1 (show _ ≤ 8640 by omega)
    unfold hSum
    omega
theorem pow3_6 : ∀ n : Nat, n ≤ 6 → (1 : Int) ≤ 3 ^ n ∧ (3 : Int) ^ n ≤ 729 := by decide
theorem pow12_1 : ∀ n : Nat, n ≤ 6 → (1 : Int) ≤ 12 ^ n := by decide

set_option maxHeartbeats 4000000 in
theorem lp_X2_hope2 {n : Int} {bc bs : Nat} {v0 : gM} (hok : yOK v0) (hc : yCh (mN v0)) (hy : v0 38 31 ≤ 9999) (hn : 1 ≤ n ∧ n ≤ 6) (k1 : ∀ v1 : gM, oScr v0 v1 → Q (0, 1) (sFrac v1 (hSum (mN v0) n.toNat (3 ^ n.toNat)) (12 ^ n.toNat)) (gHd K) t) : ∀ (j : Nat) (x : Int) (v : gM) (z7 z8 z9 z10 z11 z12 : gV), 0 ≤ x → x + j = 3 ^ n.toNat → oTrip v0 v → oScr v0 v → Gx Γ mX2_hope 30 [(2, 38), (0, n), (1, hSum (mN v0) n.toNat x.toNat), (9, 0), (1, 3 ^ n.toNat), (9, 0), (0, x), z7, z8, z9, z10, z11, z12] [] v (gHd K) t bc bs Q := by
  intro j
  induction j with
  | zero =>
    intro x v z7 z8 z9 z10 z11 z12 h0 h1 hT hS
    have g36 := pow3_6 n.toNat (by omega)
    have bS := hSum_le (yOK_N hok) hc (show n.toNat ≤ 6 by omega) x.toNat
    obtain ⟨g1, g2, g3, g4, -⟩ := hSt_le (yOK_N hok) hc h0 n.toNat
    have g12 := pow12_6 n.toNat (by omega)
    have pp := mul_le_of g3.1 (show _ ≤ 2985984 by omega) g4.1 (show _ ≤ 8640 by omega)
    have hp0 := pow12_1 n.toNat (by omega)
    refine Gx_iload dX2_hope_30 rfl ?_
    refine Gx_i2l dX2_hope_32 ?_
    refine Gx_lload dX2_hope_33 rfl ?_
    try simp (disch := omega) only [w64_id]
    refine Gx_lcmpif_ge (tgt := 125) dX2_hope_35 dX2_hope_36 (by decide) (fun c35 => ?_) (fun c35 => ?_)
    · refine Gx_aload_n (i := 0) dX2_hope_125 rfl rfl ?_
      refine Gx_lload_n (i := 2) dX2_hope_126 rfl rfl ?_
      refine Gx_ldc2 (n := 12) dX2_hope_127 rfl q1742 (by decide) ?_
      refine Gx_iload_n (i := 1) dX2_hope_130 rfl rfl ?_
      refine cl_X2_364 dX2_hope_131 rfl ⟨(Nat.le_of_ble_eq_true rfl), (Nat.le_of_ble_eq_true rfl)⟩ rfl ?_
      refine ct_X2_powerOf ⟨by decide, by decide⟩ ⟨by omega, by omega⟩ ?_
      refine Gx_iconst ⟨by decide, by decide⟩ dX2_hope_134 ?_
      refine cl_X2_342 dX2_hope_135 rfl rfl ⟨(Nat.le_of_ble_eq_true rfl), (Nat.le_of_ble_eq_true rfl)⟩ rfl ?_
      refine ct_X2_fraction (by omega) ?_
      refine Gx_ireturn dX2_hope_138 trivial ?_
      have kk := k1 v hS
      rw [show (3 : Nat) ^ n.toNat = x.toNat by have : ((3 ^ n.toNat : Nat) : Int) = (3 : Int) ^ n.toNat := by simp
                                                omega] at kk
      exact kk
    · exfalso
      omega
  | succ j ih =>
    intro x v z7 z8 z9 z10 z11 z12 h0 h1 hT hS
    have g36 := pow3_6 n.toNat (by omega)
    have bS := hSum_le (yOK_N hok) hc (show n.toNat ≤ 6 by omega) x.toNat
    obtain ⟨g1, g2, g3, g4, -⟩ := hSt_le (yOK_N hok) hc h0 n.toNat
    have g12 := pow12_6 n.toNat (by omega)
    have pp := mul_le_of g3.1 (show _ ≤ 2985984 by omega) g4.1 (show _ ≤ 8640 by omega)
    have hp0 := pow12_1 n.toNat (by omega)
    refine Gx_iload dX2_hope_30 rfl ?_
    refine Gx_i2l dX2_hope_32 ?_
    refine Gx_lload dX2_hope_33 rfl ?_
    try simp (disch := omega) only [w64_id]
    refine Gx_lcmpif_ge (tgt := 125) dX2_hope_35 dX2_hope_36 (by decide) (fun c35 => ?_) (fun c35 => ?_)
    · exfalso
      omega
    · refine Gx_iload dX2_hope_39 rfl ?_
      refine Gx_istore_7 dX2_hope_41 (Nat.le_of_ble_eq_true rfl) (Nat.ne_of_beq_eq_false rfl) ?_
      refine Gx_lconst1 dX2_hope_43 ?_
      refine Gx_lstore_8 dX2_hope_44 (Nat.le_of_ble_eq_true rfl) (Nat.ne_of_beq_eq_false rfl) ?_
      refine Gx_iconst ⟨by decide, by decide⟩ dX2_hope_46 ?_
      refine Gx_istore_10 dX2_hope_47 (Nat.le_of_ble_eq_true rfl) (Nat.ne_of_beq_eq_false rfl) ?_
      refine Gx_iconst ⟨by decide, by decide⟩ dX2_hope_49 ?_
      refine Gx_istore_11 dX2_hope_50 (Nat.le_of_ble_eq_true rfl) (Nat.ne_of_beq_eq_false rfl) ?_
      refine lp_X2_hope1 hok hc hy hn ⟨h0, by omega⟩ (fun v1 z hT1 => ?_) n.toNat 0 v _ (by omega) (by omega) hT (by rw [oScr_m hS]; rfl)
      refine Gx_aload_n (i := 0) dX2_hope_106 rfl rfl ?_
      refine cl_X2_296 dX2_hope_107 rfl rfl ⟨(Nat.le_of_ble_eq_true rfl), (Nat.le_of_ble_eq_true rfl)⟩ rfl ?_
      refine ct_X2_back (oTrip_cs hok hT1).2.2.2.1 (fun v2 hb => ?_)
      refine Gx_lload_n (i := 2) dX2_hope_110 rfl rfl ?_
      refine Gx_lload dX2_hope_111 rfl ?_
      refine Gx_iload dX2_hope_113 rfl ?_
      refine Gx_i2l dX2_hope_115 ?_
      refine Gx_lmul dX2_hope_116 ?_
      rw [w64_id (x := (hSt (mN v0) x n.toNat).2.1 * (hSt (mN v0) x n.toNat).2.2.1) (by omega) (by omega)]
      refine Gx_ladd dX2_hope_117 ?_
      rw [w64_id (by omega) (by omega)]
      refine Gx_lstore_n_2 dX2_hope_118 (Nat.le_of_ble_eq_true rfl) (Nat.ne_of_beq_eq_false rfl) ?_
      refine Gx_iinc_6 dX2_hope_119 (Nat.le_of_ble_eq_true rfl) (Nat.ne_of_beq_eq_false rfl) ?_
      try simp (disch := omega) only [w32_id]
      refine Gx_goto (tgt := 30) dX2_hope_122 (by decide) ?_
      have hi := ih (x + 1) v2 (0, (hSt (mN v0) x n.toNat).1) (1, (hSt (mN v0) x n.toNat).2.1) (9, 0) (0, (hSt (mN v0) x n.toNat).2.2.1) (0, n) z (by omega) (by omega) (oTrip_back hT1 hb).2 (oTrip_back hT1 hb).1
      rw [show (x + 1).toNat = x.toNat + 1 by omega] at hi
      have eS : hSum (mN v0) n.toNat (x.toNat + 1) = hSum (mN v0) n.toNat x.toNat + (hSt (mN v0) x.toNat n.toNat).2.1 * (hSt (mN v0) x.toNat n.toNat).2.2.1 := rfl
      rw [show (x.toNat : Int) = x by omega] at eS
      rw [eS] at hi
      exact hi
set_option maxHeartbeats 2000000 in
theorem ct_X2_hope {n : Int} (hok : yOK v) (hc : yCh (mN v)) (hy : v 38 31 ≤ 9999) (kB : ¬ (1 ≤ n ∧ n ≤ 6) → Q (0, -1) v (gHd K) t) (k1 : (1 ≤ n ∧ n ≤ 6) → ∀ v1 : gM, oScr v v1 → Q (0, 1) (sFrac v1 (hSum (mN v) n.toNat (3 ^ n.toNat)) (12 ^ n.toNat)) (gHd K) t) : Ctr Γ mX2_hope [(2, 38), (0, n)] v (gHd K) t Q := by
  refine Ctr.ofG (ls := [(2, 38), (0, n), (9, 0), (9, 0), (9, 0), (9, 0), (9, 0), (9, 0), (9, 0), (9, 0), (9, 0), (9, 0), (9, 0)]) rfl rfl rfl rfl rfl ?_
  refine Gx_iload_n (i := 1) dX2_hope_0 rfl rfl ?_
  refine Gx_iconst ⟨by decide, by decide⟩ dX2_hope_1 ?_
  refine Gx_bipush dX2_hope_2 ⟨by decide, by decide⟩ ?_
  refine cl_X2_104 dX2_hope_4 rfl ⟨(Nat.le_of_ble_eq_true rfl), (Nat.le_of_ble_eq_true rfl)⟩ rfl ?_
  refine ct_X2_in (fun hn => ?_) (fun hn => ?_)
  · refine Gx_if_ne (tgt := 12) dX2_hope_7 (by decide) (fun _ => ?_) (fun hz => absurd hz (by decide))
    refine Gx_aload_n (i := 0) dX2_hope_12 rfl rfl ?_
    refine cl_X2_286 dX2_hope_13 rfl rfl ⟨(Nat.le_of_ble_eq_true rfl), (Nat.le_of_ble_eq_true rfl)⟩ rfl ?_
    refine ct_X2_keep hok.2.2.1 (fun v1 hk => ?_)
    refine Gx_lconst0 dX2_hope_16 ?_
    refine Gx_lstore_n_2 dX2_hope_17 (Nat.le_of_ble_eq_true rfl) (Nat.ne_of_beq_eq_false rfl) ?_
    refine Gx_ldc2 (n := 3) dX2_hope_18 rfl q1738 (by decide) ?_
    refine Gx_iload_n (i := 1) dX2_hope_21 rfl rfl ?_
    refine cl_X2_364 dX2_hope_22 rfl ⟨(Nat.le_of_ble_eq_true rfl), (Nat.le_of_ble_eq_true rfl)⟩ rfl ?_
    refine ct_X2_powerOf ⟨by decide, by decide⟩ ⟨by omega, by omega⟩ ?_
    refine Gx_lstore_4 dX2_hope_25 (Nat.le_of_ble_eq_true rfl) (Nat.ne_of_beq_eq_false rfl) ?_
    refine Gx_iconst ⟨by decide, by decide⟩ dX2_hope_27 ?_
    refine Gx_istore_6 dX2_hope_28 (Nat.le_of_ble_eq_true rfl) (Nat.ne_of_beq_eq_false rfl) ?_
    have g36 := pow3_6 n.toNat (by omega)
    refine lp_X2_hope2 hok hc hy hn (k1 hn) (3 ^ n.toNat : Int).toNat 0 v1 _ _ _ _ _ _ (by omega) (by omega) (oTrip_keep hk) (fun a k hq => hk.1 a k (by omega))
  · refine Gx_if_ne (tgt := 12) dX2_hope_7 (by decide) (fun hz => absurd hz (by decide)) (fun _ => ?_)
    refine Gx_iconst ⟨by decide, by decide⟩ dX2_hope_10 ?_
    refine Gx_ireturn dX2_hope_11 trivial ?_
    exact kB hn
theorem ct_X2_hasV {x k : Int} (hk : 0 ≤ k ∧ k < 32) (k1 : Q (0, if gHas x k = true then 1 else 0) v (gHd K) t) : Ctr Γ mX2_has [(0, x), (0, k)] v (gHd K) t Q := by
  refine ct_X2_has hk (fun h => ?_) (fun h => ?_)
  · rw [if_pos h] at k1; exact k1
  · rw [h] at k1; exact k1

set_option maxHeartbeats 4000000 in
theorem lp_X2_plan1 {n q b ms c : Int} {bc bs : Nat} {v0 : gM} (hok : yOK v0) (hy : v0 38 31 ≤ 9999) (hn : 1 ≤ n ∧ n ≤ 10) (cont : ∀ v1 : gM, oTrip v0 v1 → Gx Γ mX2_plan 113 [(2, 38), (0, n), (0, q), (0, b), (0, ms), (0, c), (0, (pSt (mN v0) c n.toNat).1), (0, (pSt (mN v0) c n.toNat).2.1), (0, n)] [] v1 (gHd K) t bc bs Q) : ∀ (j : Nat) (x : Int) (v : gM), 0 ≤ x → x + j = n → oTrip v0 v → mN v = (pSt (mN v0) c x.toNat).2.2 → Gx Γ mX2_plan 53 [(2, 38), (0, n), (0, q), (0, b), (0, ms), (0, c), (0, (pSt (mN v0) c x.toNat).1), (0, (pSt (mN v0) c x.toNat).2.1), (0, x)] [] v (gHd K) t bc bs Q := by
  intro j
  induction j with
  | zero =>
    intro x v h0 h1 hT hm
    obtain ⟨g1, g2, g3, g4⟩ := pSt_le (c := c) (yOK_N hok) x.toNat
    have hov : yOK v := yOK_of (by rw [hm]; exact g3)
    have hyy : v 38 31 = (pSt (mN v0) c x.toNat).2.2 38 31 := by rw [← hm, mN_c (by omega)]
    rw [g4, mN_c (by omega)] at hyy
    have q22 := oTrip_22 hT
    have h22 := hok.2.2.2.2.1.1
    refine Gx_iload dX2_plan_53 rfl ?_
    refine Gx_iload_n (i := 1) dX2_plan_55 rfl rfl ?_
    refine Gx_icmp_ge (tgt := 113) dX2_plan_56 (by decide) (fun c56 => ?_) (fun c56 => ?_)
    · have e0 : x = n := by omega
      rw [e0]
      exact cont v hT
    · exfalso
      omega
  | succ j ih =>
    intro x v h0 h1 hT hm
    obtain ⟨g1, g2, g3, g4⟩ := pSt_le (c := c) (yOK_N hok) x.toNat
    have hov : yOK v := yOK_of (by rw [hm]; exact g3)
    have hyy : v 38 31 = (pSt (mN v0) c x.toNat).2.2 38 31 := by rw [← hm, mN_c (by omega)]
    rw [g4, mN_c (by omega)] at hyy
    have q22 := oTrip_22 hT
    have h22 := hok.2.2.2.2.1.1
    refine Gx_iload dX2_plan_53 rfl ?_
    refine Gx_iload_n (i := 1) dX2_plan_55 rfl rfl ?_
    refine Gx_icmp_ge (tgt := 113) dX2_plan_56 (by decide) (fun c56 => ?_) (fun c56 => ?_)
    · exfalso
      omega
    · refine Gx_aload_n (i := 0) dX2_plan_59 rfl rfl ?_
      refine Gx_aload_n (i := 0) dX2_plan_60 rfl rfl ?_
      refine cl_X2_273 dX2_plan_61 rfl rfl ⟨(Nat.le_of_ble_eq_true rfl), (Nat.le_of_ble_eq_true rfl)⟩ rfl ?_
      refine ct_X2_mayY hov ?_
      refine Gx_iconst ⟨by decide, by decide⟩ dX2_plan_64 ?_
      refine Gx_iload dX2_plan_65 rfl ?_
      refine Gx_iload dX2_plan_67 rfl ?_
      refine cl_X2_239 dX2_plan_69 rfl ⟨(Nat.le_of_ble_eq_true rfl), (Nat.le_of_ble_eq_true rfl)⟩ rfl ?_
      refine ct_X2_hasV ⟨by omega, by omega⟩ ?_
      refine cl_X2_269 dX2_plan_72 rfl rfl ⟨(Nat.le_of_ble_eq_true rfl), (Nat.le_of_ble_eq_true rfl)⟩ rfl ?_
      refine ct_X2_passY (yMay_le (yOK_N hov)) hov (by omega) (fun v3 h3 => ?_)
      have hT3 := oTrip_yr hT (by omega) h3
      have ex : (x.toNat : Int) = x := by omega
      have hm3 : mN v3 = (pSt (mN v0) c (x + 1).toNat).2.2 := by
        rw [h3.1, hm, show (x + 1).toNat = x.toNat + 1 by omega, pSt, ex]
      have d39 : v3 38 39 = ySd (pSt (mN v0) c x.toNat).2.2 (yMay (pSt (mN v0) c x.toNat).2.2) 0 (if gHas c x = true then 1 else 0) := by rw [h3.2.2.1, hm]
      have d38 : v3 38 38 = yAc (pSt (mN v0) c x.toNat).2.2 (yMay (pSt (mN v0) c x.toNat).2.2) 0 := by rw [h3.2.1, hm]
      have bsd := ySd_le (h := 0) (pg := if gHas c x = true then 1 else 0) (yMay_le g3) (yOK_tr g3) g3.2.2.2.2.1 g3.2.2.2.2.2.1 g3.2.2.2.2.2.2.1
      have bac := yAc_le (h := 0) (yMay_le g3) (yOK_tr g3)
      refine Gx_iload dX2_plan_75 rfl ?_
      refine Gx_iload dX2_plan_77 rfl ?_
      refine Gx_iload dX2_plan_79 rfl ?_
      refine cl_X2_239 dX2_plan_81 rfl ⟨(Nat.le_of_ble_eq_true rfl), (Nat.le_of_ble_eq_true rfl)⟩ rfl ?_
      refine ct_X2_hasV ⟨by omega, by omega⟩ ?_
      refine Gx_if_eq (tgt := 94) dX2_plan_84 (by decide) (fun c84 => ?_) (fun c84 => ?_)
      · refine Gx_iconst ⟨by decide, by decide⟩ dX2_plan_94 ?_
        refine Gx_iadd dX2_plan_95 ?_
        try simp (disch := omega) only [w32_id]
        refine Gx_istore_6 dX2_plan_96 (Nat.le_of_ble_eq_true rfl) (Nat.ne_of_beq_eq_false rfl) ?_
        refine Gx_iload dX2_plan_98 rfl ?_
        refine Gx_aload_n (i := 0) dX2_plan_100 rfl rfl ?_
        refine gf_X2_266_22 dX2_plan_101 rfl rfl ?_
        rw [d39]
        refine Gx_iadd dX2_plan_104 ?_
        try simp (disch := omega) only [w32_id]
        refine Gx_istore_7 dX2_plan_105 (Nat.le_of_ble_eq_true rfl) (Nat.ne_of_beq_eq_false rfl) ?_
        refine Gx_iinc_8 dX2_plan_107 (Nat.le_of_ble_eq_true rfl) (Nat.ne_of_beq_eq_false rfl) ?_
        try simp (disch := omega) only [w32_id]
        refine Gx_goto (tgt := 53) dX2_plan_110 (by decide) ?_
        have hi := ih (x + 1) v3 (by omega) (by omega) hT3 hm3
        rw [show (x + 1).toNat = x.toNat + 1 by omega] at hi
        have e1 : (pSt (mN v0) c (x.toNat + 1)).1 = (pSt (mN v0) c x.toNat).1 + (if gHas c x = true then yAc (pSt (mN v0) c x.toNat).2.2 (yMay (pSt (mN v0) c x.toNat).2.2) 0 else 0) := by
          rw [pSt, ex]
        have e2 : (pSt (mN v0) c (x.toNat + 1)).2.1 = (pSt (mN v0) c x.toNat).2.1 + ySd (pSt (mN v0) c x.toNat).2.2 (yMay (pSt (mN v0) c x.toNat).2.2) 0 (if gHas c x = true then 1 else 0) := by
          rw [pSt, ex]
        rw [e1, e2] at hi
        first
        | (have z : gHas c x = true := by
             by_cases z : gHas c x = true
             · exact z
             · rw [if_neg z] at c84
               exact absurd rfl c84
           rw [if_pos z] at hi
           exact hi)
        | (have z : ¬ gHas c x = true := by
             intro z
             rw [if_pos z] at c84
             exact absurd c84 (by decide)
           rw [if_neg (c := gHas c x = true) (t := yAc (pSt (mN v0) c x.toNat).2.2 (yMay (pSt (mN v0) c x.toNat).2.2) 0) z] at hi
           exact hi)
      · refine Gx_aload_n (i := 0) dX2_plan_87 rfl rfl ?_
        refine gf_X2_251_22 dX2_plan_88 rfl rfl ?_
        rw [d38]
        refine Gx_goto (tgt := 95) dX2_plan_91 (by decide) ?_
        refine Gx_iadd dX2_plan_95 ?_
        try simp (disch := omega) only [w32_id]
        refine Gx_istore_6 dX2_plan_96 (Nat.le_of_ble_eq_true rfl) (Nat.ne_of_beq_eq_false rfl) ?_
        refine Gx_iload dX2_plan_98 rfl ?_
        refine Gx_aload_n (i := 0) dX2_plan_100 rfl rfl ?_
        refine gf_X2_266_22 dX2_plan_101 rfl rfl ?_
        rw [d39]
        refine Gx_iadd dX2_plan_104 ?_
        try simp (disch := omega) only [w32_id]
        refine Gx_istore_7 dX2_plan_105 (Nat.le_of_ble_eq_true rfl) (Nat.ne_of_beq_eq_false rfl) ?_
        refine Gx_iinc_8 dX2_plan_107 (Nat.le_of_ble_eq_true rfl) (Nat.ne_of_beq_eq_false rfl) ?_
        try simp (disch := omega) only [w32_id]
        refine Gx_goto (tgt := 53) dX2_plan_110 (by decide) ?_
        have hi := ih (x + 1) v3 (by omega) (by omega) hT3 hm3
        rw [show (x + 1).toNat = x.toNat + 1 by omega] at hi
        have e1 : (pSt (mN v0) c (x.toNat + 1)).1 = (pSt (mN v0) c x.toNat).1 + (if gHas c x = true then yAc (pSt (mN v0) c x.toNat).2.2 (yMay (pSt (mN v0) c x.toNat).2.2) 0 else 0) := by
          rw [pSt, ex]
        have e2 : (pSt (mN v0) c (x.toNat + 1)).2.1 = (pSt (mN v0) c x.toNat).2.1 + ySd (pSt (mN v0) c x.toNat).2.2 (yMay (pSt (mN v0) c x.toNat).2.2) 0 (if gHas c x = true then 1 else 0) := by
          rw [pSt, ex]
        rw [e1, e2] at hi
        first
        | (have z : gHas c x = true := by
             by_cases z : gHas c x = true
             · exact z
             · rw [if_neg z] at c84
               exact absurd rfl c84
           rw [if_pos z] at hi
           exact hi)
        | (have z : ¬ gHas c x = true := by
             intro z
             rw [if_pos z] at c84
             exact absurd c84 (by decide)
           rw [if_neg (c := gHas c x = true) (t := yAc (pSt (mN v0) c x.toNat).2.2 (yMay (pSt (mN v0) c x.toNat).2.2) 0) z] at hi
           exact hi)
set_option maxHeartbeats 4000000 in
theorem lp_X2_plan2 {n q : Int} {bc bs : Nat} {v0 : gM} (hok : yOK v0) (hy : v0 38 31 ≤ 9999) (hn : 1 ≤ n ∧ n ≤ 10) (k9 : (pBest (mN v0) n.toNat q (2 ^ n.toNat)).1 = -9 → ∀ v1 : gM, oScr v0 v1 → Q (0, -9) v1 (gHd K) t) (k1 : (pBest (mN v0) n.toNat q (2 ^ n.toNat)).1 ≠ -9 → ∀ v1 : gM, oScr v0 v1 → Q (0, (pBest (mN v0) n.toNat q (2 ^ n.toNat)).2) (gUp v1 38 2 (pBest (mN v0) n.toNat q (2 ^ n.toNat)).1) (gHd K) t) : ∀ (j : Nat) (x : Int) (v : gM) (z6 z7 z8 : gV), 0 ≤ x → x + j = 2 ^ n.toNat → oTrip v0 v → oScr v0 v → Gx Γ mX2_plan 36 [(2, 38), (0, n), (0, q), (0, (pBest (mN v0) n.toNat q x.toNat).1), (0, (pBest (mN v0) n.toNat q x.toNat).2), (0, x), z6, z7, z8] [] v (gHd K) t bc bs Q := by
  intro j
  induction j with
  | zero =>
    intro x v z6 z7 z8 h0 h1 hT hS
    have hs := shl_le (n := n) (by omega) (by omega)
    have hb2 := pBest_le (u := mN v0) (n := n.toNat) (q := q) x.toNat
    have g22 : ((2 ^ n.toNat : Nat) : Int) = (2 : Int) ^ n.toNat := by simp
    refine Gx_iload dX2_plan_36 rfl ?_
    refine Gx_iconst ⟨by decide, by decide⟩ dX2_plan_38 ?_
    refine Gx_iload_n (i := 1) dX2_plan_39 rfl rfl ?_
    refine Gx_ishl dX2_plan_40 ?_
    rw [hs.1]
    refine Gx_icmp_ge (tgt := 149) dX2_plan_41 (by decide) (fun c41 => ?_) (fun c41 => ?_)
    · refine Gx_iload_n (i := 3) dX2_plan_149 rfl rfl ?_
      refine Gx_bipush dX2_plan_150 ⟨by decide, by decide⟩ ?_
      refine Gx_icmp_ne (tgt := 160) dX2_plan_152 (by decide) (fun c152 => ?_) (fun c152 => ?_)
      · refine Gx_aload_n (i := 0) dX2_plan_160 rfl rfl ?_
        refine Gx_iload_n (i := 3) dX2_plan_161 rfl rfl ?_
        refine Gx_iload dX2_plan_162 rfl ?_
        refine cl_X2_126 dX2_plan_164 rfl rfl ⟨(Nat.le_of_ble_eq_true rfl), (Nat.le_of_ble_eq_true rfl)⟩ rfl ?_
        refine ct_X2_tells ?_
        refine Gx_ireturn dX2_plan_167 trivial ?_
        rw [show (2 : Nat) ^ n.toNat = x.toNat by omega] at k9 k1
        first
        | exact k9 (by omega) v hS
        | exact k1 (by omega) v hS
      · refine Gx_bipush dX2_plan_155 ⟨by decide, by decide⟩ ?_
        refine Gx_goto (tgt := 167) dX2_plan_157 (by decide) ?_
        refine Gx_ireturn dX2_plan_167 trivial ?_
        rw [show (2 : Nat) ^ n.toNat = x.toNat by omega] at k9 k1
        first
        | exact k9 (by omega) v hS
        | exact k1 (by omega) v hS
    · exfalso
      omega
  | succ j ih =>
    intro x v z6 z7 z8 h0 h1 hT hS
    have hs := shl_le (n := n) (by omega) (by omega)
    have hb2 := pBest_le (u := mN v0) (n := n.toNat) (q := q) x.toNat
    have g22 : ((2 ^ n.toNat : Nat) : Int) = (2 : Int) ^ n.toNat := by simp
    refine Gx_iload dX2_plan_36 rfl ?_
    refine Gx_iconst ⟨by decide, by decide⟩ dX2_plan_38 ?_
    refine Gx_iload_n (i := 1) dX2_plan_39 rfl rfl ?_
    refine Gx_ishl dX2_plan_40 ?_
    rw [hs.1]
    refine Gx_icmp_ge (tgt := 149) dX2_plan_41 (by decide) (fun c41 => ?_) (fun c41 => ?_)
    · exfalso
      omega
    · refine Gx_iconst ⟨by decide, by decide⟩ dX2_plan_44 ?_
      refine Gx_istore_6 dX2_plan_45 (Nat.le_of_ble_eq_true rfl) (Nat.ne_of_beq_eq_false rfl) ?_
      refine Gx_iconst ⟨by decide, by decide⟩ dX2_plan_47 ?_
      refine Gx_istore_7 dX2_plan_48 (Nat.le_of_ble_eq_true rfl) (Nat.ne_of_beq_eq_false rfl) ?_
      refine Gx_iconst ⟨by decide, by decide⟩ dX2_plan_50 ?_
      refine Gx_istore_8 dX2_plan_51 (Nat.le_of_ble_eq_true rfl) (Nat.ne_of_beq_eq_false rfl) ?_
      refine lp_X2_plan1 hok hy hn (fun v1 hT1 => ?_) n.toNat 0 v (by omega) (by omega) hT (by rw [oScr_m hS]; rfl)
      refine Gx_aload_n (i := 0) dX2_plan_113 rfl rfl ?_
      refine cl_X2_296 dX2_plan_114 rfl rfl ⟨(Nat.le_of_ble_eq_true rfl), (Nat.le_of_ble_eq_true rfl)⟩ rfl ?_
      refine ct_X2_back (oTrip_cs hok hT1).2.2.2.1 (fun v2 hb => ?_)
      refine Gx_iload dX2_plan_117 rfl ?_
      refine Gx_iload_n (i := 2) dX2_plan_119 rfl rfl ?_
      refine Gx_icmp_lt (tgt := 143) dX2_plan_120 (by decide) (fun c120 => ?_) (fun c120 => ?_)
      · refine Gx_iinc_5 dX2_plan_143 (Nat.le_of_ble_eq_true rfl) (Nat.ne_of_beq_eq_false rfl) ?_
        try simp (disch := omega) only [w32_id]
        refine Gx_goto (tgt := 36) dX2_plan_146 (by decide) ?_
        have hi := ih (x + 1) v2 (0, (pSt (mN v0) x n.toNat).1) (0, (pSt (mN v0) x n.toNat).2.1) (0, n) (by omega) (by omega) (oTrip_back hT1 hb).2 (oTrip_back hT1 hb).1
        rw [show (x + 1).toNat = x.toNat + 1 by omega] at hi
        have eB : pBest (mN v0) n.toNat q (x.toNat + 1) = if q ≤ (pSt (mN v0) x.toNat n.toNat).2.1 ∧ ((pBest (mN v0) n.toNat q x.toNat).1 = -9 ∨ (pBest (mN v0) n.toNat q x.toNat).2 < (pSt (mN v0) x.toNat n.toNat).1) then ((x.toNat : Int), (pSt (mN v0) x.toNat n.toNat).1) else (pBest (mN v0) n.toNat q x.toNat) := rfl
        rw [show (x.toNat : Int) = x by omega] at eB
        first
        | (rw [if_pos (by omega)] at eB
           rw [eB] at hi
           exact hi)
        | (rw [if_neg (by omega)] at eB
           rw [eB] at hi
           exact hi)
      · refine Gx_iload_n (i := 3) dX2_plan_123 rfl rfl ?_
        refine Gx_bipush dX2_plan_124 ⟨by decide, by decide⟩ ?_
        refine Gx_icmp_eq (tgt := 136) dX2_plan_126 (by decide) (fun c126 => ?_) (fun c126 => ?_)
        · refine Gx_iload dX2_plan_136 rfl ?_
          refine Gx_istore_n_3 dX2_plan_138 (Nat.le_of_ble_eq_true rfl) (Nat.ne_of_beq_eq_false rfl) ?_
          refine Gx_iload dX2_plan_139 rfl ?_
          refine Gx_istore_4 dX2_plan_141 (Nat.le_of_ble_eq_true rfl) (Nat.ne_of_beq_eq_false rfl) ?_
          refine Gx_iinc_5 dX2_plan_143 (Nat.le_of_ble_eq_true rfl) (Nat.ne_of_beq_eq_false rfl) ?_
          try simp (disch := omega) only [w32_id]
          refine Gx_goto (tgt := 36) dX2_plan_146 (by decide) ?_
          have hi := ih (x + 1) v2 (0, (pSt (mN v0) x n.toNat).1) (0, (pSt (mN v0) x n.toNat).2.1) (0, n) (by omega) (by omega) (oTrip_back hT1 hb).2 (oTrip_back hT1 hb).1
          rw [show (x + 1).toNat = x.toNat + 1 by omega] at hi
          have eB : pBest (mN v0) n.toNat q (x.toNat + 1) = if q ≤ (pSt (mN v0) x.toNat n.toNat).2.1 ∧ ((pBest (mN v0) n.toNat q x.toNat).1 = -9 ∨ (pBest (mN v0) n.toNat q x.toNat).2 < (pSt (mN v0) x.toNat n.toNat).1) then ((x.toNat : Int), (pSt (mN v0) x.toNat n.toNat).1) else (pBest (mN v0) n.toNat q x.toNat) := rfl
          rw [show (x.toNat : Int) = x by omega] at eB
          first
          | (rw [if_pos (by omega)] at eB
             rw [eB] at hi
             exact hi)
          | (rw [if_neg (by omega)] at eB
             rw [eB] at hi
             exact hi)
        · refine Gx_iload dX2_plan_129 rfl ?_
          refine Gx_iload dX2_plan_131 rfl ?_
          refine Gx_icmp_le (tgt := 143) dX2_plan_133 (by decide) (fun c133 => ?_) (fun c133 => ?_)
          · refine Gx_iinc_5 dX2_plan_143 (Nat.le_of_ble_eq_true rfl) (Nat.ne_of_beq_eq_false rfl) ?_
            try simp (disch := omega) only [w32_id]
            refine Gx_goto (tgt := 36) dX2_plan_146 (by decide) ?_
            have hi := ih (x + 1) v2 (0, (pSt (mN v0) x n.toNat).1) (0, (pSt (mN v0) x n.toNat).2.1) (0, n) (by omega) (by omega) (oTrip_back hT1 hb).2 (oTrip_back hT1 hb).1
            rw [show (x + 1).toNat = x.toNat + 1 by omega] at hi
            have eB : pBest (mN v0) n.toNat q (x.toNat + 1) = if q ≤ (pSt (mN v0) x.toNat n.toNat).2.1 ∧ ((pBest (mN v0) n.toNat q x.toNat).1 = -9 ∨ (pBest (mN v0) n.toNat q x.toNat).2 < (pSt (mN v0) x.toNat n.toNat).1) then ((x.toNat : Int), (pSt (mN v0) x.toNat n.toNat).1) else (pBest (mN v0) n.toNat q x.toNat) := rfl
            rw [show (x.toNat : Int) = x by omega] at eB
            first
            | (rw [if_pos (by omega)] at eB
               rw [eB] at hi
               exact hi)
            | (rw [if_neg (by omega)] at eB
               rw [eB] at hi
               exact hi)
          · refine Gx_iload dX2_plan_136 rfl ?_
            refine Gx_istore_n_3 dX2_plan_138 (Nat.le_of_ble_eq_true rfl) (Nat.ne_of_beq_eq_false rfl) ?_
            refine Gx_iload dX2_plan_139 rfl ?_
            refine Gx_istore_4 dX2_plan_141 (Nat.le_of_ble_eq_true rfl) (Nat.ne_of_beq_eq_false rfl) ?_
            refine Gx_iinc_5 dX2_plan_143 (Nat.le_of_ble_eq_true rfl) (Nat.ne_of_beq_eq_false rfl) ?_
            try simp (disch := omega) only [w32_id]
            refine Gx_goto (tgt := 36) dX2_plan_146 (by decide) ?_
            have hi := ih (x + 1) v2 (0, (pSt (mN v0) x n.toNat).1) (0, (pSt (mN v0) x n.toNat).2.1) (0, n) (by omega) (by omega) (oTrip_back hT1 hb).2 (oTrip_back hT1 hb).1
            rw [show (x + 1).toNat = x.toNat + 1 by omega] at hi
            have eB : pBest (mN v0) n.toNat q (x.toNat + 1) = if q ≤ (pSt (mN v0) x.toNat n.toNat).2.1 ∧ ((pBest (mN v0) n.toNat q x.toNat).1 = -9 ∨ (pBest (mN v0) n.toNat q x.toNat).2 < (pSt (mN v0) x.toNat n.toNat).1) then ((x.toNat : Int), (pSt (mN v0) x.toNat n.toNat).1) else (pBest (mN v0) n.toNat q x.toNat) := rfl
            rw [show (x.toNat : Int) = x by omega] at eB
            first
            | (rw [if_pos (by omega)] at eB
               rw [eB] at hi
               exact hi)
            | (rw [if_neg (by omega)] at eB
               rw [eB] at hi
               exact hi)
set_option maxHeartbeats 2000000 in
theorem ct_X2_plan {n q : Int} (hok : yOK v) (hy : v 38 31 ≤ 9999) (kB : ¬ ((1 ≤ n ∧ n ≤ 10) ∧ 0 ≤ q ∧ q ≤ 9999) → Q (0, -1) v (gHd K) t) (k9 : (1 ≤ n ∧ n ≤ 10) → (0 ≤ q ∧ q ≤ 9999) → (pBest (mN v) n.toNat q (2 ^ n.toNat)).1 = -9 → ∀ v1 : gM, oScr v v1 → Q (0, -9) v1 (gHd K) t) (k1 : (1 ≤ n ∧ n ≤ 10) → (0 ≤ q ∧ q ≤ 9999) → (pBest (mN v) n.toNat q (2 ^ n.toNat)).1 ≠ -9 → ∀ v1 : gM, oScr v v1 → Q (0, (pBest (mN v) n.toNat q (2 ^ n.toNat)).2) (gUp v1 38 2 (pBest (mN v) n.toNat q (2 ^ n.toNat)).1) (gHd K) t) : Ctr Γ mX2_plan [(2, 38), (0, n), (0, q)] v (gHd K) t Q := by
  refine Ctr.ofG (ls := [(2, 38), (0, n), (0, q), (9, 0), (9, 0), (9, 0), (9, 0), (9, 0), (9, 0)]) rfl rfl rfl rfl rfl ?_
  refine Gx_iload_n (i := 1) dX2_plan_0 rfl rfl ?_
  refine Gx_iconst ⟨by decide, by decide⟩ dX2_plan_1 ?_
  refine Gx_bipush dX2_plan_2 ⟨by decide, by decide⟩ ?_
  refine cl_X2_104 dX2_plan_4 rfl ⟨(Nat.le_of_ble_eq_true rfl), (Nat.le_of_ble_eq_true rfl)⟩ rfl ?_
  refine ct_X2_in (fun hn => ?_) (fun hn => ?_)
  · refine Gx_if_eq (tgt := 21) dX2_plan_7 (by decide) (fun hz => absurd hz (by decide)) (fun _ => ?_)
    refine Gx_iload_n (i := 2) dX2_plan_10 rfl rfl ?_
    refine Gx_iconst ⟨by decide, by decide⟩ dX2_plan_11 ?_
    refine Gx_sipush dX2_plan_12 ⟨by decide, by decide⟩ ?_
    refine cl_X2_104 dX2_plan_15 rfl ⟨(Nat.le_of_ble_eq_true rfl), (Nat.le_of_ble_eq_true rfl)⟩ rfl ?_
    refine ct_X2_in (fun hq => ?_) (fun hq => ?_)
    · refine Gx_if_ne (tgt := 23) dX2_plan_18 (by decide) (fun _ => ?_) (fun hz => absurd hz (by decide))
      refine Gx_aload_n (i := 0) dX2_plan_23 rfl rfl ?_
      refine cl_X2_286 dX2_plan_24 rfl rfl ⟨(Nat.le_of_ble_eq_true rfl), (Nat.le_of_ble_eq_true rfl)⟩ rfl ?_
      refine ct_X2_keep hok.2.2.1 (fun v1 hk => ?_)
      refine Gx_bipush dX2_plan_27 ⟨by decide, by decide⟩ ?_
      refine Gx_istore_n_3 dX2_plan_29 (Nat.le_of_ble_eq_true rfl) (Nat.ne_of_beq_eq_false rfl) ?_
      refine Gx_iconst ⟨by decide, by decide⟩ dX2_plan_30 ?_
      refine Gx_istore_4 dX2_plan_31 (Nat.le_of_ble_eq_true rfl) (Nat.ne_of_beq_eq_false rfl) ?_
      refine Gx_iconst ⟨by decide, by decide⟩ dX2_plan_33 ?_
      refine Gx_istore_5 dX2_plan_34 (Nat.le_of_ble_eq_true rfl) (Nat.ne_of_beq_eq_false rfl) ?_
      have hs := shl_le (n := n) (by omega) (by omega)
      refine lp_X2_plan2 hok hy hn (k9 hn hq) (k1 hn hq) (2 ^ n.toNat : Int).toNat 0 v1 _ _ _ (by omega) (by omega) (oTrip_keep hk) (fun a k hq => hk.1 a k (by omega))
    · refine Gx_if_ne (tgt := 23) dX2_plan_18 (by decide) (fun hz => absurd hz (by decide)) (fun _ => ?_)
      refine Gx_iconst ⟨by decide, by decide⟩ dX2_plan_21 ?_
      refine Gx_ireturn dX2_plan_22 trivial ?_
      exact kB (by omega)
  · refine Gx_if_eq (tgt := 21) dX2_plan_7 (by decide) (fun _ => ?_) (fun hz => absurd hz (by decide))
    refine Gx_iconst ⟨by decide, by decide⟩ dX2_plan_21 ?_
    refine Gx_ireturn dX2_plan_22 trivial ?_
    exact kB (by omega)
end
