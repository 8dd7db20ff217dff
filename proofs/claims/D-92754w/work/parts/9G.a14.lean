/-! AcornYears: counts -/
section
variable {Γ : gC} {v : gM} {K : gH} {t : Nat} {Q : gQ}
theorem lp_X0_rowCount {bc bs : Nat} (hr : ∀ r, 0 ≤ r → r < 6 → -1 ≤ v 2 r) (k : Q (0, yCnt (fun r => decide (0 ≤ v 2 r)) 6) v (gHd K) t) : ∀ (j : Nat) (i : Int) (z5 : gV), 0 ≤ i → i + j = 6 → Gx Γ mX0_rowCount 13 [(2, 0), (0, yCnt (fun r => decide (0 ≤ v 2 r)) i.toNat), (2, 2), (0, 6), (0, i), z5] [] v (gHd K) t bc bs Q := by
  intro j
  induction j with
  | zero =>
    intro i z5 h0 h1
    have bl := yCnt_le (fun r => decide (0 ≤ v 2 r)) i.toNat
    refine Gx_iload dX0_rowCount_13 rfl ?_
    refine Gx_iload_n (i := 3) dX0_rowCount_15 rfl rfl ?_
    refine Gx_icmp_ge (tgt := 44) dX0_rowCount_16 (by decide) (fun c16 => ?_) (fun c16 => ?_)
    · refine Gx_iload_n (i := 1) dX0_rowCount_44 rfl rfl ?_
      refine Gx_ireturn dX0_rowCount_45 trivial ?_
      have e0 : i = 6 := by omega
      rw [e0]
      exact k
    · exfalso
      omega
  | succ j ih =>
    intro i z5 h0 h1
    have bl := yCnt_le (fun r => decide (0 ≤ v 2 r)) i.toNat
    have hri := hr i h0 (by omega)
    refine Gx_iload dX0_rowCount_13 rfl ?_
    refine Gx_iload_n (i := 3) dX0_rowCount_15 rfl rfl ?_
    refine Gx_icmp_ge (tgt := 44) dX0_rowCount_16 (by decide) (fun c16 => ?_) (fun c16 => ?_)
    · refine Gx_iload_n (i := 1) dX0_rowCount_44 rfl rfl ?_
      refine Gx_ireturn dX0_rowCount_45 trivial ?_
      exfalso
      omega
    · refine Gx_aload_n (i := 2) dX0_rowCount_19 rfl rfl ?_
      refine Gx_iload dX0_rowCount_20 rfl ?_
      refine Gx_aaload15 dX0_rowCount_22 rfl (by first | omega | (simp (disch := omega) only [w32_id]; omega)) ?_
      refine Gx_astore_5 dX0_rowCount_23 (Nat.le_of_ble_eq_true rfl) (Nat.ne_of_beq_eq_false rfl) ?_
      refine Gx_iload_n (i := 1) dX0_rowCount_25 rfl rfl ?_
      refine Gx_aload dX0_rowCount_26 rfl ?_
      refine Gx_ifnonnull (tgt := 35) dX0_rowCount_28 (by decide) (fun c28 => ?_) (fun c28 => ?_)
      · refine Gx_iconst ⟨by decide, by decide⟩ dX0_rowCount_35 ?_
        refine Gx_iadd dX0_rowCount_36 ?_
        try simp (disch := omega) only [w32_id]
        refine Gx_istore_n_1 dX0_rowCount_37 (Nat.le_of_ble_eq_true rfl) (Nat.ne_of_beq_eq_false rfl) ?_
        refine Gx_iinc_4 dX0_rowCount_38 (Nat.le_of_ble_eq_true rfl) (Nat.ne_of_beq_eq_false rfl) ?_
        try simp (disch := omega) only [w32_id]
        refine Gx_goto (tgt := 13) dX0_rowCount_41 (by decide) ?_
        have hi := ih (i + 1) (2, v 2 i) (by omega) (by omega)
        rw [yCnt_s h0] at hi
        first
        | (rw [if_pos (decide_eq_true (show 0 ≤ v 2 i by omega))] at hi
           exact hi)
        | (rw [if_neg (show ¬ decide (0 ≤ v 2 i) = true by rw [decide_eq_true_iff]; omega)] at hi
           exact hi)
      · refine Gx_iconst ⟨by decide, by decide⟩ dX0_rowCount_31 ?_
        refine Gx_goto (tgt := 36) dX0_rowCount_32 (by decide) ?_
        refine Gx_iadd dX0_rowCount_36 ?_
        try simp (disch := omega) only [w32_id]
        refine Gx_istore_n_1 dX0_rowCount_37 (Nat.le_of_ble_eq_true rfl) (Nat.ne_of_beq_eq_false rfl) ?_
        refine Gx_iinc_4 dX0_rowCount_38 (Nat.le_of_ble_eq_true rfl) (Nat.ne_of_beq_eq_false rfl) ?_
        try simp (disch := omega) only [w32_id]
        refine Gx_goto (tgt := 13) dX0_rowCount_41 (by decide) ?_
        have hi := ih (i + 1) (2, v 2 i) (by omega) (by omega)
        rw [yCnt_s h0] at hi
        first
        | (rw [if_pos (decide_eq_true (show 0 ≤ v 2 i by omega))] at hi
           exact hi)
        | (rw [if_neg (show ¬ decide (0 ≤ v 2 i) = true by rw [decide_eq_true_iff]; omega)] at hi
           exact hi)
theorem ct_X0_rowCount  (hr : ∀ r, 0 ≤ r → r < 6 → -1 ≤ v 2 r) (k : Q (0, yCnt (fun r => decide (0 ≤ v 2 r)) 6) v (gHd K) t) : Ctr Γ mX0_rowCount [(2, 0)] v (gHd K) t Q := by
  refine Ctr.ofG (ls := [(2, 0), (9, 0), (9, 0), (9, 0), (9, 0), (9, 0)]) rfl rfl rfl rfl rfl ?_
  refine Gx_iconst ⟨by decide, by decide⟩ dX0_rowCount_0 ?_
  refine Gx_istore_n_1 dX0_rowCount_1 (Nat.le_of_ble_eq_true rfl) (Nat.ne_of_beq_eq_false rfl) ?_
  refine Gx_aload_n (i := 0) dX0_rowCount_2 rfl rfl ?_
  refine gf_X0_28_20 dX0_rowCount_3 rfl rfl ?_
  refine Gx_astore_n_2 dX0_rowCount_6 (Nat.le_of_ble_eq_true rfl) (Nat.ne_of_beq_eq_false rfl) ?_
  refine Gx_aload_n (i := 2) dX0_rowCount_7 rfl rfl ?_
  refine Gx_alen dX0_rowCount_8 rfl (by decide) (by decide) ?_
  refine Gx_istore_n_3 dX0_rowCount_9 (Nat.le_of_ble_eq_true rfl) (Nat.ne_of_beq_eq_false rfl) ?_
  refine Gx_iconst ⟨by decide, by decide⟩ dX0_rowCount_10 ?_
  refine Gx_istore_4 dX0_rowCount_11 (Nat.le_of_ble_eq_true rfl) (Nat.ne_of_beq_eq_false rfl) ?_
  exact lp_X0_rowCount hr k 6 0 _ (by omega) (by omega)
theorem lp_X0_textCount {bc bs : Nat} (hr : ∀ r, 0 ≤ r → r < 4 → -1 ≤ v 3 r) (k : Q (0, yCnt (fun r => decide (0 ≤ v 3 r)) 4) v (gHd K) t) : ∀ (j : Nat) (i : Int) (z5 : gV), 0 ≤ i → i + j = 4 → Gx Γ mX0_textCount 13 [(2, 0), (0, yCnt (fun r => decide (0 ≤ v 3 r)) i.toNat), (2, 3), (0, 4), (0, i), z5] [] v (gHd K) t bc bs Q := by
  intro j
  induction j with
  | zero =>
    intro i z5 h0 h1
    have bl := yCnt_le (fun r => decide (0 ≤ v 3 r)) i.toNat
    refine Gx_iload dX0_textCount_13 rfl ?_
    refine Gx_iload_n (i := 3) dX0_textCount_15 rfl rfl ?_
    refine Gx_icmp_ge (tgt := 44) dX0_textCount_16 (by decide) (fun c16 => ?_) (fun c16 => ?_)
    · refine Gx_iload_n (i := 1) dX0_textCount_44 rfl rfl ?_
      refine Gx_ireturn dX0_textCount_45 trivial ?_
      have e0 : i = 4 := by omega
      rw [e0]
      exact k
    · exfalso
      omega
  | succ j ih =>
    intro i z5 h0 h1
    have bl := yCnt_le (fun r => decide (0 ≤ v 3 r)) i.toNat
    have hri := hr i h0 (by omega)
    refine Gx_iload dX0_textCount_13 rfl ?_
    refine Gx_iload_n (i := 3) dX0_textCount_15 rfl rfl ?_
    refine Gx_icmp_ge (tgt := 44) dX0_textCount_16 (by decide) (fun c16 => ?_) (fun c16 => ?_)
    · refine Gx_iload_n (i := 1) dX0_textCount_44 rfl rfl ?_
      refine Gx_ireturn dX0_textCount_45 trivial ?_
      exfalso
      omega
    · refine Gx_aload_n (i := 2) dX0_textCount_19 rfl rfl ?_
      refine Gx_iload dX0_textCount_20 rfl ?_
      refine Gx_aaload16 dX0_textCount_22 rfl (by first | omega | (simp (disch := omega) only [w32_id]; omega)) ?_
      refine Gx_astore_5 dX0_textCount_23 (Nat.le_of_ble_eq_true rfl) (Nat.ne_of_beq_eq_false rfl) ?_
      refine Gx_iload_n (i := 1) dX0_textCount_25 rfl rfl ?_
      refine Gx_aload dX0_textCount_26 rfl ?_
      refine Gx_ifnonnull (tgt := 35) dX0_textCount_28 (by decide) (fun c28 => ?_) (fun c28 => ?_)
      · refine Gx_iconst ⟨by decide, by decide⟩ dX0_textCount_35 ?_
        refine Gx_iadd dX0_textCount_36 ?_
        try simp (disch := omega) only [w32_id]
        refine Gx_istore_n_1 dX0_textCount_37 (Nat.le_of_ble_eq_true rfl) (Nat.ne_of_beq_eq_false rfl) ?_
        refine Gx_iinc_4 dX0_textCount_38 (Nat.le_of_ble_eq_true rfl) (Nat.ne_of_beq_eq_false rfl) ?_
        try simp (disch := omega) only [w32_id]
        refine Gx_goto (tgt := 13) dX0_textCount_41 (by decide) ?_
        have hi := ih (i + 1) (2, v 3 i) (by omega) (by omega)
        rw [yCnt_s h0] at hi
        first
        | (rw [if_pos (decide_eq_true (show 0 ≤ v 3 i by omega))] at hi
           exact hi)
        | (rw [if_neg (show ¬ decide (0 ≤ v 3 i) = true by rw [decide_eq_true_iff]; omega)] at hi
           exact hi)
      · refine Gx_iconst ⟨by decide, by decide⟩ dX0_textCount_31 ?_
        refine Gx_goto (tgt := 36) dX0_textCount_32 (by decide) ?_
        refine Gx_iadd dX0_textCount_36 ?_
        try simp (disch := omega) only [w32_id]
        refine Gx_istore_n_1 dX0_textCount_37 (Nat.le_of_ble_eq_true rfl) (Nat.ne_of_beq_eq_false rfl) ?_
        refine Gx_iinc_4 dX0_textCount_38 (Nat.le_of_ble_eq_true rfl) (Nat.ne_of_beq_eq_false rfl) ?_
        try simp (disch := omega) only [w32_id]
        refine Gx_goto (tgt := 13) dX0_textCount_41 (by decide) ?_
        have hi := ih (i + 1) (2, v 3 i) (by omega) (by omega)
        rw [yCnt_s h0] at hi
        first
        | (rw [if_pos (decide_eq_true (show 0 ≤ v 3 i by omega))] at hi
           exact hi)
        | (rw [if_neg (show ¬ decide (0 ≤ v 3 i) = true by rw [decide_eq_true_iff]; omega)] at hi
           exact hi)
theorem ct_X0_textCount  (hr : ∀ r, 0 ≤ r → r < 4 → -1 ≤ v 3 r) (k : Q (0, yCnt (fun r => decide (0 ≤ v 3 r)) 4) v (gHd K) t) : Ctr Γ mX0_textCount [(2, 0)] v (gHd K) t Q := by
  refine Ctr.ofG (ls := [(2, 0), (9, 0), (9, 0), (9, 0), (9, 0), (9, 0)]) rfl rfl rfl rfl rfl ?_
  refine Gx_iconst ⟨by decide, by decide⟩ dX0_textCount_0 ?_
  refine Gx_istore_n_1 dX0_textCount_1 (Nat.le_of_ble_eq_true rfl) (Nat.ne_of_beq_eq_false rfl) ?_
  refine Gx_aload_n (i := 0) dX0_textCount_2 rfl rfl ?_
  refine gf_X0_34_20 dX0_textCount_3 rfl rfl ?_
  refine Gx_astore_n_2 dX0_textCount_6 (Nat.le_of_ble_eq_true rfl) (Nat.ne_of_beq_eq_false rfl) ?_
  refine Gx_aload_n (i := 2) dX0_textCount_7 rfl rfl ?_
  refine Gx_alen dX0_textCount_8 rfl (by decide) (by decide) ?_
  refine Gx_istore_n_3 dX0_textCount_9 (Nat.le_of_ble_eq_true rfl) (Nat.ne_of_beq_eq_false rfl) ?_
  refine Gx_iconst ⟨by decide, by decide⟩ dX0_textCount_10 ?_
  refine Gx_istore_4 dX0_textCount_11 (Nat.le_of_ble_eq_true rfl) (Nat.ne_of_beq_eq_false rfl) ?_
  exact lp_X0_textCount hr k 4 0 _ (by omega) (by omega)
end
