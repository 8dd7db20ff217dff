/-! AcornYears: treeCount, countsOf, count -/
section
variable {Γ : gC} {v : gM} {K : gH} {t : Nat} {Q : gQ}
theorem lp_X0_treeCount {q : Int} {bc bs : Nat} (hW : aWf v (gHd K)) (hn : 0 ≤ v 0 32 ∧ v 0 32 ≤ 24) (hs : ∀ i, 0 ≤ i → i < v 0 32 → 0 ≤ v (v 16 i) 0 ∧ v (v 16 i) 0 < (gHd K (v 0 7)).2) (k : Q (0, yCnt (fun i => decide (aIs (gHd K (v (v 0 7) (v (v 16 i) 0))).1 q)) (v 0 32).toNat) v (gHd K) t) : ∀ (j : Nat) (i : Int), 0 ≤ i → i + j = v 0 32 → Gx Γ mX0_treeCount 4 [(2, 0), (0, q), (0, yCnt (fun i => decide (aIs (gHd K (v (v 0 7) (v (v 16 i) 0))).1 q)) i.toNat), (0, i)] [] v (gHd K) t bc bs Q := by
  intro j
  induction j with
  | zero =>
    intro i h0 h1
    have bl := yCnt_le (fun i => decide (aIs (gHd K (v (v 0 7) (v (v 16 i) 0))).1 q)) i.toNat
    refine Gx_iload_n (i := 3) dX0_treeCount_4 rfl rfl ?_
    refine Gx_aload_n (i := 0) dX0_treeCount_5 rfl rfl ?_
    refine gf_X0_276_20 dX0_treeCount_6 rfl rfl ?_
    refine Gx_icmp_ge (tgt := 38) dX0_treeCount_9 (by decide) (fun c9 => ?_) (fun c9 => ?_)
    · refine Gx_iload_n (i := 2) dX0_treeCount_38 rfl rfl ?_
      refine Gx_ireturn dX0_treeCount_39 trivial ?_
      have e0 : i = v 0 32 := by omega
      rw [e0]
      exact k
    · exfalso
      omega
  | succ j ih =>
    intro i h0 h1
    have bl := yCnt_le (fun i => decide (aIs (gHd K (v (v 0 7) (v (v 16 i) 0))).1 q)) i.toNat
    have hsi := hs i h0 (by omega)
    obtain ⟨-, hk3, -, -⟩ := hW.2.1 _ hsi.1 hsi.2
    have hTr := hW.2.2.2.1 i h0 (by omega)
    have hh7 := pairEq hW.1.2.1
    have hi24 : i < 24 := by omega
    have hho : gHd K (v (v 0 7) (v (v 16 i) 0)) = ((gHd K (v (v 0 7) (v (v 16 i) 0))).1, (gHd K (v (v 0 7) (v (v 16 i) 0))).2) := rfl
    refine Gx_iload_n (i := 3) dX0_treeCount_4 rfl rfl ?_
    refine Gx_aload_n (i := 0) dX0_treeCount_5 rfl rfl ?_
    refine gf_X0_276_20 dX0_treeCount_6 rfl rfl ?_
    refine Gx_icmp_ge (tgt := 38) dX0_treeCount_9 (by decide) (fun c9 => ?_) (fun c9 => ?_)
    · refine Gx_iload_n (i := 2) dX0_treeCount_38 rfl rfl ?_
      refine Gx_ireturn dX0_treeCount_39 trivial ?_
      exfalso
      omega
    · refine Gx_iload_n (i := 2) dX0_treeCount_12 rfl rfl ?_
      refine Gx_aload_n (i := 0) dX0_treeCount_13 rfl rfl ?_
      refine Gx_iload_n (i := 3) dX0_treeCount_14 rfl rfl ?_
      refine cl_X0_356 dX0_treeCount_15 rfl rfl ⟨(Nat.le_of_ble_eq_true rfl), (Nat.le_of_ble_eq_true rfl)⟩ rfl ?_
      refine ct_X0_sortOf (s := v (v 16 i) 0) hh7 ⟨h0, hi24⟩ (pairEq hTr.2) rfl hsi ?_
      refine Gx_iload_n (i := 1) dX0_treeCount_18 rfl rfl ?_
      refine gv_X0_416 dX0_treeCount_19 rfl hho hk3 ⟨(Nat.le_of_ble_eq_true rfl), (Nat.le_of_ble_eq_true rfl)⟩ rfl (fun hA => ?_) (fun hA => ?_)
      · refine Gx_if_eq (tgt := 29) dX0_treeCount_22 (by decide) (fun hz => absurd hz (by decide)) (fun _ => ?_)
        refine Gx_iconst ⟨by decide, by decide⟩ dX0_treeCount_25 ?_
        refine Gx_goto (tgt := 30) dX0_treeCount_26 (by decide) ?_
        refine Gx_iadd dX0_treeCount_30 ?_
        try simp (disch := omega) only [w32_id]
        refine Gx_istore_n_2 dX0_treeCount_31 (Nat.le_of_ble_eq_true rfl) (Nat.ne_of_beq_eq_false rfl) ?_
        refine Gx_iinc_3 dX0_treeCount_32 (Nat.le_of_ble_eq_true rfl) (Nat.ne_of_beq_eq_false rfl) ?_
        try simp (disch := omega) only [w32_id]
        refine Gx_goto (tgt := 4) dX0_treeCount_35 (by decide) ?_
        have hi := ih (i + 1) (by omega) (by omega)
        rw [yCnt_s h0] at hi
        first
        | (rw [if_pos (decide_eq_true hA)] at hi
           exact hi)
        | (rw [if_neg (show ¬ decide _ = true by rw [decide_eq_true_iff]; exact hA)] at hi
           exact hi)
      · refine Gx_if_eq (tgt := 29) dX0_treeCount_22 (by decide) (fun _ => ?_) (fun hz => absurd hz (by decide))
        refine Gx_iconst ⟨by decide, by decide⟩ dX0_treeCount_29 ?_
        refine Gx_iadd dX0_treeCount_30 ?_
        try simp (disch := omega) only [w32_id]
        refine Gx_istore_n_2 dX0_treeCount_31 (Nat.le_of_ble_eq_true rfl) (Nat.ne_of_beq_eq_false rfl) ?_
        refine Gx_iinc_3 dX0_treeCount_32 (Nat.le_of_ble_eq_true rfl) (Nat.ne_of_beq_eq_false rfl) ?_
        try simp (disch := omega) only [w32_id]
        refine Gx_goto (tgt := 4) dX0_treeCount_35 (by decide) ?_
        have hi := ih (i + 1) (by omega) (by omega)
        rw [yCnt_s h0] at hi
        first
        | (rw [if_pos (decide_eq_true hA)] at hi
           exact hi)
        | (rw [if_neg (show ¬ decide _ = true by rw [decide_eq_true_iff]; exact hA)] at hi
           exact hi)
theorem ct_X0_treeCount {q : Int} (hW : aWf v (gHd K)) (hn : 0 ≤ v 0 32 ∧ v 0 32 ≤ 24) (hs : ∀ i, 0 ≤ i → i < v 0 32 → 0 ≤ v (v 16 i) 0 ∧ v (v 16 i) 0 < (gHd K (v 0 7)).2) (k : Q (0, yCnt (fun i => decide (aIs (gHd K (v (v 0 7) (v (v 16 i) 0))).1 q)) (v 0 32).toNat) v (gHd K) t) : Ctr Γ mX0_treeCount [(2, 0), (0, q)] v (gHd K) t Q := by
  refine Ctr.ofG (ls := [(2, 0), (0, q), (9, 0), (9, 0)]) rfl rfl rfl rfl rfl ?_
  refine Gx_iconst ⟨by decide, by decide⟩ dX0_treeCount_0 ?_
  refine Gx_istore_n_2 dX0_treeCount_1 (Nat.le_of_ble_eq_true rfl) (Nat.ne_of_beq_eq_false rfl) ?_
  refine Gx_iconst ⟨by decide, by decide⟩ dX0_treeCount_2 ?_
  refine Gx_istore_n_3 dX0_treeCount_3 (Nat.le_of_ble_eq_true rfl) (Nat.ne_of_beq_eq_false rfl) ?_
  exact lp_X0_treeCount hW hn hs k (v 0 32).toNat 0 (by omega) (by omega)
end
