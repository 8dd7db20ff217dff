/-! AcornYears: countsOf, count -/
section
variable {Γ : gC} {v : gM} {K : gH} {t : Nat} {Q : gQ}
def aCnt (v : gM) (h : gH) (q : Int) : Int := if q = 0 then yCnt (fun r => decide (0 ≤ v 2 r)) 6 else if q = 1 then yCnt (fun r => decide (0 ≤ v 3 r)) 4 else if q = 2 then (h (v 0 7)).2 else if q = 3 then v 0 32 else if q = 4 then yCnt (fun i => decide (aIs (h (v (v 0 7) (v (v 16 i) 0))).1 2)) (v 0 32).toNat else v 0 12

set_option maxHeartbeats 1000000 in
theorem ct_X0_countsOf {q : Int} (hr : ∀ r, 0 ≤ r → r < 6 → -1 ≤ v 2 r) (hx : ∀ r, 0 ≤ r → r < 4 → -1 ≤ v 3 r) (hW : aWf v (gHd K)) (hn : 0 ≤ v 0 32 ∧ v 0 32 ≤ 24) (hs : ∀ i, 0 ≤ i → i < v 0 32 → 0 ≤ v (v 16 i) 0 ∧ v (v 16 i) 0 < (gHd K (v 0 7)).2) (hq : 0 ≤ q ∧ q ≤ 5) (k : Q (0, aCnt v (gHd K) q) v (gHd K) t) : Ctr Γ mX0_countsOf [(2, 0), (0, q)] v (gHd K) t Q := by
  refine Ctr.ofG (ls := [(2, 0), (0, q)]) rfl rfl rfl rfl rfl ?_
  refine Gx_iload_n (i := 1) dX0_countsOf_0 rfl rfl ?_
  rcases (by omega : q = 0 ∨ q = 1 ∨ q = 2 ∨ q = 3 ∨ q = 4 ∨ (q < 0 ∨ 4 < q)) with w1 | w1 | w1 | w1 | w1 | w1
  · rw [w1]
    refine Gx_tableIn (off := 35) (tgt := 36) dX0_countsOf_1 (by decide) (by decide) rfl (by decide) ?_
    refine Gx_aload_n (i := 0) dX0_countsOf_36 rfl rfl ?_
    refine cl_X0_500 dX0_countsOf_37 rfl rfl ⟨(Nat.le_of_ble_eq_true rfl), (Nat.le_of_ble_eq_true rfl)⟩ rfl ?_
    refine ct_X0_rowCount hr ?_
    refine Gx_ireturn dX0_countsOf_40 trivial ?_
    unfold aCnt at k
    first
    | (subst w1; exact k)
    | (rw [if_neg (by omega), if_neg (by omega), if_neg (by omega), if_neg (by omega), if_neg (by omega)] at k
       exact k)
  · rw [w1]
    refine Gx_tableIn (off := 40) (tgt := 41) dX0_countsOf_1 (by decide) (by decide) rfl (by decide) ?_
    refine Gx_aload_n (i := 0) dX0_countsOf_41 rfl rfl ?_
    refine cl_X0_503 dX0_countsOf_42 rfl rfl ⟨(Nat.le_of_ble_eq_true rfl), (Nat.le_of_ble_eq_true rfl)⟩ rfl ?_
    refine ct_X0_textCount hx ?_
    refine Gx_ireturn dX0_countsOf_45 trivial ?_
    unfold aCnt at k
    first
    | (subst w1; exact k)
    | (rw [if_neg (by omega), if_neg (by omega), if_neg (by omega), if_neg (by omega), if_neg (by omega)] at k
       exact k)
  · rw [w1]
    refine Gx_tableIn (off := 45) (tgt := 46) dX0_countsOf_1 (by decide) (by decide) rfl (by decide) ?_
    refine Gx_aload_n (i := 0) dX0_countsOf_46 rfl rfl ?_
    refine gf_X0_40_20 dX0_countsOf_47 rfl rfl ?_
    refine Gx_alen dX0_countsOf_50 (pairEq hW.1.2.1) (by decide) (by decide) ?_
    refine Gx_ireturn dX0_countsOf_51 trivial ?_
    unfold aCnt at k
    first
    | (subst w1; exact k)
    | (rw [if_neg (by omega), if_neg (by omega), if_neg (by omega), if_neg (by omega), if_neg (by omega)] at k
       exact k)
  · rw [w1]
    refine Gx_tableIn (off := 51) (tgt := 52) dX0_countsOf_1 (by decide) (by decide) rfl (by decide) ?_
    refine Gx_aload_n (i := 0) dX0_countsOf_52 rfl rfl ?_
    refine gf_X0_276_20 dX0_countsOf_53 rfl rfl ?_
    refine Gx_ireturn dX0_countsOf_56 trivial ?_
    unfold aCnt at k
    first
    | (subst w1; exact k)
    | (rw [if_neg (by omega), if_neg (by omega), if_neg (by omega), if_neg (by omega), if_neg (by omega)] at k
       exact k)
  · rw [w1]
    refine Gx_tableIn (off := 56) (tgt := 57) dX0_countsOf_1 (by decide) (by decide) rfl (by decide) ?_
    refine Gx_aload_n (i := 0) dX0_countsOf_57 rfl rfl ?_
    refine Gx_iconst ⟨by decide, by decide⟩ dX0_countsOf_58 ?_
    refine cl_X0_506 dX0_countsOf_59 rfl rfl ⟨(Nat.le_of_ble_eq_true rfl), (Nat.le_of_ble_eq_true rfl)⟩ rfl ?_
    refine ct_X0_treeCount hW hn hs ?_
    refine Gx_ireturn dX0_countsOf_62 trivial ?_
    unfold aCnt at k
    first
    | (subst w1; exact k)
    | (rw [if_neg (by omega), if_neg (by omega), if_neg (by omega), if_neg (by omega), if_neg (by omega)] at k
       exact k)
  · refine Gx_tableOut (tgt := 63) dX0_countsOf_1 w1 (by decide) ?_
    refine Gx_aload_n (i := 0) dX0_countsOf_63 rfl rfl ?_
    refine gf_X0_273_20 dX0_countsOf_64 rfl rfl ?_
    refine Gx_ireturn dX0_countsOf_67 trivial ?_
    unfold aCnt at k
    first
    | (subst w1; exact k)
    | (rw [if_neg (by omega), if_neg (by omega), if_neg (by omega), if_neg (by omega), if_neg (by omega)] at k
       exact k)
set_option maxHeartbeats 1000000 in
theorem ct_X0_count {q : Int} (hr : ∀ r, 0 ≤ r → r < 6 → -1 ≤ v 2 r) (hx : ∀ r, 0 ≤ r → r < 4 → -1 ≤ v 3 r) (hW : aWf v (gHd K)) (hn : 0 ≤ v 0 32 ∧ v 0 32 ≤ 24) (hs : ∀ i, 0 ≤ i → i < v 0 32 → 0 ≤ v (v 16 i) 0 ∧ v (v 16 i) 0 < (gHd K (v 0 7)).2) (k1 : 0 ≤ q ∧ q ≤ 5 → Q (0, aCnt v (gHd K) q) v (gHd K) t) (k0 : ¬ (0 ≤ q ∧ q ≤ 5) → Q (0, -1) v (gHd K) t) : Ctr Γ mX0_count [(2, 0), (0, q)] v (gHd K) t Q := by
  refine Ctr.ofG (ls := [(2, 0), (0, q)]) rfl rfl rfl rfl rfl ?_
  refine Gx_iload_n (i := 1) dX0_count_0 rfl rfl ?_
  refine Gx_iconst ⟨by decide, by decide⟩ dX0_count_1 ?_
  refine Gx_iconst ⟨by decide, by decide⟩ dX0_count_2 ?_
  refine cl_X0_129 dX0_count_3 rfl ⟨(Nat.le_of_ble_eq_true rfl), (Nat.le_of_ble_eq_true rfl)⟩ rfl ?_
  refine ct_X0_isIn (fun hq => ?_) (fun hq => ?_)
  · refine Gx_if_eq (tgt := 17) dX0_count_6 (by decide) (fun hz => absurd hz (by decide)) (fun _ => ?_)
    refine Gx_aload_n (i := 0) dX0_count_9 rfl rfl ?_
    refine Gx_iload_n (i := 1) dX0_count_10 rfl rfl ?_
    refine cl_X0_509 dX0_count_11 rfl rfl ⟨(Nat.le_of_ble_eq_true rfl), (Nat.le_of_ble_eq_true rfl)⟩ rfl ?_
    refine ct_X0_countsOf hr hx hW hn hs hq ?_
    refine Gx_goto (tgt := 18) dX0_count_14 (by decide) ?_
    refine Gx_ireturn dX0_count_18 trivial ?_
    first
    | exact k1 hq
    | exact k0 hq
  · refine Gx_if_eq (tgt := 17) dX0_count_6 (by decide) (fun _ => ?_) (fun hz => absurd hz (by decide))
    refine Gx_iconst ⟨by decide, by decide⟩ dX0_count_17 ?_
    refine Gx_ireturn dX0_count_18 trivial ?_
    first
    | exact k1 hq
    | exact k0 hq
end
