/-! AcornYears: copy -/
section
variable {Γ : gC} {v : gM} {K : gH} {t : Nat} {Q : gQ}
set_option maxHeartbeats 1000000 in
theorem ct_X0_copy {r i q j n nr nq : Int} (hfl : Γ.1.stackTraces = false) (hro : 0 ≤ r ∧ r ≤ 5 → v 2 r = -1 ∨ aRo v (gHd K) r nr) (hrq : 0 ≤ q ∧ q ≤ 5 → v 2 q = -1 ∨ aRo v (gHd K) q nq) (kB : ¬ ((0 ≤ r ∧ r ≤ 5) ∧ 0 ≤ q ∧ q ≤ 5) → Q (0, -1) v (gHd K) t) (kZ : 0 ≤ r ∧ r ≤ 5 → 0 ≤ q ∧ q ≤ 5 → n < 0 → Q (0, -3) (aMet v 5) (gHd K) t) (kN : 0 ≤ r ∧ r ≤ 5 → 0 ≤ q ∧ q ≤ 5 → 0 ≤ n → v 2 r = -1 ∨ v 2 q = -1 → Q (0, -3) (aMet v 1) (gHd K) (t + 1)) (kO : 0 ≤ r ∧ r ≤ 5 → 0 ≤ q ∧ q ≤ 5 → 0 ≤ n → aRo v (gHd K) r nr → aRo v (gHd K) q nq → ¬ (0 ≤ i ∧ 0 ≤ j ∧ 0 ≤ n ∧ i + n ≤ nr ∧ j + n ≤ nq) → Q (0, -3) (aMet v 2) (gHd K) (t + 3)) (k1 : 0 ≤ r ∧ r ≤ 5 → 0 ≤ q ∧ q ≤ 5 → aRo v (gHd K) r nr → aRo v (gHd K) q nq → 0 ≤ i ∧ 0 ≤ j ∧ 0 ≤ n ∧ i + n ≤ nr ∧ j + n ≤ nq → Q (0, 1) (gCpy v (v 2 r) (v 2 q) i j n) (gHd K) t) : CtrW Γ mX0_copy [(2, 0), (0, r), (0, i), (0, q), (0, j), (0, n)] v (gHd K) t Q := by
  refine CtrW.ofG (ls := [(2, 0), (0, r), (0, i), (0, q), (0, j), (0, n), (9, 0)]) rfl rfl rfl rfl rfl ?_
  refine Gx_iload_n (i := 1) dX0_copy_0 rfl rfl ?_
  refine cl_X0_133 dX0_copy_1 rfl ⟨(Nat.le_of_ble_eq_true rfl), (Nat.le_of_ble_eq_true rfl)⟩ rfl ?_
  refine ct_X0_isRow (fun hr => ?_) (fun hr => ?_)
  · refine Gx_if_eq (tgt := 14) dX0_copy_4 (by decide) (fun hz => absurd hz (by decide)) (fun _ => ?_)
    refine Gx_iload_n (i := 3) dX0_copy_7 rfl rfl ?_
    refine cl_X0_133 dX0_copy_8 rfl ⟨(Nat.le_of_ble_eq_true rfl), (Nat.le_of_ble_eq_true rfl)⟩ rfl ?_
    refine ct_X0_isRow (fun hq => ?_) (fun hq => ?_)
    · refine Gx_if_ne (tgt := 16) dX0_copy_11 (by decide) (fun _ => ?_) (fun hz => absurd hz (by decide))
      refine Gx_iload dX0_copy_16 rfl ?_
      refine Gx_if_ge (tgt := 27) dX0_copy_18 (by decide) (fun c18 => ?_) (fun c18 => ?_)
      · refine Gx_aload_n (i := 0) dX0_copy_27 rfl rfl ?_
        refine gf_X0_28_20 dX0_copy_28 rfl rfl ?_
        refine Gx_iload_n (i := 1) dX0_copy_31 rfl rfl ?_
        refine Gx_aaload15 dX0_copy_32 rfl (by first | omega | (simp (disch := omega) only [w32_id]; omega)) ?_
        refine Gx_iload_n (i := 2) dX0_copy_33 rfl rfl ?_
        refine Gx_aload_n (i := 0) dX0_copy_34 rfl rfl ?_
        refine gf_X0_28_20 dX0_copy_35 rfl rfl ?_
        refine Gx_iload_n (i := 3) dX0_copy_38 rfl rfl ?_
        refine Gx_aaload15 dX0_copy_39 rfl (by first | omega | (simp (disch := omega) only [w32_id]; omega)) ?_
        refine Gx_iload dX0_copy_40 rfl ?_
        refine Gx_iload dX0_copy_42 rfl ?_
        rcases (by rcases hro hr with z | z <;> rcases hrq hq with z2 | z2 <;> omega : (v 2 r < 0 ∨ v 2 q < 0) ∨ ((0 ≤ v 2 r ∧ 0 ≤ v 2 q) ∧ ¬ (0 ≤ i ∧ 0 ≤ j ∧ 0 ≤ n ∧ i + n ≤ nr ∧ j + n ≤ nq)) ∨ ((0 ≤ v 2 r ∧ 0 ≤ v 2 q) ∧ (0 ≤ i ∧ 0 ≤ j ∧ 0 ≤ n ∧ i + n ≤ nr ∧ j + n ≤ nq))) with z44 | z44 | z44
        · refine Gx_copy_n (bc' := 7) (bs' := 400) hfl dX0_copy_44 rfl q516 q518 q517 q118 z44 xCt_1 (xRm_ok (c := 0) rfl (by decide +kernel)) (by decide) (by decide) ?_
          refine Gx_astore_6 dX0_copy_49 (Nat.le_of_ble_eq_true rfl) (Nat.ne_of_beq_eq_false rfl) ?_
          refine Gx_aload_n (i := 0) dX0_copy_51 rfl rfl ?_
          refine Gx_iconst ⟨by decide, by decide⟩ dX0_copy_52 ?_
          refine cl_X0_139 dX0_copy_53 rfl rfl ⟨(Nat.le_of_ble_eq_true rfl), (Nat.le_of_ble_eq_true rfl)⟩ rfl ?_
          refine ct_X0_met (by omega) ?_
          refine Gx_ireturn dX0_copy_56 trivial ?_
          exact kN hr hq (by omega) (by rcases hro hr with z | z <;> rcases hrq hq with z2 | z2 <;> omega)
        · refine Gx_rst (fun hrs => ?_)
          refine Gx_copy_o (bc' := 5) (bs' := 11) hfl dX0_copy_44 rfl q516 q518 q517 q118 ((hro hr).resolve_left (by omega)).2.1 ((hrq hq).resolve_left (by omega)).2.1 (by have := ((hro hr).resolve_left (by omega)).2.2; omega) (by have := ((hrq hq).resolve_left (by omega)).2.2; omega) z44.2 ⟨r32_of hrs.2.2.2.1, r32_of hrs.2.1, r32_of hrs.1⟩ xCt_2 (xRm_ok (c := 0) rfl (by decide +kernel)) (by decide) (by decide) ?_
          refine Gx_astore_6 dX0_copy_57 (Nat.le_of_ble_eq_true rfl) (Nat.ne_of_beq_eq_false rfl) ?_
          refine Gx_aload_n (i := 0) dX0_copy_59 rfl rfl ?_
          refine Gx_iconst ⟨by decide, by decide⟩ dX0_copy_60 ?_
          refine cl_X0_139 dX0_copy_61 rfl rfl ⟨(Nat.le_of_ble_eq_true rfl), (Nat.le_of_ble_eq_true rfl)⟩ rfl ?_
          refine ct_X0_met (by omega) ?_
          refine Gx_ireturn dX0_copy_64 trivial ?_
          exact kO hr hq (by omega) ((hro hr).resolve_left (by omega)) ((hrq hq).resolve_left (by omega)) z44.2
        · refine Gx_acopy10 dX0_copy_44 rfl ((hro hr).resolve_left (by omega)).2.1 ((hrq hq).resolve_left (by omega)).2.1 q516 q518 q517 q118 (by exact z44.2) ⟨(Nat.le_of_ble_eq_true rfl), (Nat.le_of_ble_eq_true rfl)⟩ rfl ?_
          refine Gx_iconst ⟨by decide, by decide⟩ dX0_copy_47 ?_
          refine Gx_ireturn dX0_copy_48 trivial ?_
          exact k1 hr hq ((hro hr).resolve_left (by omega)) ((hrq hq).resolve_left (by omega)) z44.2
      · refine Gx_aload_n (i := 0) dX0_copy_21 rfl rfl ?_
        refine Gx_iconst ⟨by decide, by decide⟩ dX0_copy_22 ?_
        refine cl_X0_139 dX0_copy_23 rfl rfl ⟨(Nat.le_of_ble_eq_true rfl), (Nat.le_of_ble_eq_true rfl)⟩ rfl ?_
        refine ct_X0_met (by omega) ?_
        refine Gx_ireturn dX0_copy_26 trivial ?_
        exact kZ hr hq (by omega)
    · refine Gx_if_ne (tgt := 16) dX0_copy_11 (by decide) (fun hz => absurd hz (by decide)) (fun _ => ?_)
      refine Gx_iconst ⟨by decide, by decide⟩ dX0_copy_14 ?_
      refine Gx_ireturn dX0_copy_15 trivial ?_
      exact kB (by omega)
  · refine Gx_if_eq (tgt := 14) dX0_copy_4 (by decide) (fun _ => ?_) (fun hz => absurd hz (by decide))
    refine Gx_iconst ⟨by decide, by decide⟩ dX0_copy_14 ?_
    refine Gx_ireturn dX0_copy_15 trivial ?_
    exact kB (by omega)
end
