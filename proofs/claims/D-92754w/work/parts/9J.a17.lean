/-! AcornYears: about -/
section
variable {Γ : gC} {v : gM} {K : gH} {t : Nat} {Q : gQ}
theorem aS_ab {v : gM} {h : gH} {o q : Int} (hq : 0 ≤ q ∧ q ≤ 2) : aS v h o (1 + q) = v (v o 0) q := by
  unfold aS
  rw [if_neg (by omega), if_pos (by omega), show 1 + q - 1 = q by omega]

set_option maxHeartbeats 1000000 in
theorem ct_X0_aboutOf {s q : Int} (hW : aWf v (gHd K)) (hs : 0 ≤ s ∧ s < (gHd K (v 0 7)).2) (hq : 0 ≤ q ∧ q ≤ 3) (k : Q (0, if q < 3 then v (v (v (v 0 7) s) 0) q else aKd (gHd K (v (v 0 7) s)).1) v (gHd K) t) : Ctr Γ mX0_aboutOf [(2, 0), (0, s), (0, q)] v (gHd K) t Q := by
  refine Ctr.ofG (ls := [(2, 0), (0, s), (0, q)]) rfl rfl rfl rfl rfl ?_
  obtain ⟨-, hk3, -, hA⟩ := hW.2.1 _ hs.1 hs.2
  have hh7 := pairEq hW.1.2.1
  have hho : gHd K (v (v 0 7) s) = ((gHd K (v (v 0 7) s)).1, (gHd K (v (v 0 7) s)).2) := rfl
  refine Gx_iload_n (i := 2) dX0_aboutOf_0 rfl rfl ?_
  refine Gx_iconst ⟨by decide, by decide⟩ dX0_aboutOf_1 ?_
  refine Gx_icmp_ge (tgt := 18) dX0_aboutOf_2 (by decide) (fun c2 => ?_) (fun c2 => ?_)
  · refine Gx_aload_n (i := 0) dX0_aboutOf_18 rfl rfl ?_
    refine gf_X0_40_20 dX0_aboutOf_19 rfl rfl ?_
    refine Gx_iload_n (i := 1) dX0_aboutOf_22 rfl rfl ?_
    refine Gx_aaload17 dX0_aboutOf_23 hh7 (by first | omega | (simp (disch := omega) only [w32_id]; omega)) ?_
    refine gv_X0_300 dX0_aboutOf_24 rfl hho hk3 ⟨(Nat.le_of_ble_eq_true rfl), (Nat.le_of_ble_eq_true rfl)⟩ rfl ?_
    refine Gx_ireturn dX0_aboutOf_27 trivial ?_
    first
    | (rw [if_pos (by omega)] at k; exact k)
    | (rw [if_neg (by omega)] at k; exact k)
  · refine Gx_aload_n (i := 0) dX0_aboutOf_5 rfl rfl ?_
    refine gf_X0_40_20 dX0_aboutOf_6 rfl rfl ?_
    refine Gx_iload_n (i := 1) dX0_aboutOf_9 rfl rfl ?_
    refine Gx_aaload17 dX0_aboutOf_10 hh7 (by first | omega | (simp (disch := omega) only [w32_id]; omega)) ?_
    refine Gx_iload_n (i := 2) dX0_aboutOf_11 rfl rfl ?_
    refine gv_X0_297 dX0_aboutOf_12 rfl hho hk3 hA ⟨hq.1, by omega⟩ ⟨(Nat.le_of_ble_eq_true rfl), (Nat.le_of_ble_eq_true rfl)⟩ rfl ?_
    refine Gx_goto (tgt := 27) dX0_aboutOf_15 (by decide) ?_
    refine Gx_ireturn dX0_aboutOf_27 trivial ?_
    first
    | (rw [if_pos (by omega)] at k; exact k)
    | (rw [if_neg (by omega)] at k; exact k)
end
