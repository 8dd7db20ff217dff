/-! AcornYears: mark -/
section
variable {Γ : gC} {v : gM} {K : gH} {t : Nat} {Q : gQ}
theorem xLd_mk1 : xLand mX0_mark 57 "java/lang/ClassCastException" 96 = true := by decide +kernel
theorem xLd_mk2 : xLand mX0_mark 65 "java/lang/ClassCastException" 96 = true := by decide +kernel
theorem xLd_mk3 : xLand mX0_mark 73 "java/lang/ClassCastException" 96 = true := by decide +kernel
theorem xLd_mk4 : xLand mX0_mark 81 "java/lang/ClassCastException" 96 = true := by decide +kernel
theorem xLd_mk5 : xLand mX0_mark 89 "java/lang/ClassCastException" 96 = true := by decide +kernel
/-- what mark tells of a sort at o -/
def aMk (v : gM) (o a : Int) : Int := if a = 1 then v (v o 0) 0 + v (v o 0) 1 + v (v o 0) 2 else if 3 < a then v o 3 else 100 * v o 1 + v o 2
/-- a sort of kind k has the mark a -/
def aHas (k : Nat) (a : Int) : Prop := (a = 1 ∧ k = 3) ∨ (a = 2 ∧ (k = 5 ∨ k = 6 ∨ k = 7)) ∨ (a = 3 ∧ k = 4) ∨ (a = 4 ∧ k = 6) ∨ (a = 5 ∧ k = 7)
theorem aHas_kd {k : Nat} {a : Int} (hk : 3 ≤ k ∧ k ≤ 7) (ha : 1 ≤ a ∧ a ≤ 5) : aHas k a ↔ (aKd k = a ∨ (a = 2 ∧ (aKd k = 2 ∨ 3 < aKd k))) := by
  unfold aHas aKd
  rcases (by omega : k = 3 ∨ k = 4 ∨ k = 5 ∨ k = 6 ∨ k = 7) with rfl | rfl | rfl | rfl | rfl <;> simp <;> omega

theorem xCw_1_4 : (xOk (.classLink "AcornYears" 183 "AcornYears$Steady") && (xOk (.not (.castable "AcornYears$Warm" "AcornYears$Steady")) && (xNmOk "AcornYears$Warm" && xNmOk "AcornYears$Steady"))) = true := by decide +kernel
theorem xCw_1_5 : (xOk (.classLink "AcornYears" 183 "AcornYears$Steady") && (xOk (.not (.castable "AcornYears$Saver" "AcornYears$Steady")) && (xNmOk "AcornYears$Saver" && xNmOk "AcornYears$Steady"))) = true := by decide +kernel
theorem xCw_1_6 : (xOk (.classLink "AcornYears" 183 "AcornYears$Steady") && (xOk (.not (.castable "AcornYears$Needing" "AcornYears$Steady")) && (xNmOk "AcornYears$Needing" && xNmOk "AcornYears$Steady"))) = true := by decide +kernel
theorem xCw_1_7 : (xOk (.classLink "AcornYears" 183 "AcornYears$Steady") && (xOk (.not (.castable "AcornYears$Odd" "AcornYears$Steady")) && (xNmOk "AcornYears$Odd" && xNmOk "AcornYears$Steady"))) = true := by decide +kernel
theorem xCw_2_3 : (xOk (.classLink "AcornYears" 212 "AcornYears$Saver") && (xOk (.not (.castable "AcornYears$Steady" "AcornYears$Saver")) && (xNmOk "AcornYears$Steady" && xNmOk "AcornYears$Saver"))) = true := by decide +kernel
theorem xCw_2_4 : (xOk (.classLink "AcornYears" 212 "AcornYears$Saver") && (xOk (.not (.castable "AcornYears$Warm" "AcornYears$Saver")) && (xNmOk "AcornYears$Warm" && xNmOk "AcornYears$Saver"))) = true := by decide +kernel
theorem xCw_3_3 : (xOk (.classLink "AcornYears" 202 "AcornYears$Warm") && (xOk (.not (.castable "AcornYears$Steady" "AcornYears$Warm")) && (xNmOk "AcornYears$Steady" && xNmOk "AcornYears$Warm"))) = true := by decide +kernel
theorem xCw_3_5 : (xOk (.classLink "AcornYears" 202 "AcornYears$Warm") && (xOk (.not (.castable "AcornYears$Saver" "AcornYears$Warm")) && (xNmOk "AcornYears$Saver" && xNmOk "AcornYears$Warm"))) = true := by decide +kernel
theorem xCw_3_6 : (xOk (.classLink "AcornYears" 202 "AcornYears$Warm") && (xOk (.not (.castable "AcornYears$Needing" "AcornYears$Warm")) && (xNmOk "AcornYears$Needing" && xNmOk "AcornYears$Warm"))) = true := by decide +kernel
theorem xCw_3_7 : (xOk (.classLink "AcornYears" 202 "AcornYears$Warm") && (xOk (.not (.castable "AcornYears$Odd" "AcornYears$Warm")) && (xNmOk "AcornYears$Odd" && xNmOk "AcornYears$Warm"))) = true := by decide +kernel
theorem xCw_4_3 : (xOk (.classLink "AcornYears" 215 "AcornYears$Needing") && (xOk (.not (.castable "AcornYears$Steady" "AcornYears$Needing")) && (xNmOk "AcornYears$Steady" && xNmOk "AcornYears$Needing"))) = true := by decide +kernel
theorem xCw_4_4 : (xOk (.classLink "AcornYears" 215 "AcornYears$Needing") && (xOk (.not (.castable "AcornYears$Warm" "AcornYears$Needing")) && (xNmOk "AcornYears$Warm" && xNmOk "AcornYears$Needing"))) = true := by decide +kernel
theorem xCw_4_5 : (xOk (.classLink "AcornYears" 215 "AcornYears$Needing") && (xOk (.not (.castable "AcornYears$Saver" "AcornYears$Needing")) && (xNmOk "AcornYears$Saver" && xNmOk "AcornYears$Needing"))) = true := by decide +kernel
theorem xCw_4_7 : (xOk (.classLink "AcornYears" 215 "AcornYears$Needing") && (xOk (.not (.castable "AcornYears$Odd" "AcornYears$Needing")) && (xNmOk "AcornYears$Odd" && xNmOk "AcornYears$Needing"))) = true := by decide +kernel
theorem xCw_5_3 : (xOk (.classLink "AcornYears" 220 "AcornYears$Odd") && (xOk (.not (.castable "AcornYears$Steady" "AcornYears$Odd")) && (xNmOk "AcornYears$Steady" && xNmOk "AcornYears$Odd"))) = true := by decide +kernel
theorem xCw_5_4 : (xOk (.classLink "AcornYears" 220 "AcornYears$Odd") && (xOk (.not (.castable "AcornYears$Warm" "AcornYears$Odd")) && (xNmOk "AcornYears$Warm" && xNmOk "AcornYears$Odd"))) = true := by decide +kernel
theorem xCw_5_5 : (xOk (.classLink "AcornYears" 220 "AcornYears$Odd") && (xOk (.not (.castable "AcornYears$Saver" "AcornYears$Odd")) && (xNmOk "AcornYears$Saver" && xNmOk "AcornYears$Odd"))) = true := by decide +kernel
theorem xCw_5_6 : (xOk (.classLink "AcornYears" 220 "AcornYears$Odd") && (xOk (.not (.castable "AcornYears$Needing" "AcornYears$Odd")) && (xNmOk "AcornYears$Needing" && xNmOk "AcornYears$Odd"))) = true := by decide +kernel
set_option maxHeartbeats 2000000 in
theorem ct_X0_mark {s a : Int} (hfl : Γ.1.stackTraces = false) (hmo : modulesRight_1 Γ.2.1 = true) (hW : aWf v (gHd K)) (hT : aTb v (gHd K)) (kB : ¬ ((0 ≤ s ∧ s < (gHd K (v 0 7)).2) ∧ 1 ≤ a ∧ a ≤ 5) → Q (0, -1) v (gHd K) t) (kY : 0 ≤ s ∧ s < (gHd K (v 0 7)).2 → 1 ≤ a ∧ a ≤ 5 → aHas (gHd K (v (v 0 7) s)).1 a → Q (0, aMk v (v (v 0 7) s) a) v (gHd K) t) (kU : 0 ≤ s ∧ s < (gHd K (v 0 7)).2 → 1 ≤ a ∧ a ≤ 5 → ¬ aHas (gHd K (v (v 0 7) s)).1 a → Q (0, -3) (aMet v 3) (gHd K) (t + 3)) : CtrW Γ mX0_mark [(2, 0), (0, s), (0, a)] v (gHd K) t Q := by
  refine CtrW.ofG (ls := [(2, 0), (0, s), (0, a), (9, 0), (9, 0)]) rfl rfl rfl rfl rfl ?_
  have hh7 := pairEq hW.1.2.1
  refine Gx_aload_n (i := 0) dX0_mark_0 rfl rfl ?_
  refine Gx_iload_n (i := 1) dX0_mark_1 rfl rfl ?_
  refine cl_X0_291 dX0_mark_2 rfl rfl ⟨(Nat.le_of_ble_eq_true rfl), (Nat.le_of_ble_eq_true rfl)⟩ rfl ?_
  refine ct_X0_isSort hh7 hW.1.2.2 (fun hs => ?_) (fun hs => ?_)
  · refine Gx_if_eq (tgt := 17) dX0_mark_5 (by decide) (fun hz => absurd hz (by decide)) (fun _ => ?_)
    refine Gx_iload_n (i := 2) dX0_mark_8 rfl rfl ?_
    refine Gx_iconst ⟨by decide, by decide⟩ dX0_mark_9 ?_
    refine Gx_iconst ⟨by decide, by decide⟩ dX0_mark_10 ?_
    refine cl_X0_129 dX0_mark_11 rfl ⟨(Nat.le_of_ble_eq_true rfl), (Nat.le_of_ble_eq_true rfl)⟩ rfl ?_
    refine ct_X0_isIn (fun ha => ?_) (fun ha => ?_)
    · refine Gx_if_ne (tgt := 19) dX0_mark_14 (by decide) (fun _ => ?_) (fun hz => absurd hz (by decide))
      obtain ⟨w1, hk3, w3, hA⟩ := hW.2.1 s hs.1 hs.2
      obtain ⟨tb1, tb2⟩ := hT s hs.1 hs.2
      refine Gx_aload_n (i := 0) dX0_mark_19 rfl rfl ?_
      refine gf_X0_40_20 dX0_mark_20 rfl rfl ?_
      refine Gx_iload_n (i := 1) dX0_mark_23 rfl rfl ?_
      refine Gx_aaload17 dX0_mark_24 hh7 (by first | omega | (simp (disch := omega) only [w32_id]; omega)) ?_
      refine Gx_astore_n_3 dX0_mark_25 (Nat.le_of_ble_eq_true rfl) (Nat.ne_of_beq_eq_false rfl) ?_
      refine Gx_iload_n (i := 2) dX0_mark_26 rfl rfl ?_
      rcases (by omega : a = 1 ∨ a = 2 ∨ a = 3 ∨ a = 4 ∨ (a < 1 ∨ 4 < a)) with w27 | w27 | w27 | w27 | w27
      · rw [w27]
        refine Gx_tableIn (off := 29) (tgt := 56) dX0_mark_27 (by decide) (by decide) rfl (by decide) ?_
        refine Gx_aload_n (i := 3) dX0_mark_56 rfl rfl ?_
        rcases (by omega : (gHd K (v (v 0 7) s)).1 = 3 ∨ (gHd K (v (v 0 7) s)).1 = 4 ∨ (gHd K (v (v 0 7) s)).1 = 5 ∨ (gHd K (v (v 0 7) s)).1 = 6 ∨ (gHd K (v (v 0 7) s)).1 = 7) with hk | hk | hk | hk | hk
        · refine Gx_castY (C := RX4) (T := TX4) (N := 1) dX0_mark_57 rfl (pairEq hk) rfl rfl q603 (Or.inl rfl) ?_
          refine cv_X0_306_3 dX0_mark_60 rfl (pairEq hk) ⟨(Nat.le_of_ble_eq_true rfl), (Nat.le_of_ble_eq_true rfl)⟩ rfl ?_
          refine ct_X4_tells_3 (pairEq hk) hA tb1 ?_
          refine Gx_ireturn dX0_mark_63 trivial ?_
          have hY := kY hs ha (by unfold aHas; omega)
          unfold aMk at hY
          rw [if_pos (by omega)] at hY
          exact hY
        · refine Gx_cast_no (C := RX5) (T := TX5) (N := 3) (bc' := 5) (bs' := 17) hfl hmo dX0_mark_57 (pairEq hk) rfl rfl xLd_mk1 xCw_1_4 (xRm_ok (c := 1) rfl (by decide +kernel)) (by decide) (by decide) ?_
          refine Gx_astore_4 dX0_mark_96 (Nat.le_of_ble_eq_true rfl) (Nat.ne_of_beq_eq_false rfl) ?_
          refine Gx_aload_n (i := 0) dX0_mark_98 rfl rfl ?_
          refine Gx_iconst ⟨by decide, by decide⟩ dX0_mark_99 ?_
          refine cl_X0_139 dX0_mark_100 rfl rfl ⟨(Nat.le_of_ble_eq_true rfl), (Nat.le_of_ble_eq_true rfl)⟩ rfl ?_
          refine ct_X0_met (by omega) ?_
          refine Gx_ireturn dX0_mark_103 trivial ?_
          exact kU hs ha (by unfold aHas; omega)
        · refine Gx_cast_no (C := RX6) (T := TX6) (N := 3) (bc' := 5) (bs' := 17) hfl hmo dX0_mark_57 (pairEq hk) rfl rfl xLd_mk1 xCw_1_5 (xRm_ok (c := 1) rfl (by decide +kernel)) (by decide) (by decide) ?_
          refine Gx_astore_4 dX0_mark_96 (Nat.le_of_ble_eq_true rfl) (Nat.ne_of_beq_eq_false rfl) ?_
          refine Gx_aload_n (i := 0) dX0_mark_98 rfl rfl ?_
          refine Gx_iconst ⟨by decide, by decide⟩ dX0_mark_99 ?_
          refine cl_X0_139 dX0_mark_100 rfl rfl ⟨(Nat.le_of_ble_eq_true rfl), (Nat.le_of_ble_eq_true rfl)⟩ rfl ?_
          refine ct_X0_met (by omega) ?_
          refine Gx_ireturn dX0_mark_103 trivial ?_
          exact kU hs ha (by unfold aHas; omega)
        · refine Gx_cast_no (C := RX7) (T := TX7) (N := 4) (bc' := 5) (bs' := 17) hfl hmo dX0_mark_57 (pairEq hk) rfl rfl xLd_mk1 xCw_1_6 (xRm_ok (c := 1) rfl (by decide +kernel)) (by decide) (by decide) ?_
          refine Gx_astore_4 dX0_mark_96 (Nat.le_of_ble_eq_true rfl) (Nat.ne_of_beq_eq_false rfl) ?_
          refine Gx_aload_n (i := 0) dX0_mark_98 rfl rfl ?_
          refine Gx_iconst ⟨by decide, by decide⟩ dX0_mark_99 ?_
          refine cl_X0_139 dX0_mark_100 rfl rfl ⟨(Nat.le_of_ble_eq_true rfl), (Nat.le_of_ble_eq_true rfl)⟩ rfl ?_
          refine ct_X0_met (by omega) ?_
          refine Gx_ireturn dX0_mark_103 trivial ?_
          exact kU hs ha (by unfold aHas; omega)
        · refine Gx_cast_no (C := RX8) (T := TX8) (N := 4) (bc' := 5) (bs' := 17) hfl hmo dX0_mark_57 (pairEq hk) rfl rfl xLd_mk1 xCw_1_7 (xRm_ok (c := 1) rfl (by decide +kernel)) (by decide) (by decide) ?_
          refine Gx_astore_4 dX0_mark_96 (Nat.le_of_ble_eq_true rfl) (Nat.ne_of_beq_eq_false rfl) ?_
          refine Gx_aload_n (i := 0) dX0_mark_98 rfl rfl ?_
          refine Gx_iconst ⟨by decide, by decide⟩ dX0_mark_99 ?_
          refine cl_X0_139 dX0_mark_100 rfl rfl ⟨(Nat.le_of_ble_eq_true rfl), (Nat.le_of_ble_eq_true rfl)⟩ rfl ?_
          refine ct_X0_met (by omega) ?_
          refine Gx_ireturn dX0_mark_103 trivial ?_
          exact kU hs ha (by unfold aHas; omega)
      · rw [w27]
        refine Gx_tableIn (off := 37) (tgt := 64) dX0_mark_27 (by decide) (by decide) rfl (by decide) ?_
        refine Gx_aload_n (i := 3) dX0_mark_64 rfl rfl ?_
        rcases (by omega : (gHd K (v (v 0 7) s)).1 = 3 ∨ (gHd K (v (v 0 7) s)).1 = 4 ∨ (gHd K (v (v 0 7) s)).1 = 5 ∨ (gHd K (v (v 0 7) s)).1 = 6 ∨ (gHd K (v (v 0 7) s)).1 = 7) with hk | hk | hk | hk | hk
        · refine Gx_cast_no (C := RX4) (T := TX4) (N := 1) (bc' := 5) (bs' := 17) hfl hmo dX0_mark_65 (pairEq hk) rfl rfl xLd_mk2 xCw_2_3 (xRm_ok (c := 1) rfl (by decide +kernel)) (by decide) (by decide) ?_
          refine Gx_astore_4 dX0_mark_96 (Nat.le_of_ble_eq_true rfl) (Nat.ne_of_beq_eq_false rfl) ?_
          refine Gx_aload_n (i := 0) dX0_mark_98 rfl rfl ?_
          refine Gx_iconst ⟨by decide, by decide⟩ dX0_mark_99 ?_
          refine cl_X0_139 dX0_mark_100 rfl rfl ⟨(Nat.le_of_ble_eq_true rfl), (Nat.le_of_ble_eq_true rfl)⟩ rfl ?_
          refine ct_X0_met (by omega) ?_
          refine Gx_ireturn dX0_mark_103 trivial ?_
          exact kU hs ha (by unfold aHas; omega)
        · refine Gx_cast_no (C := RX5) (T := TX5) (N := 3) (bc' := 5) (bs' := 17) hfl hmo dX0_mark_65 (pairEq hk) rfl rfl xLd_mk2 xCw_2_4 (xRm_ok (c := 1) rfl (by decide +kernel)) (by decide) (by decide) ?_
          refine Gx_astore_4 dX0_mark_96 (Nat.le_of_ble_eq_true rfl) (Nat.ne_of_beq_eq_false rfl) ?_
          refine Gx_aload_n (i := 0) dX0_mark_98 rfl rfl ?_
          refine Gx_iconst ⟨by decide, by decide⟩ dX0_mark_99 ?_
          refine cl_X0_139 dX0_mark_100 rfl rfl ⟨(Nat.le_of_ble_eq_true rfl), (Nat.le_of_ble_eq_true rfl)⟩ rfl ?_
          refine ct_X0_met (by omega) ?_
          refine Gx_ireturn dX0_mark_103 trivial ?_
          exact kU hs ha (by unfold aHas; omega)
        · refine Gx_castY (C := RX6) (T := TX6) (N := 3) dX0_mark_65 rfl (pairEq hk) rfl rfl q641 (Or.inl rfl) ?_
          refine cv_X0_309_5 dX0_mark_68 rfl (pairEq hk) ⟨(Nat.le_of_ble_eq_true rfl), (Nat.le_of_ble_eq_true rfl)⟩ rfl ?_
          refine ct_X6_saves_5 (pairEq hk) (tb2 (by omega)) ?_
          refine Gx_ireturn dX0_mark_71 trivial ?_
          have hY := kY hs ha (by unfold aHas; omega)
          unfold aMk at hY
          rw [if_neg (by omega), if_neg (by omega)] at hY
          exact hY
        · refine Gx_castY (C := RX7) (T := TX7) (N := 4) dX0_mark_65 rfl (pairEq hk) rfl rfl q641 (Or.inr q1789) ?_
          refine cv_X0_309_6 dX0_mark_68 rfl (pairEq hk) ⟨(Nat.le_of_ble_eq_true rfl), (Nat.le_of_ble_eq_true rfl)⟩ rfl ?_
          refine ct_X6_saves_6 (pairEq hk) (tb2 (by omega)) ?_
          refine Gx_ireturn dX0_mark_71 trivial ?_
          have hY := kY hs ha (by unfold aHas; omega)
          unfold aMk at hY
          rw [if_neg (by omega), if_neg (by omega)] at hY
          exact hY
        · refine Gx_castY (C := RX8) (T := TX8) (N := 4) dX0_mark_65 rfl (pairEq hk) rfl rfl q641 (Or.inr q1790) ?_
          refine cv_X0_309_7 dX0_mark_68 rfl (pairEq hk) ⟨(Nat.le_of_ble_eq_true rfl), (Nat.le_of_ble_eq_true rfl)⟩ rfl ?_
          refine ct_X6_saves_7 (pairEq hk) (tb2 (by omega)) ?_
          refine Gx_ireturn dX0_mark_71 trivial ?_
          have hY := kY hs ha (by unfold aHas; omega)
          unfold aMk at hY
          rw [if_neg (by omega), if_neg (by omega)] at hY
          exact hY
      · rw [w27]
        refine Gx_tableIn (off := 45) (tgt := 72) dX0_mark_27 (by decide) (by decide) rfl (by decide) ?_
        refine Gx_aload_n (i := 3) dX0_mark_72 rfl rfl ?_
        rcases (by omega : (gHd K (v (v 0 7) s)).1 = 3 ∨ (gHd K (v (v 0 7) s)).1 = 4 ∨ (gHd K (v (v 0 7) s)).1 = 5 ∨ (gHd K (v (v 0 7) s)).1 = 6 ∨ (gHd K (v (v 0 7) s)).1 = 7) with hk | hk | hk | hk | hk
        · refine Gx_cast_no (C := RX4) (T := TX4) (N := 1) (bc' := 5) (bs' := 17) hfl hmo dX0_mark_73 (pairEq hk) rfl rfl xLd_mk3 xCw_3_3 (xRm_ok (c := 1) rfl (by decide +kernel)) (by decide) (by decide) ?_
          refine Gx_astore_4 dX0_mark_96 (Nat.le_of_ble_eq_true rfl) (Nat.ne_of_beq_eq_false rfl) ?_
          refine Gx_aload_n (i := 0) dX0_mark_98 rfl rfl ?_
          refine Gx_iconst ⟨by decide, by decide⟩ dX0_mark_99 ?_
          refine cl_X0_139 dX0_mark_100 rfl rfl ⟨(Nat.le_of_ble_eq_true rfl), (Nat.le_of_ble_eq_true rfl)⟩ rfl ?_
          refine ct_X0_met (by omega) ?_
          refine Gx_ireturn dX0_mark_103 trivial ?_
          exact kU hs ha (by unfold aHas; omega)
        · refine Gx_castY (C := RX5) (T := TX5) (N := 3) dX0_mark_73 rfl (pairEq hk) rfl rfl q620 (Or.inl rfl) ?_
          refine cv_X0_312_4 dX0_mark_76 rfl (pairEq hk) ⟨(Nat.le_of_ble_eq_true rfl), (Nat.le_of_ble_eq_true rfl)⟩ rfl ?_
          refine ct_X5_tells_4 (pairEq hk) (tb2 (by omega)) ?_
          refine Gx_ireturn dX0_mark_79 trivial ?_
          have hY := kY hs ha (by unfold aHas; omega)
          unfold aMk at hY
          rw [if_neg (by omega), if_neg (by omega)] at hY
          exact hY
        · refine Gx_cast_no (C := RX6) (T := TX6) (N := 3) (bc' := 5) (bs' := 17) hfl hmo dX0_mark_73 (pairEq hk) rfl rfl xLd_mk3 xCw_3_5 (xRm_ok (c := 1) rfl (by decide +kernel)) (by decide) (by decide) ?_
          refine Gx_astore_4 dX0_mark_96 (Nat.le_of_ble_eq_true rfl) (Nat.ne_of_beq_eq_false rfl) ?_
          refine Gx_aload_n (i := 0) dX0_mark_98 rfl rfl ?_
          refine Gx_iconst ⟨by decide, by decide⟩ dX0_mark_99 ?_
          refine cl_X0_139 dX0_mark_100 rfl rfl ⟨(Nat.le_of_ble_eq_true rfl), (Nat.le_of_ble_eq_true rfl)⟩ rfl ?_
          refine ct_X0_met (by omega) ?_
          refine Gx_ireturn dX0_mark_103 trivial ?_
          exact kU hs ha (by unfold aHas; omega)
        · refine Gx_cast_no (C := RX7) (T := TX7) (N := 4) (bc' := 5) (bs' := 17) hfl hmo dX0_mark_73 (pairEq hk) rfl rfl xLd_mk3 xCw_3_6 (xRm_ok (c := 1) rfl (by decide +kernel)) (by decide) (by decide) ?_
          refine Gx_astore_4 dX0_mark_96 (Nat.le_of_ble_eq_true rfl) (Nat.ne_of_beq_eq_false rfl) ?_
          refine Gx_aload_n (i := 0) dX0_mark_98 rfl rfl ?_
          refine Gx_iconst ⟨by decide, by decide⟩ dX0_mark_99 ?_
          refine cl_X0_139 dX0_mark_100 rfl rfl ⟨(Nat.le_of_ble_eq_true rfl), (Nat.le_of_ble_eq_true rfl)⟩ rfl ?_
          refine ct_X0_met (by omega) ?_
          refine Gx_ireturn dX0_mark_103 trivial ?_
          exact kU hs ha (by unfold aHas; omega)
        · refine Gx_cast_no (C := RX8) (T := TX8) (N := 4) (bc' := 5) (bs' := 17) hfl hmo dX0_mark_73 (pairEq hk) rfl rfl xLd_mk3 xCw_3_7 (xRm_ok (c := 1) rfl (by decide +kernel)) (by decide) (by decide) ?_
          refine Gx_astore_4 dX0_mark_96 (Nat.le_of_ble_eq_true rfl) (Nat.ne_of_beq_eq_false rfl) ?_
          refine Gx_aload_n (i := 0) dX0_mark_98 rfl rfl ?_
          refine Gx_iconst ⟨by decide, by decide⟩ dX0_mark_99 ?_
          refine cl_X0_139 dX0_mark_100 rfl rfl ⟨(Nat.le_of_ble_eq_true rfl), (Nat.le_of_ble_eq_true rfl)⟩ rfl ?_
          refine ct_X0_met (by omega) ?_
          refine Gx_ireturn dX0_mark_103 trivial ?_
          exact kU hs ha (by unfold aHas; omega)
      · rw [w27]
        refine Gx_tableIn (off := 53) (tgt := 80) dX0_mark_27 (by decide) (by decide) rfl (by decide) ?_
        refine Gx_aload_n (i := 3) dX0_mark_80 rfl rfl ?_
        rcases (by omega : (gHd K (v (v 0 7) s)).1 = 3 ∨ (gHd K (v (v 0 7) s)).1 = 4 ∨ (gHd K (v (v 0 7) s)).1 = 5 ∨ (gHd K (v (v 0 7) s)).1 = 6 ∨ (gHd K (v (v 0 7) s)).1 = 7) with hk | hk | hk | hk | hk
        · refine Gx_cast_no (C := RX4) (T := TX4) (N := 1) (bc' := 5) (bs' := 17) hfl hmo dX0_mark_81 (pairEq hk) rfl rfl xLd_mk4 xCw_4_3 (xRm_ok (c := 1) rfl (by decide +kernel)) (by decide) (by decide) ?_
          refine Gx_astore_4 dX0_mark_96 (Nat.le_of_ble_eq_true rfl) (Nat.ne_of_beq_eq_false rfl) ?_
          refine Gx_aload_n (i := 0) dX0_mark_98 rfl rfl ?_
          refine Gx_iconst ⟨by decide, by decide⟩ dX0_mark_99 ?_
          refine cl_X0_139 dX0_mark_100 rfl rfl ⟨(Nat.le_of_ble_eq_true rfl), (Nat.le_of_ble_eq_true rfl)⟩ rfl ?_
          refine ct_X0_met (by omega) ?_
          refine Gx_ireturn dX0_mark_103 trivial ?_
          exact kU hs ha (by unfold aHas; omega)
        · refine Gx_cast_no (C := RX5) (T := TX5) (N := 3) (bc' := 5) (bs' := 17) hfl hmo dX0_mark_81 (pairEq hk) rfl rfl xLd_mk4 xCw_4_4 (xRm_ok (c := 1) rfl (by decide +kernel)) (by decide) (by decide) ?_
          refine Gx_astore_4 dX0_mark_96 (Nat.le_of_ble_eq_true rfl) (Nat.ne_of_beq_eq_false rfl) ?_
          refine Gx_aload_n (i := 0) dX0_mark_98 rfl rfl ?_
          refine Gx_iconst ⟨by decide, by decide⟩ dX0_mark_99 ?_
          refine cl_X0_139 dX0_mark_100 rfl rfl ⟨(Nat.le_of_ble_eq_true rfl), (Nat.le_of_ble_eq_true rfl)⟩ rfl ?_
          refine ct_X0_met (by omega) ?_
          refine Gx_ireturn dX0_mark_103 trivial ?_
          exact kU hs ha (by unfold aHas; omega)
        · refine Gx_cast_no (C := RX6) (T := TX6) (N := 3) (bc' := 5) (bs' := 17) hfl hmo dX0_mark_81 (pairEq hk) rfl rfl xLd_mk4 xCw_4_5 (xRm_ok (c := 1) rfl (by decide +kernel)) (by decide) (by decide) ?_
          refine Gx_astore_4 dX0_mark_96 (Nat.le_of_ble_eq_true rfl) (Nat.ne_of_beq_eq_false rfl) ?_
          refine Gx_aload_n (i := 0) dX0_mark_98 rfl rfl ?_
          refine Gx_iconst ⟨by decide, by decide⟩ dX0_mark_99 ?_
          refine cl_X0_139 dX0_mark_100 rfl rfl ⟨(Nat.le_of_ble_eq_true rfl), (Nat.le_of_ble_eq_true rfl)⟩ rfl ?_
          refine ct_X0_met (by omega) ?_
          refine Gx_ireturn dX0_mark_103 trivial ?_
          exact kU hs ha (by unfold aHas; omega)
        · refine Gx_castY (C := RX7) (T := TX7) (N := 4) dX0_mark_81 rfl (pairEq hk) rfl rfl q655 (Or.inl rfl) ?_
          refine gf_X0_313_6 dX0_mark_84 rfl (pairEq hk) ?_
          refine Gx_ireturn dX0_mark_87 trivial ?_
          have hY := kY hs ha (by unfold aHas; omega)
          unfold aMk at hY
          rw [if_neg (by omega), if_pos (by omega)] at hY
          exact hY
        · refine Gx_cast_no (C := RX8) (T := TX8) (N := 4) (bc' := 5) (bs' := 17) hfl hmo dX0_mark_81 (pairEq hk) rfl rfl xLd_mk4 xCw_4_7 (xRm_ok (c := 1) rfl (by decide +kernel)) (by decide) (by decide) ?_
          refine Gx_astore_4 dX0_mark_96 (Nat.le_of_ble_eq_true rfl) (Nat.ne_of_beq_eq_false rfl) ?_
          refine Gx_aload_n (i := 0) dX0_mark_98 rfl rfl ?_
          refine Gx_iconst ⟨by decide, by decide⟩ dX0_mark_99 ?_
          refine cl_X0_139 dX0_mark_100 rfl rfl ⟨(Nat.le_of_ble_eq_true rfl), (Nat.le_of_ble_eq_true rfl)⟩ rfl ?_
          refine ct_X0_met (by omega) ?_
          refine Gx_ireturn dX0_mark_103 trivial ?_
          exact kU hs ha (by unfold aHas; omega)
      · refine Gx_tableOut (tgt := 88) dX0_mark_27 w27 (by decide) ?_
        have w5 : a = 5 := by omega
        refine Gx_aload_n (i := 3) dX0_mark_88 rfl rfl ?_
        rcases (by omega : (gHd K (v (v 0 7) s)).1 = 3 ∨ (gHd K (v (v 0 7) s)).1 = 4 ∨ (gHd K (v (v 0 7) s)).1 = 5 ∨ (gHd K (v (v 0 7) s)).1 = 6 ∨ (gHd K (v (v 0 7) s)).1 = 7) with hk | hk | hk | hk | hk
        · refine Gx_cast_no (C := RX4) (T := TX4) (N := 1) (bc' := 5) (bs' := 17) hfl hmo dX0_mark_89 (pairEq hk) rfl rfl xLd_mk5 xCw_5_3 (xRm_ok (c := 1) rfl (by decide +kernel)) (by decide) (by decide) ?_
          refine Gx_astore_4 dX0_mark_96 (Nat.le_of_ble_eq_true rfl) (Nat.ne_of_beq_eq_false rfl) ?_
          refine Gx_aload_n (i := 0) dX0_mark_98 rfl rfl ?_
          refine Gx_iconst ⟨by decide, by decide⟩ dX0_mark_99 ?_
          refine cl_X0_139 dX0_mark_100 rfl rfl ⟨(Nat.le_of_ble_eq_true rfl), (Nat.le_of_ble_eq_true rfl)⟩ rfl ?_
          refine ct_X0_met (by omega) ?_
          refine Gx_ireturn dX0_mark_103 trivial ?_
          exact kU hs ha (by unfold aHas; omega)
        · refine Gx_cast_no (C := RX5) (T := TX5) (N := 3) (bc' := 5) (bs' := 17) hfl hmo dX0_mark_89 (pairEq hk) rfl rfl xLd_mk5 xCw_5_4 (xRm_ok (c := 1) rfl (by decide +kernel)) (by decide) (by decide) ?_
          refine Gx_astore_4 dX0_mark_96 (Nat.le_of_ble_eq_true rfl) (Nat.ne_of_beq_eq_false rfl) ?_
          refine Gx_aload_n (i := 0) dX0_mark_98 rfl rfl ?_
          refine Gx_iconst ⟨by decide, by decide⟩ dX0_mark_99 ?_
          refine cl_X0_139 dX0_mark_100 rfl rfl ⟨(Nat.le_of_ble_eq_true rfl), (Nat.le_of_ble_eq_true rfl)⟩ rfl ?_
          refine ct_X0_met (by omega) ?_
          refine Gx_ireturn dX0_mark_103 trivial ?_
          exact kU hs ha (by unfold aHas; omega)
        · refine Gx_cast_no (C := RX6) (T := TX6) (N := 3) (bc' := 5) (bs' := 17) hfl hmo dX0_mark_89 (pairEq hk) rfl rfl xLd_mk5 xCw_5_5 (xRm_ok (c := 1) rfl (by decide +kernel)) (by decide) (by decide) ?_
          refine Gx_astore_4 dX0_mark_96 (Nat.le_of_ble_eq_true rfl) (Nat.ne_of_beq_eq_false rfl) ?_
          refine Gx_aload_n (i := 0) dX0_mark_98 rfl rfl ?_
          refine Gx_iconst ⟨by decide, by decide⟩ dX0_mark_99 ?_
          refine cl_X0_139 dX0_mark_100 rfl rfl ⟨(Nat.le_of_ble_eq_true rfl), (Nat.le_of_ble_eq_true rfl)⟩ rfl ?_
          refine ct_X0_met (by omega) ?_
          refine Gx_ireturn dX0_mark_103 trivial ?_
          exact kU hs ha (by unfold aHas; omega)
        · refine Gx_cast_no (C := RX7) (T := TX7) (N := 4) (bc' := 5) (bs' := 17) hfl hmo dX0_mark_89 (pairEq hk) rfl rfl xLd_mk5 xCw_5_6 (xRm_ok (c := 1) rfl (by decide +kernel)) (by decide) (by decide) ?_
          refine Gx_astore_4 dX0_mark_96 (Nat.le_of_ble_eq_true rfl) (Nat.ne_of_beq_eq_false rfl) ?_
          refine Gx_aload_n (i := 0) dX0_mark_98 rfl rfl ?_
          refine Gx_iconst ⟨by decide, by decide⟩ dX0_mark_99 ?_
          refine cl_X0_139 dX0_mark_100 rfl rfl ⟨(Nat.le_of_ble_eq_true rfl), (Nat.le_of_ble_eq_true rfl)⟩ rfl ?_
          refine ct_X0_met (by omega) ?_
          refine Gx_ireturn dX0_mark_103 trivial ?_
          exact kU hs ha (by unfold aHas; omega)
        · refine Gx_castY (C := RX8) (T := TX8) (N := 4) dX0_mark_89 rfl (pairEq hk) rfl rfl q669 (Or.inl rfl) ?_
          refine gf_X0_316_7 dX0_mark_92 rfl (pairEq hk) ?_
          refine Gx_ireturn dX0_mark_95 trivial ?_
          have hY := kY hs ha (by unfold aHas; omega)
          unfold aMk at hY
          rw [if_neg (by omega), if_pos (by omega)] at hY
          exact hY
    · refine Gx_if_ne (tgt := 19) dX0_mark_14 (by decide) (fun hz => absurd hz (by decide)) (fun _ => ?_)
      refine Gx_iconst ⟨by decide, by decide⟩ dX0_mark_17 ?_
      refine Gx_ireturn dX0_mark_18 trivial ?_
      exact kB (by omega)
  · refine Gx_if_eq (tgt := 17) dX0_mark_5 (by decide) (fun _ => ?_) (fun hz => absurd hz (by decide))
    refine Gx_iconst ⟨by decide, by decide⟩ dX0_mark_17 ?_
    refine Gx_ireturn dX0_mark_18 trivial ?_
    exact kB (by omega)
end
