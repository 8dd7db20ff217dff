/-! AcornYears: what is told, small settings, next -/
section
variable {Γ : gC} {v : gM} {K : gH} {t : Nat} {Q : gQ}
theorem ct_X0_finding  (k : Q (0, v 0 0) v (gHd K) t) : Ctr Γ mX0_finding [(2, 0)] v (gHd K) t Q := by
  refine Ctr.ofG (ls := [(2, 0)]) rfl rfl rfl rfl rfl ?_
  refine Gx_aload_n (i := 0) dX0_finding_0 rfl rfl ?_
  refine gf_X0_3_20 dX0_finding_1 rfl rfl ?_
  refine Gx_ireturn dX0_finding_4 trivial ?_
  exact k
theorem ct_X0_asked  (k : Q (0, v 0 2) v (gHd K) t) : Ctr Γ mX0_asked [(2, 0)] v (gHd K) t Q := by
  refine Ctr.ofG (ls := [(2, 0)]) rfl rfl rfl rfl rfl ?_
  refine Gx_aload_n (i := 0) dX0_asked_0 rfl rfl ?_
  refine gf_X0_11_20 dX0_asked_1 rfl rfl ?_
  refine Gx_ireturn dX0_asked_4 trivial ?_
  exact k
theorem ct_X0_upper  (k : Q (1, v 0 3) v (gHd K) t) : Ctr Γ mX0_upper [(2, 0)] v (gHd K) t Q := by
  refine Ctr.ofG (ls := [(2, 0)]) rfl rfl rfl rfl rfl ?_
  refine Gx_aload_n (i := 0) dX0_upper_0 rfl rfl ?_
  refine gf_X0_14_20 dX0_upper_1 rfl rfl ?_
  refine Gx_lreturn dX0_upper_4 rfl ?_
  exact k
theorem ct_X0_lower  (k : Q (1, v 0 4) v (gHd K) t) : Ctr Γ mX0_lower [(2, 0)] v (gHd K) t Q := by
  refine Ctr.ofG (ls := [(2, 0)]) rfl rfl rfl rfl rfl ?_
  refine Gx_aload_n (i := 0) dX0_lower_0 rfl rfl ?_
  refine gf_X0_18_20 dX0_lower_1 rfl rfl ?_
  refine Gx_lreturn dX0_lower_4 rfl ?_
  exact k
theorem ct_X0_findings {f : Int} (k1 : 1 ≤ f ∧ f ≤ 5 → Q (0, v 1 f) v (gHd K) t) (k0 : ¬ (1 ≤ f ∧ f ≤ 5) → Q (0, -1) v (gHd K) t) : Ctr Γ mX0_findings [(2, 0), (0, f)] v (gHd K) t Q := by
  refine Ctr.ofG (ls := [(2, 0), (0, f)]) rfl rfl rfl rfl rfl ?_
  refine Gx_iload_n (i := 1) dX0_findings_0 rfl rfl ?_
  refine Gx_iconst ⟨by decide, by decide⟩ dX0_findings_1 ?_
  refine Gx_iconst ⟨by decide, by decide⟩ dX0_findings_2 ?_
  refine cl_X0_129 dX0_findings_3 rfl ⟨(Nat.le_of_ble_eq_true rfl), (Nat.le_of_ble_eq_true rfl)⟩ rfl ?_
  refine ct_X0_isIn (fun hf => ?_) (fun hf => ?_)
  · refine Gx_if_eq (tgt := 18) dX0_findings_6 (by decide) (fun hz => absurd hz (by decide)) (fun _ => ?_)
    refine Gx_aload_n (i := 0) dX0_findings_9 rfl rfl ?_
    refine gf_X0_7_20 dX0_findings_10 rfl rfl ?_
    refine Gx_iload_n (i := 1) dX0_findings_13 rfl rfl ?_
    refine Gx_iaload dX0_findings_14 rfl (by first | omega | (simp (disch := omega) only [w32_id]; omega)) ?_
    refine Gx_goto (tgt := 19) dX0_findings_15 (by decide) ?_
    refine Gx_ireturn dX0_findings_19 trivial ?_
    first
    | exact k1 hf
    | exact k0 hf
  · refine Gx_if_eq (tgt := 18) dX0_findings_6 (by decide) (fun _ => ?_) (fun hz => absurd hz (by decide))
    refine Gx_iconst ⟨by decide, by decide⟩ dX0_findings_18 ?_
    refine Gx_ireturn dX0_findings_19 trivial ?_
    first
    | exact k1 hf
    | exact k0 hf
theorem ct_X0_jay {a b : Int} (k1 : 0 ≤ a ∧ a ≤ 99 → 0 ≤ b ∧ b ≤ 12 → Q (0, 1) (gUp (gUp v 0 10 a) 0 11 b) (gHd K) t) (k0 : ¬ ((0 ≤ a ∧ a ≤ 99) ∧ 0 ≤ b ∧ b ≤ 12) → Q (0, -1) v (gHd K) t) : Ctr Γ mX0_jay [(2, 0), (0, a), (0, b)] v (gHd K) t Q := by
  refine Ctr.ofG (ls := [(2, 0), (0, a), (0, b)]) rfl rfl rfl rfl rfl ?_
  refine Gx_iload_n (i := 1) dX0_jay_0 rfl rfl ?_
  refine Gx_iconst ⟨by decide, by decide⟩ dX0_jay_1 ?_
  refine Gx_bipush dX0_jay_2 ⟨by decide, by decide⟩ ?_
  refine cl_X0_129 dX0_jay_4 rfl ⟨(Nat.le_of_ble_eq_true rfl), (Nat.le_of_ble_eq_true rfl)⟩ rfl ?_
  refine ct_X0_isIn (fun ha => ?_) (fun ha => ?_)
  · refine Gx_if_eq (tgt := 20) dX0_jay_7 (by decide) (fun hz => absurd hz (by decide)) (fun _ => ?_)
    refine Gx_iload_n (i := 2) dX0_jay_10 rfl rfl ?_
    refine Gx_iconst ⟨by decide, by decide⟩ dX0_jay_11 ?_
    refine Gx_bipush dX0_jay_12 ⟨by decide, by decide⟩ ?_
    refine cl_X0_129 dX0_jay_14 rfl ⟨(Nat.le_of_ble_eq_true rfl), (Nat.le_of_ble_eq_true rfl)⟩ rfl ?_
    refine ct_X0_isIn (fun hb => ?_) (fun hb => ?_)
    · refine Gx_if_ne (tgt := 22) dX0_jay_17 (by decide) (fun _ => ?_) (fun hz => absurd hz (by decide))
      refine Gx_aload_n (i := 0) dX0_jay_22 rfl rfl ?_
      refine Gx_iload_n (i := 1) dX0_jay_23 rfl rfl ?_
      refine pf_X0_267_20 dX0_jay_24 rfl rfl ?_
      refine Gx_aload_n (i := 0) dX0_jay_27 rfl rfl ?_
      refine Gx_iload_n (i := 2) dX0_jay_28 rfl rfl ?_
      refine pf_X0_270_20 dX0_jay_29 rfl rfl ?_
      refine Gx_iconst ⟨by decide, by decide⟩ dX0_jay_32 ?_
      refine Gx_ireturn dX0_jay_33 trivial ?_
      first
      | exact k1 ha hb
      | exact k0 (by omega)
    · refine Gx_if_ne (tgt := 22) dX0_jay_17 (by decide) (fun hz => absurd hz (by decide)) (fun _ => ?_)
      refine Gx_iconst ⟨by decide, by decide⟩ dX0_jay_20 ?_
      refine Gx_ireturn dX0_jay_21 trivial ?_
      first
      | exact k1 ha hb
      | exact k0 (by omega)
  · refine Gx_if_eq (tgt := 20) dX0_jay_7 (by decide) (fun _ => ?_) (fun hz => absurd hz (by decide))
    refine Gx_iconst ⟨by decide, by decide⟩ dX0_jay_20 ?_
    refine Gx_ireturn dX0_jay_21 trivial ?_
    first
    | exact k1 ha hb
    | exact k0 (by omega)
theorem ct_X0_mice {e m : Int} (hn : 0 ≤ v 0 12 ∧ v 0 12 ≤ 2) (k1 : 0 ≤ e ∧ e < v 0 12 → 0 ≤ m ∧ m ≤ 200 → Q (0, v 19 e) (gUp v 19 e m) (gHd K) t) (k0 : ¬ ((0 ≤ e ∧ e < v 0 12) ∧ 0 ≤ m ∧ m ≤ 200) → Q (0, -1) v (gHd K) t) : Ctr Γ mX0_mice [(2, 0), (0, e), (0, m)] v (gHd K) t Q := by
  refine Ctr.ofG (ls := [(2, 0), (0, e), (0, m), (9, 0)]) rfl rfl rfl rfl rfl ?_
  refine Gx_aload_n (i := 0) dX0_mice_0 rfl rfl ?_
  refine Gx_iload_n (i := 1) dX0_mice_1 rfl rfl ?_
  refine cl_X0_336 dX0_mice_2 rfl rfl ⟨(Nat.le_of_ble_eq_true rfl), (Nat.le_of_ble_eq_true rfl)⟩ rfl ?_
  refine ct_X0_areEaters hn (fun he => ?_) (fun he => ?_)
  · refine Gx_if_eq (tgt := 19) dX0_mice_5 (by decide) (fun hz => absurd hz (by decide)) (fun _ => ?_)
    refine Gx_iload_n (i := 2) dX0_mice_8 rfl rfl ?_
    refine Gx_iconst ⟨by decide, by decide⟩ dX0_mice_9 ?_
    refine Gx_sipush dX0_mice_10 ⟨by decide, by decide⟩ ?_
    refine cl_X0_129 dX0_mice_13 rfl ⟨(Nat.le_of_ble_eq_true rfl), (Nat.le_of_ble_eq_true rfl)⟩ rfl ?_
    refine ct_X0_isIn (fun hm => ?_) (fun hm => ?_)
    · refine Gx_if_ne (tgt := 21) dX0_mice_16 (by decide) (fun _ => ?_) (fun hz => absurd hz (by decide))
      refine Gx_aload_n (i := 0) dX0_mice_21 rfl rfl ?_
      refine gf_X0_86_20 dX0_mice_22 rfl rfl ?_
      refine gf_X0_282_21 dX0_mice_25 rfl rfl ?_
      refine Gx_iload_n (i := 1) dX0_mice_28 rfl rfl ?_
      refine Gx_iaload dX0_mice_29 rfl (by first | omega | (simp (disch := omega) only [w32_id]; omega)) ?_
      refine Gx_istore_n_3 dX0_mice_30 (Nat.le_of_ble_eq_true rfl) (Nat.ne_of_beq_eq_false rfl) ?_
      refine Gx_aload_n (i := 0) dX0_mice_31 rfl rfl ?_
      refine gf_X0_86_20 dX0_mice_32 rfl rfl ?_
      refine gf_X0_282_21 dX0_mice_35 rfl rfl ?_
      refine Gx_iload_n (i := 1) dX0_mice_38 rfl rfl ?_
      refine Gx_iload_n (i := 2) dX0_mice_39 rfl rfl ?_
      refine Gx_iastore dX0_mice_40 rfl (by first | omega | (simp (disch := omega) only [w32_id]; omega)) ?_
      refine Gx_iload_n (i := 3) dX0_mice_41 rfl rfl ?_
      refine Gx_ireturn dX0_mice_42 trivial ?_
      first
      | exact k1 he hm
      | exact k0 (by omega)
    · refine Gx_if_ne (tgt := 21) dX0_mice_16 (by decide) (fun hz => absurd hz (by decide)) (fun _ => ?_)
      refine Gx_iconst ⟨by decide, by decide⟩ dX0_mice_19 ?_
      refine Gx_ireturn dX0_mice_20 trivial ?_
      first
      | exact k1 he hm
      | exact k0 (by omega)
  · refine Gx_if_eq (tgt := 19) dX0_mice_5 (by decide) (fun _ => ?_) (fun hz => absurd hz (by decide))
    refine Gx_iconst ⟨by decide, by decide⟩ dX0_mice_19 ?_
    refine Gx_ireturn dX0_mice_20 trivial ?_
    first
    | exact k1 he hm
    | exact k0 (by omega)
theorem ct_X0_miceOf {e : Int} (hn : 0 ≤ v 0 12 ∧ v 0 12 ≤ 2) (k1 : 0 ≤ e ∧ e < v 0 12 → Q (0, v 19 e) v (gHd K) t) (k0 : ¬ (0 ≤ e ∧ e < v 0 12) → Q (0, -9) v (gHd K) t) : Ctr Γ mX0_miceOf [(2, 0), (0, e)] v (gHd K) t Q := by
  refine Ctr.ofG (ls := [(2, 0), (0, e)]) rfl rfl rfl rfl rfl ?_
  refine Gx_aload_n (i := 0) dX0_miceOf_0 rfl rfl ?_
  refine Gx_iload_n (i := 1) dX0_miceOf_1 rfl rfl ?_
  refine cl_X0_336 dX0_miceOf_2 rfl rfl ⟨(Nat.le_of_ble_eq_true rfl), (Nat.le_of_ble_eq_true rfl)⟩ rfl ?_
  refine ct_X0_areEaters hn (fun he => ?_) (fun he => ?_)
  · refine Gx_if_eq (tgt := 20) dX0_miceOf_5 (by decide) (fun hz => absurd hz (by decide)) (fun _ => ?_)
    refine Gx_aload_n (i := 0) dX0_miceOf_8 rfl rfl ?_
    refine gf_X0_86_20 dX0_miceOf_9 rfl rfl ?_
    refine gf_X0_282_21 dX0_miceOf_12 rfl rfl ?_
    refine Gx_iload_n (i := 1) dX0_miceOf_15 rfl rfl ?_
    refine Gx_iaload dX0_miceOf_16 rfl (by first | omega | (simp (disch := omega) only [w32_id]; omega)) ?_
    refine Gx_goto (tgt := 22) dX0_miceOf_17 (by decide) ?_
    refine Gx_ireturn dX0_miceOf_22 trivial ?_
    first
    | exact k1 he
    | exact k0 he
  · refine Gx_if_eq (tgt := 20) dX0_miceOf_5 (by decide) (fun _ => ?_) (fun hz => absurd hz (by decide))
    refine Gx_bipush dX0_miceOf_20 ⟨by decide, by decide⟩ ?_
    refine Gx_ireturn dX0_miceOf_22 trivial ?_
    first
    | exact k1 he
    | exact k0 he
def aNow (v : gM) (cl q : Int) : Int := if q = 0 then v 17 2 else if q ≤ 2 then (if q - 1 < v 0 12 then v 19 (q - 1) else -9) else if q = 3 then v 0 10 else if q = 4 then v 0 11 else if q = 5 then cl else v 5 (q - 6)
def aTold (v : gM) (i q : Int) : Int := if q = 0 then v (v 16 i) 0 else if q = 1 then v 18 i else if q = 2 then v (v 16 i) 1 else v (v 16 i) 2

set_option maxHeartbeats 1000000 in
theorem ct_X0_nowOf {q cl : Int} (hn : 0 ≤ v 0 12 ∧ v 0 12 ≤ 2) (hh : gHd K (v 0 8) = (11, cl)) (hq : 0 ≤ q ∧ q ≤ 8) (k : Q (0, aNow v cl q) v (gHd K) t) : Ctr Γ mX0_nowOf [(2, 0), (0, q)] v (gHd K) t Q := by
  refine Ctr.ofG (ls := [(2, 0), (0, q)]) rfl rfl rfl rfl rfl ?_
  refine Gx_iload_n (i := 1) dX0_nowOf_0 rfl rfl ?_
  rcases (by omega : q = 0 ∨ q = 1 ∨ q = 2 ∨ q = 3 ∨ q = 4 ∨ q = 5 ∨ (q < 0 ∨ 5 < q)) with w1 | w1 | w1 | w1 | w1 | w1 | w1
  · rw [w1]
    refine Gx_tableIn (off := 39) (tgt := 40) dX0_nowOf_1 (by decide) (by decide) rfl (by decide) ?_
    refine Gx_aload_n (i := 0) dX0_nowOf_40 rfl rfl ?_
    refine gf_X0_86_20 dX0_nowOf_41 rfl rfl ?_
    refine gf_X0_279_21 dX0_nowOf_44 rfl rfl ?_
    refine Gx_ireturn dX0_nowOf_47 trivial ?_
    unfold aNow at k
    first
    | (subst w1
       first
       | exact k
       | (rw [if_neg (by omega), if_pos (by omega), if_pos (by omega)] at k
          exact k)
       | (rw [if_neg (by omega), if_pos (by omega), if_neg (by omega)] at k
          exact k))
    | (rw [if_neg (by omega), if_neg (by omega), if_neg (by omega), if_neg (by omega), if_neg (by omega)] at k
       exact k)
  · rw [w1]
    refine Gx_tableIn (off := 47) (tgt := 48) dX0_nowOf_1 (by decide) (by decide) rfl (by decide) ?_
    refine Gx_aload_n (i := 0) dX0_nowOf_48 rfl rfl ?_
    refine Gx_iload_n (i := 1) dX0_nowOf_49 rfl rfl ?_
    refine Gx_iconst ⟨by decide, by decide⟩ dX0_nowOf_50 ?_
    refine Gx_isub dX0_nowOf_51 ?_
    try simp (disch := omega) only [w32_id]
    refine cl_X0_339 dX0_nowOf_52 rfl rfl ⟨(Nat.le_of_ble_eq_true rfl), (Nat.le_of_ble_eq_true rfl)⟩ rfl ?_
    refine ct_X0_miceOf hn (fun he => ?_) (fun he => ?_)
    · refine Gx_ireturn dX0_nowOf_55 trivial ?_
      unfold aNow at k
      first
      | (subst w1
         first
         | exact k
         | (rw [if_neg (by omega), if_pos (by omega), if_pos (by omega)] at k
            exact k)
         | (rw [if_neg (by omega), if_pos (by omega), if_neg (by omega)] at k
            exact k))
      | (rw [if_neg (by omega), if_neg (by omega), if_neg (by omega), if_neg (by omega), if_neg (by omega)] at k
         exact k)
    · refine Gx_ireturn dX0_nowOf_55 trivial ?_
      unfold aNow at k
      first
      | (subst w1
         first
         | exact k
         | (rw [if_neg (by omega), if_pos (by omega), if_pos (by omega)] at k
            exact k)
         | (rw [if_neg (by omega), if_pos (by omega), if_neg (by omega)] at k
            exact k))
      | (rw [if_neg (by omega), if_neg (by omega), if_neg (by omega), if_neg (by omega), if_neg (by omega)] at k
         exact k)
  · rw [w1]
    refine Gx_tableIn (off := 47) (tgt := 48) dX0_nowOf_1 (by decide) (by decide) rfl (by decide) ?_
    refine Gx_aload_n (i := 0) dX0_nowOf_48 rfl rfl ?_
    refine Gx_iload_n (i := 1) dX0_nowOf_49 rfl rfl ?_
    refine Gx_iconst ⟨by decide, by decide⟩ dX0_nowOf_50 ?_
    refine Gx_isub dX0_nowOf_51 ?_
    try simp (disch := omega) only [w32_id]
    refine cl_X0_339 dX0_nowOf_52 rfl rfl ⟨(Nat.le_of_ble_eq_true rfl), (Nat.le_of_ble_eq_true rfl)⟩ rfl ?_
    refine ct_X0_miceOf hn (fun he => ?_) (fun he => ?_)
    · refine Gx_ireturn dX0_nowOf_55 trivial ?_
      unfold aNow at k
      first
      | (subst w1
         first
         | exact k
         | (rw [if_neg (by omega), if_pos (by omega), if_pos (by omega)] at k
            exact k)
         | (rw [if_neg (by omega), if_pos (by omega), if_neg (by omega)] at k
            exact k))
      | (rw [if_neg (by omega), if_neg (by omega), if_neg (by omega), if_neg (by omega), if_neg (by omega)] at k
         exact k)
    · refine Gx_ireturn dX0_nowOf_55 trivial ?_
      unfold aNow at k
      first
      | (subst w1
         first
         | exact k
         | (rw [if_neg (by omega), if_pos (by omega), if_pos (by omega)] at k
            exact k)
         | (rw [if_neg (by omega), if_pos (by omega), if_neg (by omega)] at k
            exact k))
      | (rw [if_neg (by omega), if_neg (by omega), if_neg (by omega), if_neg (by omega), if_neg (by omega)] at k
         exact k)
  · rw [w1]
    refine Gx_tableIn (off := 55) (tgt := 56) dX0_nowOf_1 (by decide) (by decide) rfl (by decide) ?_
    refine Gx_aload_n (i := 0) dX0_nowOf_56 rfl rfl ?_
    refine gf_X0_267_20 dX0_nowOf_57 rfl rfl ?_
    refine Gx_ireturn dX0_nowOf_60 trivial ?_
    unfold aNow at k
    first
    | (subst w1
       first
       | exact k
       | (rw [if_neg (by omega), if_pos (by omega), if_pos (by omega)] at k
          exact k)
       | (rw [if_neg (by omega), if_pos (by omega), if_neg (by omega)] at k
          exact k))
    | (rw [if_neg (by omega), if_neg (by omega), if_neg (by omega), if_neg (by omega), if_neg (by omega)] at k
       exact k)
  · rw [w1]
    refine Gx_tableIn (off := 60) (tgt := 61) dX0_nowOf_1 (by decide) (by decide) rfl (by decide) ?_
    refine Gx_aload_n (i := 0) dX0_nowOf_61 rfl rfl ?_
    refine gf_X0_270_20 dX0_nowOf_62 rfl rfl ?_
    refine Gx_ireturn dX0_nowOf_65 trivial ?_
    unfold aNow at k
    first
    | (subst w1
       first
       | exact k
       | (rw [if_neg (by omega), if_pos (by omega), if_pos (by omega)] at k
          exact k)
       | (rw [if_neg (by omega), if_pos (by omega), if_neg (by omega)] at k
          exact k))
    | (rw [if_neg (by omega), if_neg (by omega), if_neg (by omega), if_neg (by omega), if_neg (by omega)] at k
       exact k)
  · rw [w1]
    refine Gx_tableIn (off := 65) (tgt := 66) dX0_nowOf_1 (by decide) (by decide) rfl (by decide) ?_
    refine Gx_aload_n (i := 0) dX0_nowOf_66 rfl rfl ?_
    refine gf_X0_126_20 dX0_nowOf_67 rfl rfl ?_
    refine Gx_alen dX0_nowOf_70 hh (by decide) (by decide) ?_
    refine Gx_ireturn dX0_nowOf_71 trivial ?_
    unfold aNow at k
    first
    | (subst w1
       first
       | exact k
       | (rw [if_neg (by omega), if_pos (by omega), if_pos (by omega)] at k
          exact k)
       | (rw [if_neg (by omega), if_pos (by omega), if_neg (by omega)] at k
          exact k))
    | (rw [if_neg (by omega), if_neg (by omega), if_neg (by omega), if_neg (by omega), if_neg (by omega)] at k
       exact k)
  · refine Gx_tableOut (tgt := 72) dX0_nowOf_1 w1 (by decide) ?_
    refine Gx_aload_n (i := 0) dX0_nowOf_72 rfl rfl ?_
    refine gf_X0_44_20 dX0_nowOf_73 rfl rfl ?_
    refine Gx_iload_n (i := 1) dX0_nowOf_76 rfl rfl ?_
    refine Gx_bipush dX0_nowOf_77 ⟨by decide, by decide⟩ ?_
    refine Gx_isub dX0_nowOf_79 ?_
    try simp (disch := omega) only [w32_id]
    refine Gx_iaload dX0_nowOf_80 rfl (by first | omega | (simp (disch := omega) only [w32_id]; omega)) ?_
    refine Gx_ireturn dX0_nowOf_81 trivial ?_
    unfold aNow at k
    first
    | (subst w1
       first
       | exact k
       | (rw [if_neg (by omega), if_pos (by omega), if_pos (by omega)] at k
          exact k)
       | (rw [if_neg (by omega), if_pos (by omega), if_neg (by omega)] at k
          exact k))
    | (rw [if_neg (by omega), if_neg (by omega), if_neg (by omega), if_neg (by omega), if_neg (by omega)] at k
       exact k)
theorem ct_X0_now {q cl : Int} (hn : 0 ≤ v 0 12 ∧ v 0 12 ≤ 2) (hh : gHd K (v 0 8) = (11, cl)) (k1 : 0 ≤ q ∧ q ≤ 8 → Q (0, 1) (gUp v 0 2 (aNow v cl q)) (gHd K) t) (k0 : ¬ (0 ≤ q ∧ q ≤ 8) → Q (0, -1) v (gHd K) t) : Ctr Γ mX0_now [(2, 0), (0, q)] v (gHd K) t Q := by
  refine Ctr.ofG (ls := [(2, 0), (0, q)]) rfl rfl rfl rfl rfl ?_
  refine Gx_iload_n (i := 1) dX0_now_0 rfl rfl ?_
  refine Gx_iconst ⟨by decide, by decide⟩ dX0_now_1 ?_
  refine Gx_bipush dX0_now_2 ⟨by decide, by decide⟩ ?_
  refine cl_X0_129 dX0_now_4 rfl ⟨(Nat.le_of_ble_eq_true rfl), (Nat.le_of_ble_eq_true rfl)⟩ rfl ?_
  refine ct_X0_isIn (fun hq => ?_) (fun hq => ?_)
  · refine Gx_if_eq (tgt := 23) dX0_now_7 (by decide) (fun hz => absurd hz (by decide)) (fun _ => ?_)
    refine Gx_aload_n (i := 0) dX0_now_10 rfl rfl ?_
    refine Gx_aload_n (i := 0) dX0_now_11 rfl rfl ?_
    refine Gx_iload_n (i := 1) dX0_now_12 rfl rfl ?_
    refine cl_X0_342 dX0_now_13 rfl rfl ⟨(Nat.le_of_ble_eq_true rfl), (Nat.le_of_ble_eq_true rfl)⟩ rfl ?_
    refine ct_X0_nowOf hn hh hq ?_
    refine Gx_iconst ⟨by decide, by decide⟩ dX0_now_16 ?_
    refine cl_X0_147 dX0_now_17 rfl rfl ⟨(Nat.le_of_ble_eq_true rfl), (Nat.le_of_ble_eq_true rfl)⟩ rfl ?_
    refine ct_X0_ask ?_
    refine Gx_goto (tgt := 24) dX0_now_20 (by decide) ?_
    refine Gx_ireturn dX0_now_24 trivial ?_
    first
    | exact k1 hq
    | exact k0 hq
  · refine Gx_if_eq (tgt := 23) dX0_now_7 (by decide) (fun _ => ?_) (fun hz => absurd hz (by decide))
    refine Gx_iconst ⟨by decide, by decide⟩ dX0_now_23 ?_
    refine Gx_ireturn dX0_now_24 trivial ?_
    first
    | exact k1 hq
    | exact k0 hq
set_option maxHeartbeats 1000000 in
theorem ct_X0_toldOf {i q m : Int} (hi : 0 ≤ i ∧ i < 24) (ht : gHd K (v 16 i) = (8, m)) (k : Q (0, aTold v i q) v (gHd K) t) : Ctr Γ mX0_toldOf [(2, 0), (0, i), (0, q)] v (gHd K) t Q := by
  refine Ctr.ofG (ls := [(2, 0), (0, i), (0, q), (9, 0)]) rfl rfl rfl rfl rfl ?_
  refine Gx_aload_n (i := 0) dX0_toldOf_0 rfl rfl ?_
  refine gf_X0_79_20 dX0_toldOf_1 rfl rfl ?_
  refine Gx_iload_n (i := 1) dX0_toldOf_4 rfl rfl ?_
  refine Gx_aaload18 dX0_toldOf_5 rfl (by first | omega | (simp (disch := omega) only [w32_id]; omega)) ?_
  refine Gx_astore_n_3 dX0_toldOf_6 (Nat.le_of_ble_eq_true rfl) (Nat.ne_of_beq_eq_false rfl) ?_
  refine Gx_iload_n (i := 2) dX0_toldOf_7 rfl rfl ?_
  refine Gx_if_ne (tgt := 18) dX0_toldOf_8 (by decide) (fun c8 => ?_) (fun c8 => ?_)
  · refine Gx_iload_n (i := 2) dX0_toldOf_18 rfl rfl ?_
    refine Gx_iconst ⟨by decide, by decide⟩ dX0_toldOf_19 ?_
    refine Gx_icmp_ne (tgt := 35) dX0_toldOf_20 (by decide) (fun c20 => ?_) (fun c20 => ?_)
    · refine Gx_iload_n (i := 2) dX0_toldOf_35 rfl rfl ?_
      refine Gx_iconst ⟨by decide, by decide⟩ dX0_toldOf_36 ?_
      refine Gx_icmp_ne (tgt := 47) dX0_toldOf_37 (by decide) (fun c37 => ?_) (fun c37 => ?_)
      · refine Gx_aload_n (i := 3) dX0_toldOf_47 rfl rfl ?_
        refine gf_X0_327_8 dX0_toldOf_48 rfl ht ?_
        refine Gx_ireturn dX0_toldOf_51 trivial ?_
        unfold aTold at k
        first
        | (rw [if_pos (by omega)] at k; exact k)
        | (rw [if_neg (by omega), if_pos (by omega)] at k; exact k)
        | (rw [if_neg (by omega), if_neg (by omega), if_pos (by omega)] at k; exact k)
        | (rw [if_neg (by omega), if_neg (by omega), if_neg (by omega)] at k; exact k)
      · refine Gx_aload_n (i := 3) dX0_toldOf_40 rfl rfl ?_
        refine gf_X0_324_8 dX0_toldOf_41 rfl ht ?_
        refine Gx_goto (tgt := 51) dX0_toldOf_44 (by decide) ?_
        refine Gx_ireturn dX0_toldOf_51 trivial ?_
        unfold aTold at k
        first
        | (rw [if_pos (by omega)] at k; exact k)
        | (rw [if_neg (by omega), if_pos (by omega)] at k; exact k)
        | (rw [if_neg (by omega), if_neg (by omega), if_pos (by omega)] at k; exact k)
        | (rw [if_neg (by omega), if_neg (by omega), if_neg (by omega)] at k; exact k)
    · refine Gx_aload_n (i := 0) dX0_toldOf_23 rfl rfl ?_
      refine gf_X0_86_20 dX0_toldOf_24 rfl rfl ?_
      refine gf_X0_288_21 dX0_toldOf_27 rfl rfl ?_
      refine Gx_iload_n (i := 1) dX0_toldOf_30 rfl rfl ?_
      refine Gx_iaload dX0_toldOf_31 rfl (by first | omega | (simp (disch := omega) only [w32_id]; omega)) ?_
      refine Gx_goto (tgt := 51) dX0_toldOf_32 (by decide) ?_
      refine Gx_ireturn dX0_toldOf_51 trivial ?_
      unfold aTold at k
      first
      | (rw [if_pos (by omega)] at k; exact k)
      | (rw [if_neg (by omega), if_pos (by omega)] at k; exact k)
      | (rw [if_neg (by omega), if_neg (by omega), if_pos (by omega)] at k; exact k)
      | (rw [if_neg (by omega), if_neg (by omega), if_neg (by omega)] at k; exact k)
  · refine Gx_aload_n (i := 3) dX0_toldOf_11 rfl rfl ?_
    refine gf_X0_321_8 dX0_toldOf_12 rfl ht ?_
    refine Gx_goto (tgt := 51) dX0_toldOf_15 (by decide) ?_
    refine Gx_ireturn dX0_toldOf_51 trivial ?_
    unfold aTold at k
    first
    | (rw [if_pos (by omega)] at k; exact k)
    | (rw [if_neg (by omega), if_pos (by omega)] at k; exact k)
    | (rw [if_neg (by omega), if_neg (by omega), if_pos (by omega)] at k; exact k)
    | (rw [if_neg (by omega), if_neg (by omega), if_neg (by omega)] at k; exact k)
set_option maxHeartbeats 1000000 in
theorem ct_X0_told {i q : Int} (hn : 0 ≤ v 0 32 ∧ v 0 32 ≤ 24) (hW : aWf v (gHd K)) (k1 : 0 ≤ i ∧ i < v 0 32 → 0 ≤ q ∧ q ≤ 3 → Q (0, 1) (gUp v 0 2 (aTold v i q)) (gHd K) t) (k0 : ¬ ((0 ≤ i ∧ i < v 0 32) ∧ 0 ≤ q ∧ q ≤ 3) → Q (0, -1) v (gHd K) t) : Ctr Γ mX0_told [(2, 0), (0, i), (0, q)] v (gHd K) t Q := by
  refine Ctr.ofG (ls := [(2, 0), (0, i), (0, q)]) rfl rfl rfl rfl rfl ?_
  refine Gx_aload_n (i := 0) dX0_told_0 rfl rfl ?_
  refine Gx_iload_n (i := 1) dX0_told_1 rfl rfl ?_
  refine cl_X0_330 dX0_told_2 rfl rfl ⟨(Nat.le_of_ble_eq_true rfl), (Nat.le_of_ble_eq_true rfl)⟩ rfl ?_
  refine ct_X0_isTree hn (fun hi => ?_) (fun hi => ?_)
  · refine Gx_if_eq (tgt := 31) dX0_told_5 (by decide) (fun hz => absurd hz (by decide)) (fun _ => ?_)
    refine Gx_iload_n (i := 2) dX0_told_8 rfl rfl ?_
    refine Gx_iconst ⟨by decide, by decide⟩ dX0_told_9 ?_
    refine Gx_iconst ⟨by decide, by decide⟩ dX0_told_10 ?_
    refine cl_X0_129 dX0_told_11 rfl ⟨(Nat.le_of_ble_eq_true rfl), (Nat.le_of_ble_eq_true rfl)⟩ rfl ?_
    refine ct_X0_isIn (fun hq => ?_) (fun hq => ?_)
    · refine Gx_if_eq (tgt := 31) dX0_told_14 (by decide) (fun hz => absurd hz (by decide)) (fun _ => ?_)
      refine Gx_aload_n (i := 0) dX0_told_17 rfl rfl ?_
      refine Gx_aload_n (i := 0) dX0_told_18 rfl rfl ?_
      refine Gx_iload_n (i := 1) dX0_told_19 rfl rfl ?_
      refine Gx_iload_n (i := 2) dX0_told_20 rfl rfl ?_
      refine cl_X0_333 dX0_told_21 rfl rfl ⟨(Nat.le_of_ble_eq_true rfl), (Nat.le_of_ble_eq_true rfl)⟩ rfl ?_
      refine ct_X0_toldOf ⟨hi.1, by omega⟩ (pairEq (hW.2.2.2.1 i hi.1 hi.2).2) ?_
      refine Gx_iconst ⟨by decide, by decide⟩ dX0_told_24 ?_
      refine cl_X0_147 dX0_told_25 rfl rfl ⟨(Nat.le_of_ble_eq_true rfl), (Nat.le_of_ble_eq_true rfl)⟩ rfl ?_
      refine ct_X0_ask ?_
      refine Gx_goto (tgt := 32) dX0_told_28 (by decide) ?_
      refine Gx_ireturn dX0_told_32 trivial ?_
      first
      | exact k1 hi hq
      | exact k0 (by omega)
    · refine Gx_if_eq (tgt := 31) dX0_told_14 (by decide) (fun _ => ?_) (fun hz => absurd hz (by decide))
      refine Gx_iconst ⟨by decide, by decide⟩ dX0_told_31 ?_
      refine Gx_ireturn dX0_told_32 trivial ?_
      first
      | exact k1 hi hq
      | exact k0 (by omega)
  · refine Gx_if_eq (tgt := 31) dX0_told_5 (by decide) (fun _ => ?_) (fun hz => absurd hz (by decide))
    refine Gx_iconst ⟨by decide, by decide⟩ dX0_told_31 ?_
    refine Gx_ireturn dX0_told_32 trivial ?_
    first
    | exact k1 hi hq
    | exact k0 (by omega)
set_option maxHeartbeats 1000000 in
theorem ct_X0_next {w : Int} (hW : aWf v (gHd K)) (hu : yOK (aN v (gHd K) 17)) (hy : v 17 2 ≤ 9999) (h35 : v 0 35 ≤ 99) (h63 : ∀ s, 0 ≤ s → s < (gHd K (v 0 7)).2 → (gHd K (v (v 0 7) s)).1 = 6 → 0 ≤ v (v (v 0 7) s) 3 ∧ v (v (v 0 7) s) 3 ≤ 99) (kB : ¬ (0 ≤ w ∧ w ≤ 2) → Q (0, -1) v (gHd K) t) (kS : 0 ≤ w ∧ w ≤ 2 → v 17 2 = 9999 → Q (0, -4) v (gHd K) t) (kY : 0 ≤ w ∧ w ≤ 2 → v 17 2 ≠ 9999 → ∀ vP v1, oPs v vP (gHd K) 17 w 0 → oHr vP v1 (v 0 32) → Q (0, v1 17 6) (gUp v1 0 2 (v1 17 7)) (gHd K) t) : Ctr Γ mX0_next [(2, 0), (0, w)] v (gHd K) t Q := by
  refine Ctr.ofG (ls := [(2, 0), (0, w)]) rfl rfl rfl rfl rfl ?_
  refine Gx_iload_n (i := 1) dX0_next_0 rfl rfl ?_
  refine Gx_iconst ⟨by decide, by decide⟩ dX0_next_1 ?_
  refine Gx_iconst ⟨by decide, by decide⟩ dX0_next_2 ?_
  refine cl_X0_129 dX0_next_3 rfl ⟨(Nat.le_of_ble_eq_true rfl), (Nat.le_of_ble_eq_true rfl)⟩ rfl ?_
  refine ct_X0_isIn (fun hw => ?_) (fun hw => ?_)
  · refine Gx_if_ne (tgt := 11) dX0_next_6 (by decide) (fun _ => ?_) (fun hz => absurd hz (by decide))
    refine Gx_aload_n (i := 0) dX0_next_11 rfl rfl ?_
    refine gf_X0_86_20 dX0_next_12 rfl rfl ?_
    refine gf_X0_279_21 dX0_next_15 rfl rfl ?_
    refine Gx_sipush dX0_next_18 ⟨by decide, by decide⟩ ?_
    refine Gx_icmp_ne (tgt := 27) dX0_next_21 (by decide) (fun c21 => ?_) (fun c21 => ?_)
    · refine Gx_aload_n (i := 0) dX0_next_27 rfl rfl ?_
      refine Gx_iload_n (i := 1) dX0_next_28 rfl rfl ?_
      refine cl_X0_406 dX0_next_29 rfl rfl ⟨(Nat.le_of_ble_eq_true rfl), (Nat.le_of_ble_eq_true rfl)⟩ rfl ?_
      refine ct_X0_passHere hw hW hu (by omega) h35 h63 (fun vP v1 hps hhr => ?_)
      refine Gx_aload_n (i := 0) dX0_next_32 rfl rfl ?_
      refine Gx_aload_n (i := 0) dX0_next_33 rfl rfl ?_
      refine gf_X0_86_20 dX0_next_34 rfl rfl ?_
      refine gf_X0_399_21 dX0_next_37 rfl rfl ?_
      refine Gx_aload_n (i := 0) dX0_next_40 rfl rfl ?_
      refine gf_X0_86_20 dX0_next_41 rfl rfl ?_
      refine gf_X0_374_21 dX0_next_44 rfl rfl ?_
      refine cl_X0_147 dX0_next_47 rfl rfl ⟨(Nat.le_of_ble_eq_true rfl), (Nat.le_of_ble_eq_true rfl)⟩ rfl ?_
      refine ct_X0_ask ?_
      refine Gx_ireturn dX0_next_50 trivial ?_
      exact kY hw (by omega) vP v1 hps hhr
    · refine Gx_bipush dX0_next_24 ⟨by decide, by decide⟩ ?_
      refine Gx_ireturn dX0_next_26 trivial ?_
      exact kS hw (by omega)
  · refine Gx_if_ne (tgt := 11) dX0_next_6 (by decide) (fun hz => absurd hz (by decide)) (fun _ => ?_)
    refine Gx_iconst ⟨by decide, by decide⟩ dX0_next_9 ?_
    refine Gx_ireturn dX0_next_10 trivial ?_
    exact kB hw
end
