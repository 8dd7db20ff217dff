/-! AcornYearsModel: rows, texts, numbers told -/
section
variable {Γ : gC} {v : gM} {K : gH} {t : Nat} {Q : gQ}
theorem ct_X2_in {x lo hi : Int} (k1 : lo ≤ x ∧ x ≤ hi → Q (0, 1) v (gHd K) t) (k0 : ¬ (lo ≤ x ∧ x ≤ hi) → Q (0, 0) v (gHd K) t) : Ctr Γ mX2_in [(0, x), (0, lo), (0, hi)] v (gHd K) t Q := by
  refine Ctr.ofG (ls := [(0, x), (0, lo), (0, hi)]) rfl rfl rfl rfl rfl ?_
  refine Gx_iload_n (i := 0) dX2_in_0 rfl rfl ?_
  refine Gx_iload_n (i := 1) dX2_in_1 rfl rfl ?_
  refine Gx_icmp_lt (tgt := 14) dX2_in_2 (by decide) (fun c2 => ?_) (fun c2 => ?_)
  · refine Gx_iconst ⟨by decide, by decide⟩ dX2_in_14 ?_
    refine Gx_ireturn dX2_in_15 (Or.inl rfl) ?_
    first | exact k1 (by omega) | exact k0 (by omega)
  · refine Gx_iload_n (i := 0) dX2_in_5 rfl rfl ?_
    refine Gx_iload_n (i := 2) dX2_in_6 rfl rfl ?_
    refine Gx_icmp_gt (tgt := 14) dX2_in_7 (by decide) (fun c7 => ?_) (fun c7 => ?_)
    · refine Gx_iconst ⟨by decide, by decide⟩ dX2_in_14 ?_
      refine Gx_ireturn dX2_in_15 (Or.inl rfl) ?_
      first | exact k1 (by omega) | exact k0 (by omega)
    · refine Gx_iconst ⟨by decide, by decide⟩ dX2_in_10 ?_
      refine Gx_goto (tgt := 15) dX2_in_11 (by decide) ?_
      refine Gx_ireturn dX2_in_15 (Or.inr rfl) ?_
      first | exact k1 (by omega) | exact k0 (by omega)
theorem ct_X2_isRow {r : Int} (k1 : 0 ≤ r ∧ r ≤ 5 → Q (0, 1) v (gHd K) t) (k0 : ¬ (0 ≤ r ∧ r ≤ 5) → Q (0, 0) v (gHd K) t) : Ctr Γ mX2_isRow [(0, r)] v (gHd K) t Q := by
  refine Ctr.ofG (ls := [(0, r)]) rfl rfl rfl rfl rfl ?_
  refine Gx_iload_n (i := 0) dX2_isRow_0 rfl rfl ?_
  refine Gx_iconst ⟨by decide, by decide⟩ dX2_isRow_1 ?_
  refine Gx_iconst ⟨by decide, by decide⟩ dX2_isRow_2 ?_
  refine cl_X2_104 dX2_isRow_3 rfl ⟨(Nat.le_of_ble_eq_true rfl), (Nat.le_of_ble_eq_true rfl)⟩ rfl ?_
  refine ct_X2_in (fun c3 => ?_) (fun c3 => ?_)
  · refine Gx_ireturn dX2_isRow_6 (Or.inr rfl) ?_
    first | exact k1 (by omega) | exact k0 (by omega)
  · refine Gx_ireturn dX2_isRow_6 (Or.inl rfl) ?_
    first | exact k1 (by omega) | exact k0 (by omega)
theorem ct_X2_isText {r : Int} (k1 : 0 ≤ r ∧ r ≤ 3 → Q (0, 1) v (gHd K) t) (k0 : ¬ (0 ≤ r ∧ r ≤ 3) → Q (0, 0) v (gHd K) t) : Ctr Γ mX2_isText [(0, r)] v (gHd K) t Q := by
  refine Ctr.ofG (ls := [(0, r)]) rfl rfl rfl rfl rfl ?_
  refine Gx_iload_n (i := 0) dX2_isText_0 rfl rfl ?_
  refine Gx_iconst ⟨by decide, by decide⟩ dX2_isText_1 ?_
  refine Gx_iconst ⟨by decide, by decide⟩ dX2_isText_2 ?_
  refine cl_X2_104 dX2_isText_3 rfl ⟨(Nat.le_of_ble_eq_true rfl), (Nat.le_of_ble_eq_true rfl)⟩ rfl ?_
  refine ct_X2_in (fun c3 => ?_) (fun c3 => ?_)
  · refine Gx_ireturn dX2_isText_6 (Or.inr rfl) ?_
    first | exact k1 (by omega) | exact k0 (by omega)
  · refine Gx_ireturn dX2_isText_6 (Or.inl rfl) ?_
    first | exact k1 (by omega) | exact k0 (by omega)
theorem ct_X2_lesser {a b : Int} (k : Q (0, min a b) v (gHd K) t) : Ctr Γ mX2_lesser [(0, a), (0, b)] v (gHd K) t Q := by
  refine Ctr.ofG (ls := [(0, a), (0, b)]) rfl rfl rfl rfl rfl ?_
  refine Gx_iload_n (i := 0) dX2_lesser_0 rfl rfl ?_
  refine Gx_iload_n (i := 1) dX2_lesser_1 rfl rfl ?_
  refine Gx_icmp_ge (tgt := 9) dX2_lesser_2 (by decide) (fun c2 => ?_) (fun c2 => ?_)
  · refine Gx_iload_n (i := 1) dX2_lesser_9 rfl rfl ?_
    refine Gx_ireturn dX2_lesser_10 trivial ?_
    first | (rw [Int.min_eq_left (by omega)] at k; exact k) | (rw [Int.min_eq_right (by omega)] at k; exact k)
  · refine Gx_iload_n (i := 0) dX2_lesser_5 rfl rfl ?_
    refine Gx_goto (tgt := 10) dX2_lesser_6 (by decide) ?_
    refine Gx_ireturn dX2_lesser_10 trivial ?_
    first | (rw [Int.min_eq_left (by omega)] at k; exact k) | (rw [Int.min_eq_right (by omega)] at k; exact k)
theorem ct_X2_meets {f : Int} (hf : 0 ≤ f ∧ f < 6) (k : Q (0, -3) (gUp (gUp v 38 0 f) 39 f (w32 (v 39 f + 1))) (gHd K) t) : Ctr Γ mX2_meets [(2, 38), (0, f)] v (gHd K) t Q := by
  refine Ctr.ofG (ls := [(2, 38), (0, f)]) rfl rfl rfl rfl rfl ?_
  refine Gx_aload_n (i := 0) dX2_meets_0 rfl rfl ?_
  refine Gx_iload_n (i := 1) dX2_meets_1 rfl rfl ?_
  refine pf_X2_101_22 dX2_meets_2 rfl rfl ?_
  refine Gx_aload_n (i := 0) dX2_meets_5 rfl rfl ?_
  refine gf_X2_7_22 dX2_meets_6 rfl rfl ?_
  refine Gx_iload_n (i := 1) dX2_meets_9 rfl rfl ?_
  refine Gx_dup2 (Nat.ne_of_beq_eq_false rfl) (Nat.ne_of_beq_eq_false rfl) dX2_meets_10 ?_
  refine Gx_iaload dX2_meets_11 rfl (by first | omega | (simp (disch := omega) only [w32_id]; omega)) ?_
  refine Gx_iconst ⟨by decide, by decide⟩ dX2_meets_12 ?_
  refine Gx_iadd dX2_meets_13 ?_
  try simp (disch := omega) only [w32_id]
  refine Gx_iastore dX2_meets_14 rfl (by first | omega | (simp (disch := omega) only [w32_id]; omega)) ?_
  refine Gx_bipush dX2_meets_15 ⟨by decide, by decide⟩ ?_
  refine Gx_ireturn dX2_meets_17 trivial ?_
  exact k
theorem ct_X2_finding  (k : Q (0, v 38 0) v (gHd K) t) : Ctr Γ mX2_finding [(2, 38)] v (gHd K) t Q := by
  refine Ctr.ofG (ls := [(2, 38)]) rfl rfl rfl rfl rfl ?_
  refine Gx_aload_n (i := 0) dX2_finding_0 rfl rfl ?_
  refine gf_X2_101_22 dX2_finding_1 rfl rfl ?_
  refine Gx_ireturn dX2_finding_4 trivial ?_
  exact k
theorem ct_X2_findings {f : Int} (k : Q (0, if 1 ≤ f ∧ f ≤ 5 then v 39 f else -1) v (gHd K) t) : Ctr Γ mX2_findings [(2, 38), (0, f)] v (gHd K) t Q := by
  refine Ctr.ofG (ls := [(2, 38), (0, f)]) rfl rfl rfl rfl rfl ?_
  refine Gx_iload_n (i := 1) dX2_findings_0 rfl rfl ?_
  refine Gx_iconst ⟨by decide, by decide⟩ dX2_findings_1 ?_
  refine Gx_iconst ⟨by decide, by decide⟩ dX2_findings_2 ?_
  refine cl_X2_104 dX2_findings_3 rfl ⟨(Nat.le_of_ble_eq_true rfl), (Nat.le_of_ble_eq_true rfl)⟩ rfl ?_
  refine ct_X2_in (fun c3 => ?_) (fun c3 => ?_)
  · refine Gx_if_eq (tgt := 18) dX2_findings_6 (by decide) (fun hz => absurd hz (by decide)) (fun _ => ?_)
    refine Gx_aload_n (i := 0) dX2_findings_9 rfl rfl ?_
    refine gf_X2_7_22 dX2_findings_10 rfl rfl ?_
    refine Gx_iload_n (i := 1) dX2_findings_13 rfl rfl ?_
    refine Gx_iaload dX2_findings_14 rfl (by first | omega | (simp (disch := omega) only [w32_id]; omega)) ?_
    refine Gx_goto (tgt := 19) dX2_findings_15 (by decide) ?_
    refine Gx_ireturn dX2_findings_19 trivial ?_
    first | (rw [if_pos (by omega)] at k; exact k) | (rw [if_neg (by omega)] at k; exact k)
  · refine Gx_if_eq (tgt := 18) dX2_findings_6 (by decide) (fun _ => ?_) (fun hz => absurd hz (by decide))
    refine Gx_iconst ⟨by decide, by decide⟩ dX2_findings_18 ?_
    refine Gx_ireturn dX2_findings_19 trivial ?_
    first | (rw [if_pos (by omega)] at k; exact k) | (rw [if_neg (by omega)] at k; exact k)
theorem ct_X2_tells {x a : Int} (k : Q (0, a) (gUp v 38 2 x) (gHd K) t) : Ctr Γ mX2_tells [(2, 38), (0, x), (0, a)] v (gHd K) t Q := by
  refine Ctr.ofG (ls := [(2, 38), (0, x), (0, a)]) rfl rfl rfl rfl rfl ?_
  refine Gx_aload_n (i := 0) dX2_tells_0 rfl rfl ?_
  refine Gx_iload_n (i := 1) dX2_tells_1 rfl rfl ?_
  refine pf_X2_108_22 dX2_tells_2 rfl rfl ?_
  refine Gx_iload_n (i := 2) dX2_tells_5 rfl rfl ?_
  refine Gx_ireturn dX2_tells_6 trivial ?_
  exact k
theorem ct_X2_asked  (k : Q (0, v 38 2) v (gHd K) t) : Ctr Γ mX2_asked [(2, 38)] v (gHd K) t Q := by
  refine Ctr.ofG (ls := [(2, 38)]) rfl rfl rfl rfl rfl ?_
  refine Gx_aload_n (i := 0) dX2_asked_0 rfl rfl ?_
  refine gf_X2_108_22 dX2_asked_1 rfl rfl ?_
  refine Gx_ireturn dX2_asked_4 trivial ?_
  exact k
theorem ct_X2_upper  (k : Q (1, v 38 3) v (gHd K) t) : Ctr Γ mX2_upper [(2, 38)] v (gHd K) t Q := by
  refine Ctr.ofG (ls := [(2, 38)]) rfl rfl rfl rfl rfl ?_
  refine Gx_aload_n (i := 0) dX2_upper_0 rfl rfl ?_
  refine gf_X2_111_22 dX2_upper_1 rfl rfl ?_
  refine Gx_lreturn dX2_upper_4 rfl ?_
  exact k
theorem ct_X2_lower  (k : Q (1, v 38 4) v (gHd K) t) : Ctr Γ mX2_lower [(2, 38)] v (gHd K) t Q := by
  refine Ctr.ofG (ls := [(2, 38)]) rfl rfl rfl rfl rfl ?_
  refine Gx_aload_n (i := 0) dX2_lower_0 rfl rfl ?_
  refine gf_X2_93_22 dX2_lower_1 rfl rfl ?_
  refine Gx_lreturn dX2_lower_4 rfl ?_
  exact k
theorem ct_X2_rowAt {r i : Int} (hr : 0 ≤ r ∧ r < 6) (hi : 0 ≤ i ∧ i < 80) (k : Q (0, v 41 (80 * r + i)) v (gHd K) t) : Ctr Γ mX2_rowAt [(2, 38), (0, r), (0, i)] v (gHd K) t Q := by
  refine Ctr.ofG (ls := [(2, 38), (0, r), (0, i)]) rfl rfl rfl rfl rfl ?_
  refine Gx_aload_n (i := 0) dX2_rowAt_0 rfl rfl ?_
  refine gf_X2_16_22 dX2_rowAt_1 rfl rfl ?_
  refine Gx_bipush dX2_rowAt_4 ⟨by decide, by decide⟩ ?_
  refine Gx_iload_n (i := 1) dX2_rowAt_6 rfl rfl ?_
  refine Gx_imul dX2_rowAt_7 ?_
  try simp (disch := omega) only [w32_id]
  refine Gx_iload_n (i := 2) dX2_rowAt_8 rfl rfl ?_
  refine Gx_iadd dX2_rowAt_9 ?_
  try simp (disch := omega) only [w32_id]
  refine Gx_iaload dX2_rowAt_10 rfl (by first | omega | (simp (disch := omega) only [w32_id]; omega)) ?_
  refine Gx_ireturn dX2_rowAt_11 trivial ?_
  try simp (disch := omega) only [w32_id]
  exact k
end
