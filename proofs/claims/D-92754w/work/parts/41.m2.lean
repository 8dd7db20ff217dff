/-! AcornYearsModel: rows and texts -/
section
variable {Γ : gC} {v : gM} {K : gH} {t : Nat} {Q : gQ}
/-- what a finding does -/
def sMeet (v : gM) (f : Int) : gM := gUp (gUp v 38 0 f) 39 f (w32 (v 39 f + 1))
/-- places lo to hi of a cell become x -/
def gFill (v : gM) (a lo hi x : Int) : gM := fun b k => if b = a ∧ lo ≤ k ∧ k < hi then x else v b k
theorem gFill_step {v : gM} {a lo hi x : Int} (h : lo < hi) : gFill (gUp v a lo x) a (lo + 1) hi x = gFill v a lo hi x := by
  funext b k
  unfold gFill gUp
  by_cases hb : b = a
  · by_cases hk : k = lo
    · subst hk; simp [hb, h]
    · by_cases h1 : lo + 1 ≤ k ∧ k < hi
      · rw [if_pos ⟨hb, h1⟩, if_pos ⟨hb, by omega, by omega⟩]
      · simp only [hb, true_and, if_true, if_neg hk]
        rw [if_neg h1, if_neg (by omega)]
  · simp [hb]
theorem gFill_done {v : gM} {a hi x : Int} : gFill v a hi hi x = v := by
  funext b k
  unfold gFill
  rw [if_neg (by omega)]
/-- a row of values is copied -/
def gCopy (v : gM) (a lo n : Int) (f : Int → Int) : gM := fun b k => if b = a ∧ lo ≤ k ∧ k < lo + n then f (k - lo) else v b k
theorem gCopy_step {v : gM} {a lo i : Int} {f : Int → Int} (h : 0 ≤ i) : gUp (gCopy v a lo i f) a (lo + i) (f i) = gCopy v a lo (i + 1) f := by
  funext b k
  unfold gCopy gUp
  by_cases hb : b = a
  · by_cases hk : k = lo + i
    · subst hk
      simp only [hb, true_and, if_true]
      rw [if_pos (by omega), show lo + i - lo = i by omega]
    · by_cases h1 : lo ≤ k ∧ k < lo + i
      · simp only [hb, true_and, if_true, if_neg hk]
        rw [if_pos h1, if_pos (by omega)]
      · simp only [hb, true_and, if_true, if_neg hk]
        rw [if_neg h1, if_neg (by omega)]
  · simp [hb]
theorem gCopy_0 {v : gM} {a lo : Int} {f : Int → Int} : gCopy v a lo 0 f = v := by
  funext b k
  unfold gCopy
  rw [if_neg (by omega)]
def sRow (v : gM) (r n : Int) : Int × gM := if ¬ (0 ≤ r ∧ r ≤ 5) ∨ 80 < n then (-1, v) else if n < 0 then (-3, sMeet v 5) else (n, gFill (gUp v 40 r n) 41 (80 * r) (80 * r + 80) 0)
def sAt (v : gM) (r i : Int) : Int × gM := if ¬ (0 ≤ r ∧ r ≤ 5) then (-1, v) else if v 40 r < 0 then (-3, sMeet v 1) else if 0 ≤ i ∧ i < v 40 r then (1, gUp v 38 2 (v 41 (80 * r + i))) else (-3, sMeet v 2)
def sLay (v : gM) (r i x : Int) : Int × gM := if ¬ (0 ≤ r ∧ r ≤ 5) then (-1, v) else if v 40 r < 0 then (-3, sMeet v 1) else if 0 ≤ i ∧ i < v 40 r then (1, gUp (gUp v 41 (80 * r + i) x) 38 2 (v 41 (80 * r + i))) else (-3, sMeet v 2)
def sTear (v : gM) (r : Int) : Int × gM := if ¬ (0 ≤ r ∧ r ≤ 5) then (-1, v) else if v 40 r < 0 then (-3, sMeet v 1) else (1, gUp v 40 r (-1))
def sText (v : gM) (r n : Int) : Int × gM := if ¬ (0 ≤ r ∧ r ≤ 3) ∨ 80 < n then (-1, v) else if n < 0 then (-3, sMeet v 5) else (n, gFill (gUp v 43 r n) 44 (80 * r) (80 * r + 80) 32)
def sPut (v : gM) (r i x : Int) : Int × gM := if ¬ (0 ≤ r ∧ r ≤ 3) then (-1, v) else if v 43 r < 0 then (-3, sMeet v 1) else if 0 ≤ i ∧ i < v 43 r then (w32 (1000 + v 44 (80 * r + i)), gUp v 44 (80 * r + i) (w8 x)) else (-3, sMeet v 2)
abbrev oSz (v : gM) : Prop := ∀ r : Int, 0 ≤ r → r ≤ 5 → -1 ≤ v 40 r ∧ v 40 r ≤ 80
abbrev oTz (v : gM) : Prop := ∀ r : Int, 0 ≤ r → r ≤ 3 → -1 ≤ v 43 r ∧ v 43 r ≤ 80

theorem lp_X2_row {r n : Int} {bc bs : Nat} (hr : 0 ≤ r ∧ r ≤ 5) : ∀ (j : Nat) (i : Int) (v : gM), 0 ≤ i → i + j = 80 → Q (0, n) (gFill v 41 (80 * r + i) (80 * r + 80) 0) (gHd K) t → Gx Γ mX2_row 34 [(2, 38), (0, r), (0, n), (0, i)] [] v (gHd K) t bc bs Q := by
  intro j
  induction j with
  | zero =>
    intro i v h0 h1 k
    refine Gx_iload_n (i := 3) dX2_row_34 rfl rfl ?_
    refine Gx_bipush dX2_row_35 ⟨by decide, by decide⟩ ?_
    refine Gx_icmp_ge (tgt := 58) dX2_row_37 (by decide) (fun c37 => ?_) (fun c37 => ?_)
    · refine Gx_iload_n (i := 2) dX2_row_58 rfl rfl ?_
      refine Gx_ireturn dX2_row_59 trivial ?_
      rw [show 80 * r + i = 80 * r + 80 by omega, gFill_done] at k
      exact k
    · refine Gx_aload_n (i := 0) dX2_row_40 rfl rfl ?_
      refine gf_X2_16_22 dX2_row_41 rfl rfl ?_
      refine Gx_bipush dX2_row_44 ⟨by decide, by decide⟩ ?_
      refine Gx_iload_n (i := 1) dX2_row_46 rfl rfl ?_
      refine Gx_imul dX2_row_47 ?_
      try simp (disch := omega) only [w32_id]
      refine Gx_iload_n (i := 3) dX2_row_48 rfl rfl ?_
      refine Gx_iadd dX2_row_49 ?_
      try simp (disch := omega) only [w32_id]
      refine Gx_iconst ⟨by decide, by decide⟩ dX2_row_50 ?_
      refine Gx_iastore dX2_row_51 rfl (by first | omega | (simp (disch := omega) only [w32_id]; omega)) ?_
      refine Gx_iinc_3 dX2_row_52 (Nat.le_of_ble_eq_true rfl) (Nat.ne_of_beq_eq_false rfl) ?_
      try simp (disch := omega) only [w32_id]
      refine Gx_goto (tgt := 34) dX2_row_55 (by decide) ?_
      exfalso
      omega
  | succ j ih =>
    intro i v h0 h1 k
    refine Gx_iload_n (i := 3) dX2_row_34 rfl rfl ?_
    refine Gx_bipush dX2_row_35 ⟨by decide, by decide⟩ ?_
    refine Gx_icmp_ge (tgt := 58) dX2_row_37 (by decide) (fun c37 => ?_) (fun c37 => ?_)
    · refine Gx_iload_n (i := 2) dX2_row_58 rfl rfl ?_
      refine Gx_ireturn dX2_row_59 trivial ?_
      exfalso
      omega
    · refine Gx_aload_n (i := 0) dX2_row_40 rfl rfl ?_
      refine gf_X2_16_22 dX2_row_41 rfl rfl ?_
      refine Gx_bipush dX2_row_44 ⟨by decide, by decide⟩ ?_
      refine Gx_iload_n (i := 1) dX2_row_46 rfl rfl ?_
      refine Gx_imul dX2_row_47 ?_
      try simp (disch := omega) only [w32_id]
      refine Gx_iload_n (i := 3) dX2_row_48 rfl rfl ?_
      refine Gx_iadd dX2_row_49 ?_
      try simp (disch := omega) only [w32_id]
      refine Gx_iconst ⟨by decide, by decide⟩ dX2_row_50 ?_
      refine Gx_iastore dX2_row_51 rfl (by first | omega | (simp (disch := omega) only [w32_id]; omega)) ?_
      refine Gx_iinc_3 dX2_row_52 (Nat.le_of_ble_eq_true rfl) (Nat.ne_of_beq_eq_false rfl) ?_
      try simp (disch := omega) only [w32_id]
      refine Gx_goto (tgt := 34) dX2_row_55 (by decide) ?_
      refine ih (i + 1) _ (by omega) (by omega) ?_
      rw [show 80 * r + (i + 1) = 80 * r + i + 1 by omega, gFill_step (by omega)]
      exact k
theorem ct_X2_row {r n : Int} (k : Q (0, (sRow v r n).1) (sRow v r n).2 (gHd K) t) : Ctr Γ mX2_row [(2, 38), (0, r), (0, n)] v (gHd K) t Q := by
  refine Ctr.ofG (ls := [(2, 38), (0, r), (0, n), (9, 0)]) rfl rfl rfl rfl rfl ?_
  refine Gx_iload_n (i := 1) dX2_row_0 rfl rfl ?_
  refine cl_X2_114 dX2_row_1 rfl ⟨(Nat.le_of_ble_eq_true rfl), (Nat.le_of_ble_eq_true rfl)⟩ rfl ?_
  refine ct_X2_isRow (fun c1 => ?_) (fun c1 => ?_)
  · refine Gx_if_eq (tgt := 13) dX2_row_4 (by decide) (fun hz => absurd hz (by decide)) (fun _ => ?_)
    refine Gx_iload_n (i := 2) dX2_row_7 rfl rfl ?_
    refine Gx_bipush dX2_row_8 ⟨by decide, by decide⟩ ?_
    refine Gx_icmp_le (tgt := 15) dX2_row_10 (by decide) (fun c10 => ?_) (fun c10 => ?_)
    · refine Gx_iload_n (i := 2) dX2_row_15 rfl rfl ?_
      refine Gx_if_ge (tgt := 25) dX2_row_16 (by decide) (fun c16 => ?_) (fun c16 => ?_)
      · refine Gx_aload_n (i := 0) dX2_row_25 rfl rfl ?_
        refine gf_X2_13_22 dX2_row_26 rfl rfl ?_
        refine Gx_iload_n (i := 1) dX2_row_29 rfl rfl ?_
        refine Gx_iload_n (i := 2) dX2_row_30 rfl rfl ?_
        refine Gx_iastore dX2_row_31 rfl (by first | omega | (simp (disch := omega) only [w32_id]; omega)) ?_
        refine Gx_iconst ⟨by decide, by decide⟩ dX2_row_32 ?_
        refine Gx_istore_n_3 dX2_row_33 (Nat.le_of_ble_eq_true rfl) (Nat.ne_of_beq_eq_false rfl) ?_
        refine lp_X2_row (by omega) 80 0 _ (by omega) (by omega) ?_
        rw [show 80 * r + 0 = 80 * r by omega]
        unfold sRow at k
        (repeat' split at k) <;> first | exact k | (exfalso; omega)
      · refine Gx_aload_n (i := 0) dX2_row_19 rfl rfl ?_
        refine Gx_iconst ⟨by decide, by decide⟩ dX2_row_20 ?_
        refine cl_X2_118 dX2_row_21 rfl rfl ⟨(Nat.le_of_ble_eq_true rfl), (Nat.le_of_ble_eq_true rfl)⟩ rfl ?_
        refine ct_X2_meets (by omega) ?_
        refine Gx_ireturn dX2_row_24 trivial ?_
        unfold sRow at k
        (repeat' split at k) <;> first | exact k | (exfalso; omega)
    · refine Gx_iconst ⟨by decide, by decide⟩ dX2_row_13 ?_
      refine Gx_ireturn dX2_row_14 trivial ?_
      unfold sRow at k
      (repeat' split at k) <;> first | exact k | (exfalso; omega)
  · refine Gx_if_eq (tgt := 13) dX2_row_4 (by decide) (fun _ => ?_) (fun hz => absurd hz (by decide))
    refine Gx_iconst ⟨by decide, by decide⟩ dX2_row_13 ?_
    refine Gx_ireturn dX2_row_14 trivial ?_
    unfold sRow at k
    (repeat' split at k) <;> first | exact k | (exfalso; omega)
theorem ct_X2_lay {r i x : Int} (hS : oSz v) (k : Q (0, (sLay v r i x).1) (sLay v r i x).2 (gHd K) t) : Ctr Γ mX2_lay [(2, 38), (0, r), (0, i), (0, x)] v (gHd K) t Q := by
  refine Ctr.ofG (ls := [(2, 38), (0, r), (0, i), (0, x), (9, 0)]) rfl rfl rfl rfl rfl ?_
  refine Gx_iload_n (i := 1) dX2_lay_0 rfl rfl ?_
  refine cl_X2_114 dX2_lay_1 rfl ⟨(Nat.le_of_ble_eq_true rfl), (Nat.le_of_ble_eq_true rfl)⟩ rfl ?_
  refine ct_X2_isRow (fun c1 => ?_) (fun c1 => ?_)
  · refine Gx_if_ne (tgt := 9) dX2_lay_4 (by decide) (fun _ => ?_) (fun hz => absurd hz (by decide))
    have hs := hS r (by omega) (by omega)
    refine Gx_aload_n (i := 0) dX2_lay_9 rfl rfl ?_
    refine gf_X2_13_22 dX2_lay_10 rfl rfl ?_
    refine Gx_iload_n (i := 1) dX2_lay_13 rfl rfl ?_
    refine Gx_iaload dX2_lay_14 rfl (by first | omega | (simp (disch := omega) only [w32_id]; omega)) ?_
    refine Gx_if_ge (tgt := 24) dX2_lay_15 (by decide) (fun c15 => ?_) (fun c15 => ?_)
    · refine Gx_iload_n (i := 2) dX2_lay_24 rfl rfl ?_
      refine Gx_iconst ⟨by decide, by decide⟩ dX2_lay_25 ?_
      refine Gx_aload_n (i := 0) dX2_lay_26 rfl rfl ?_
      refine gf_X2_13_22 dX2_lay_27 rfl rfl ?_
      refine Gx_iload_n (i := 1) dX2_lay_30 rfl rfl ?_
      refine Gx_iaload dX2_lay_31 rfl (by first | omega | (simp (disch := omega) only [w32_id]; omega)) ?_
      refine Gx_iconst ⟨by decide, by decide⟩ dX2_lay_32 ?_
      refine Gx_isub dX2_lay_33 ?_
      try simp (disch := omega) only [w32_id]
      refine cl_X2_104 dX2_lay_34 rfl ⟨(Nat.le_of_ble_eq_true rfl), (Nat.le_of_ble_eq_true rfl)⟩ rfl ?_
      refine ct_X2_in (fun c34 => ?_) (fun c34 => ?_)
      · refine Gx_if_ne (tgt := 46) dX2_lay_37 (by decide) (fun _ => ?_) (fun hz => absurd hz (by decide))
        refine Gx_aload_n (i := 0) dX2_lay_46 rfl rfl ?_
        refine Gx_iload_n (i := 1) dX2_lay_47 rfl rfl ?_
        refine Gx_iload_n (i := 2) dX2_lay_48 rfl rfl ?_
        refine cl_X2_122 dX2_lay_49 rfl rfl ⟨(Nat.le_of_ble_eq_true rfl), (Nat.le_of_ble_eq_true rfl)⟩ rfl ?_
        refine ct_X2_rowAt (by first | omega | (simp (disch := omega) only [w32_id]; omega)) (by first | omega | (simp (disch := omega) only [w32_id]; omega)) ?_
        refine Gx_istore_4 dX2_lay_52 (Nat.le_of_ble_eq_true rfl) (Nat.ne_of_beq_eq_false rfl) ?_
        refine Gx_aload_n (i := 0) dX2_lay_54 rfl rfl ?_
        refine gf_X2_16_22 dX2_lay_55 rfl rfl ?_
        refine Gx_bipush dX2_lay_58 ⟨by decide, by decide⟩ ?_
        refine Gx_iload_n (i := 1) dX2_lay_60 rfl rfl ?_
        refine Gx_imul dX2_lay_61 ?_
        try simp (disch := omega) only [w32_id]
        refine Gx_iload_n (i := 2) dX2_lay_62 rfl rfl ?_
        refine Gx_iadd dX2_lay_63 ?_
        try simp (disch := omega) only [w32_id]
        refine Gx_iload_n (i := 3) dX2_lay_64 rfl rfl ?_
        refine Gx_iastore dX2_lay_65 rfl (by first | omega | (simp (disch := omega) only [w32_id]; omega)) ?_
        refine Gx_aload_n (i := 0) dX2_lay_66 rfl rfl ?_
        refine Gx_iload dX2_lay_67 rfl ?_
        refine Gx_iconst ⟨by decide, by decide⟩ dX2_lay_69 ?_
        refine cl_X2_126 dX2_lay_70 rfl rfl ⟨(Nat.le_of_ble_eq_true rfl), (Nat.le_of_ble_eq_true rfl)⟩ rfl ?_
        refine ct_X2_tells ?_
        refine Gx_ireturn dX2_lay_73 trivial ?_
        unfold sLay at k
        (repeat' split at k) <;> first | exact k | (exfalso; omega)
      · refine Gx_if_ne (tgt := 46) dX2_lay_37 (by decide) (fun hz => absurd hz (by decide)) (fun _ => ?_)
        refine Gx_aload_n (i := 0) dX2_lay_40 rfl rfl ?_
        refine Gx_iconst ⟨by decide, by decide⟩ dX2_lay_41 ?_
        refine cl_X2_118 dX2_lay_42 rfl rfl ⟨(Nat.le_of_ble_eq_true rfl), (Nat.le_of_ble_eq_true rfl)⟩ rfl ?_
        refine ct_X2_meets (by omega) ?_
        refine Gx_ireturn dX2_lay_45 trivial ?_
        unfold sLay at k
        (repeat' split at k) <;> first | exact k | (exfalso; omega)
    · refine Gx_aload_n (i := 0) dX2_lay_18 rfl rfl ?_
      refine Gx_iconst ⟨by decide, by decide⟩ dX2_lay_19 ?_
      refine cl_X2_118 dX2_lay_20 rfl rfl ⟨(Nat.le_of_ble_eq_true rfl), (Nat.le_of_ble_eq_true rfl)⟩ rfl ?_
      refine ct_X2_meets (by omega) ?_
      refine Gx_ireturn dX2_lay_23 trivial ?_
      unfold sLay at k
      (repeat' split at k) <;> first | exact k | (exfalso; omega)
  · refine Gx_if_ne (tgt := 9) dX2_lay_4 (by decide) (fun hz => absurd hz (by decide)) (fun _ => ?_)
    refine Gx_iconst ⟨by decide, by decide⟩ dX2_lay_7 ?_
    refine Gx_ireturn dX2_lay_8 trivial ?_
    unfold sLay at k
    (repeat' split at k) <;> first | exact k | (exfalso; omega)
theorem ct_X2_at {r i : Int} (hS : oSz v) (k : Q (0, (sAt v r i).1) (sAt v r i).2 (gHd K) t) : Ctr Γ mX2_at [(2, 38), (0, r), (0, i)] v (gHd K) t Q := by
  refine Ctr.ofG (ls := [(2, 38), (0, r), (0, i)]) rfl rfl rfl rfl rfl ?_
  refine Gx_iload_n (i := 1) dX2_at_0 rfl rfl ?_
  refine cl_X2_114 dX2_at_1 rfl ⟨(Nat.le_of_ble_eq_true rfl), (Nat.le_of_ble_eq_true rfl)⟩ rfl ?_
  refine ct_X2_isRow (fun c1 => ?_) (fun c1 => ?_)
  · refine Gx_if_ne (tgt := 9) dX2_at_4 (by decide) (fun _ => ?_) (fun hz => absurd hz (by decide))
    have hs := hS r (by omega) (by omega)
    refine Gx_aload_n (i := 0) dX2_at_9 rfl rfl ?_
    refine gf_X2_13_22 dX2_at_10 rfl rfl ?_
    refine Gx_iload_n (i := 1) dX2_at_13 rfl rfl ?_
    refine Gx_iaload dX2_at_14 rfl (by first | omega | (simp (disch := omega) only [w32_id]; omega)) ?_
    refine Gx_if_ge (tgt := 24) dX2_at_15 (by decide) (fun c15 => ?_) (fun c15 => ?_)
    · refine Gx_iload_n (i := 2) dX2_at_24 rfl rfl ?_
      refine Gx_iconst ⟨by decide, by decide⟩ dX2_at_25 ?_
      refine Gx_aload_n (i := 0) dX2_at_26 rfl rfl ?_
      refine gf_X2_13_22 dX2_at_27 rfl rfl ?_
      refine Gx_iload_n (i := 1) dX2_at_30 rfl rfl ?_
      refine Gx_iaload dX2_at_31 rfl (by first | omega | (simp (disch := omega) only [w32_id]; omega)) ?_
      refine Gx_iconst ⟨by decide, by decide⟩ dX2_at_32 ?_
      refine Gx_isub dX2_at_33 ?_
      try simp (disch := omega) only [w32_id]
      refine cl_X2_104 dX2_at_34 rfl ⟨(Nat.le_of_ble_eq_true rfl), (Nat.le_of_ble_eq_true rfl)⟩ rfl ?_
      refine ct_X2_in (fun c34 => ?_) (fun c34 => ?_)
      · refine Gx_if_eq (tgt := 54) dX2_at_37 (by decide) (fun hz => absurd hz (by decide)) (fun _ => ?_)
        refine Gx_aload_n (i := 0) dX2_at_40 rfl rfl ?_
        refine Gx_aload_n (i := 0) dX2_at_41 rfl rfl ?_
        refine Gx_iload_n (i := 1) dX2_at_42 rfl rfl ?_
        refine Gx_iload_n (i := 2) dX2_at_43 rfl rfl ?_
        refine cl_X2_122 dX2_at_44 rfl rfl ⟨(Nat.le_of_ble_eq_true rfl), (Nat.le_of_ble_eq_true rfl)⟩ rfl ?_
        refine ct_X2_rowAt (by first | omega | (simp (disch := omega) only [w32_id]; omega)) (by first | omega | (simp (disch := omega) only [w32_id]; omega)) ?_
        refine Gx_iconst ⟨by decide, by decide⟩ dX2_at_47 ?_
        refine cl_X2_126 dX2_at_48 rfl rfl ⟨(Nat.le_of_ble_eq_true rfl), (Nat.le_of_ble_eq_true rfl)⟩ rfl ?_
        refine ct_X2_tells ?_
        refine Gx_goto (tgt := 59) dX2_at_51 (by decide) ?_
        refine Gx_ireturn dX2_at_59 trivial ?_
        unfold sAt at k
        (repeat' split at k) <;> first | exact k | (exfalso; omega)
      · refine Gx_if_eq (tgt := 54) dX2_at_37 (by decide) (fun _ => ?_) (fun hz => absurd hz (by decide))
        refine Gx_aload_n (i := 0) dX2_at_54 rfl rfl ?_
        refine Gx_iconst ⟨by decide, by decide⟩ dX2_at_55 ?_
        refine cl_X2_118 dX2_at_56 rfl rfl ⟨(Nat.le_of_ble_eq_true rfl), (Nat.le_of_ble_eq_true rfl)⟩ rfl ?_
        refine ct_X2_meets (by omega) ?_
        refine Gx_ireturn dX2_at_59 trivial ?_
        unfold sAt at k
        (repeat' split at k) <;> first | exact k | (exfalso; omega)
    · refine Gx_aload_n (i := 0) dX2_at_18 rfl rfl ?_
      refine Gx_iconst ⟨by decide, by decide⟩ dX2_at_19 ?_
      refine cl_X2_118 dX2_at_20 rfl rfl ⟨(Nat.le_of_ble_eq_true rfl), (Nat.le_of_ble_eq_true rfl)⟩ rfl ?_
      refine ct_X2_meets (by omega) ?_
      refine Gx_ireturn dX2_at_23 trivial ?_
      unfold sAt at k
      (repeat' split at k) <;> first | exact k | (exfalso; omega)
  · refine Gx_if_ne (tgt := 9) dX2_at_4 (by decide) (fun hz => absurd hz (by decide)) (fun _ => ?_)
    refine Gx_iconst ⟨by decide, by decide⟩ dX2_at_7 ?_
    refine Gx_ireturn dX2_at_8 trivial ?_
    unfold sAt at k
    (repeat' split at k) <;> first | exact k | (exfalso; omega)
theorem ct_X2_tear {r : Int} (k : Q (0, (sTear v r).1) (sTear v r).2 (gHd K) t) : Ctr Γ mX2_tear [(2, 38), (0, r)] v (gHd K) t Q := by
  refine Ctr.ofG (ls := [(2, 38), (0, r)]) rfl rfl rfl rfl rfl ?_
  refine Gx_iload_n (i := 1) dX2_tear_0 rfl rfl ?_
  refine cl_X2_114 dX2_tear_1 rfl ⟨(Nat.le_of_ble_eq_true rfl), (Nat.le_of_ble_eq_true rfl)⟩ rfl ?_
  refine ct_X2_isRow (fun c1 => ?_) (fun c1 => ?_)
  · refine Gx_if_ne (tgt := 9) dX2_tear_4 (by decide) (fun _ => ?_) (fun hz => absurd hz (by decide))
    refine Gx_aload_n (i := 0) dX2_tear_9 rfl rfl ?_
    refine gf_X2_13_22 dX2_tear_10 rfl rfl ?_
    refine Gx_iload_n (i := 1) dX2_tear_13 rfl rfl ?_
    refine Gx_iaload dX2_tear_14 rfl (by first | omega | (simp (disch := omega) only [w32_id]; omega)) ?_
    refine Gx_if_ge (tgt := 24) dX2_tear_15 (by decide) (fun c15 => ?_) (fun c15 => ?_)
    · refine Gx_aload_n (i := 0) dX2_tear_24 rfl rfl ?_
      refine gf_X2_13_22 dX2_tear_25 rfl rfl ?_
      refine Gx_iload_n (i := 1) dX2_tear_28 rfl rfl ?_
      refine Gx_iconst ⟨by decide, by decide⟩ dX2_tear_29 ?_
      refine Gx_iastore dX2_tear_30 rfl (by first | omega | (simp (disch := omega) only [w32_id]; omega)) ?_
      refine Gx_iconst ⟨by decide, by decide⟩ dX2_tear_31 ?_
      refine Gx_ireturn dX2_tear_32 trivial ?_
      unfold sTear at k
      (repeat' split at k) <;> first | exact k | (exfalso; omega)
    · refine Gx_aload_n (i := 0) dX2_tear_18 rfl rfl ?_
      refine Gx_iconst ⟨by decide, by decide⟩ dX2_tear_19 ?_
      refine cl_X2_118 dX2_tear_20 rfl rfl ⟨(Nat.le_of_ble_eq_true rfl), (Nat.le_of_ble_eq_true rfl)⟩ rfl ?_
      refine ct_X2_meets (by omega) ?_
      refine Gx_ireturn dX2_tear_23 trivial ?_
      unfold sTear at k
      (repeat' split at k) <;> first | exact k | (exfalso; omega)
  · refine Gx_if_ne (tgt := 9) dX2_tear_4 (by decide) (fun hz => absurd hz (by decide)) (fun _ => ?_)
    refine Gx_iconst ⟨by decide, by decide⟩ dX2_tear_7 ?_
    refine Gx_ireturn dX2_tear_8 trivial ?_
    unfold sTear at k
    (repeat' split at k) <;> first | exact k | (exfalso; omega)
theorem lp_X2_text {r n : Int} {bc bs : Nat} (hr : 0 ≤ r ∧ r ≤ 3) : ∀ (j : Nat) (i : Int) (v : gM), 0 ≤ i → i + j = 80 → Q (0, n) (gFill v 44 (80 * r + i) (80 * r + 80) 32) (gHd K) t → Gx Γ mX2_text 34 [(2, 38), (0, r), (0, n), (0, i)] [] v (gHd K) t bc bs Q := by
  intro j
  induction j with
  | zero =>
    intro i v h0 h1 k
    refine Gx_iload_n (i := 3) dX2_text_34 rfl rfl ?_
    refine Gx_bipush dX2_text_35 ⟨by decide, by decide⟩ ?_
    refine Gx_icmp_ge (tgt := 59) dX2_text_37 (by decide) (fun c37 => ?_) (fun c37 => ?_)
    · refine Gx_iload_n (i := 2) dX2_text_59 rfl rfl ?_
      refine Gx_ireturn dX2_text_60 trivial ?_
      rw [show 80 * r + i = 80 * r + 80 by omega, gFill_done] at k
      exact k
    · refine Gx_aload_n (i := 0) dX2_text_40 rfl rfl ?_
      refine gf_X2_25_22 dX2_text_41 rfl rfl ?_
      refine Gx_bipush dX2_text_44 ⟨by decide, by decide⟩ ?_
      refine Gx_iload_n (i := 1) dX2_text_46 rfl rfl ?_
      refine Gx_imul dX2_text_47 ?_
      try simp (disch := omega) only [w32_id]
      refine Gx_iload_n (i := 3) dX2_text_48 rfl rfl ?_
      refine Gx_iadd dX2_text_49 ?_
      try simp (disch := omega) only [w32_id]
      refine Gx_bipush dX2_text_50 ⟨by decide, by decide⟩ ?_
      refine Gx_bastore dX2_text_52 rfl (by first | omega | (simp (disch := omega) only [w32_id]; omega)) (by first | omega | (simp (disch := omega) only [w32_id]; omega)) ?_
      refine Gx_iinc_3 dX2_text_53 (Nat.le_of_ble_eq_true rfl) (Nat.ne_of_beq_eq_false rfl) ?_
      try simp (disch := omega) only [w32_id]
      refine Gx_goto (tgt := 34) dX2_text_56 (by decide) ?_
      exfalso
      omega
  | succ j ih =>
    intro i v h0 h1 k
    refine Gx_iload_n (i := 3) dX2_text_34 rfl rfl ?_
    refine Gx_bipush dX2_text_35 ⟨by decide, by decide⟩ ?_
    refine Gx_icmp_ge (tgt := 59) dX2_text_37 (by decide) (fun c37 => ?_) (fun c37 => ?_)
    · refine Gx_iload_n (i := 2) dX2_text_59 rfl rfl ?_
      refine Gx_ireturn dX2_text_60 trivial ?_
      exfalso
      omega
    · refine Gx_aload_n (i := 0) dX2_text_40 rfl rfl ?_
      refine gf_X2_25_22 dX2_text_41 rfl rfl ?_
      refine Gx_bipush dX2_text_44 ⟨by decide, by decide⟩ ?_
      refine Gx_iload_n (i := 1) dX2_text_46 rfl rfl ?_
      refine Gx_imul dX2_text_47 ?_
      try simp (disch := omega) only [w32_id]
      refine Gx_iload_n (i := 3) dX2_text_48 rfl rfl ?_
      refine Gx_iadd dX2_text_49 ?_
      try simp (disch := omega) only [w32_id]
      refine Gx_bipush dX2_text_50 ⟨by decide, by decide⟩ ?_
      refine Gx_bastore dX2_text_52 rfl (by first | omega | (simp (disch := omega) only [w32_id]; omega)) (by first | omega | (simp (disch := omega) only [w32_id]; omega)) ?_
      refine Gx_iinc_3 dX2_text_53 (Nat.le_of_ble_eq_true rfl) (Nat.ne_of_beq_eq_false rfl) ?_
      try simp (disch := omega) only [w32_id]
      refine Gx_goto (tgt := 34) dX2_text_56 (by decide) ?_
      refine ih (i + 1) _ (by omega) (by omega) ?_
      rw [show 80 * r + (i + 1) = 80 * r + i + 1 by omega, gFill_step (by omega)]
      exact k
theorem ct_X2_text {r n : Int} (k : Q (0, (sText v r n).1) (sText v r n).2 (gHd K) t) : Ctr Γ mX2_text [(2, 38), (0, r), (0, n)] v (gHd K) t Q := by
  refine Ctr.ofG (ls := [(2, 38), (0, r), (0, n), (9, 0)]) rfl rfl rfl rfl rfl ?_
  refine Gx_iload_n (i := 1) dX2_text_0 rfl rfl ?_
  refine cl_X2_129 dX2_text_1 rfl ⟨(Nat.le_of_ble_eq_true rfl), (Nat.le_of_ble_eq_true rfl)⟩ rfl ?_
  refine ct_X2_isText (fun c1 => ?_) (fun c1 => ?_)
  · refine Gx_if_eq (tgt := 13) dX2_text_4 (by decide) (fun hz => absurd hz (by decide)) (fun _ => ?_)
    refine Gx_iload_n (i := 2) dX2_text_7 rfl rfl ?_
    refine Gx_bipush dX2_text_8 ⟨by decide, by decide⟩ ?_
    refine Gx_icmp_le (tgt := 15) dX2_text_10 (by decide) (fun c10 => ?_) (fun c10 => ?_)
    · refine Gx_iload_n (i := 2) dX2_text_15 rfl rfl ?_
      refine Gx_if_ge (tgt := 25) dX2_text_16 (by decide) (fun c16 => ?_) (fun c16 => ?_)
      · refine Gx_aload_n (i := 0) dX2_text_25 rfl rfl ?_
        refine gf_X2_22_22 dX2_text_26 rfl rfl ?_
        refine Gx_iload_n (i := 1) dX2_text_29 rfl rfl ?_
        refine Gx_iload_n (i := 2) dX2_text_30 rfl rfl ?_
        refine Gx_iastore dX2_text_31 rfl (by first | omega | (simp (disch := omega) only [w32_id]; omega)) ?_
        refine Gx_iconst ⟨by decide, by decide⟩ dX2_text_32 ?_
        refine Gx_istore_n_3 dX2_text_33 (Nat.le_of_ble_eq_true rfl) (Nat.ne_of_beq_eq_false rfl) ?_
        refine lp_X2_text (by omega) 80 0 _ (by omega) (by omega) ?_
        rw [show 80 * r + 0 = 80 * r by omega]
        unfold sText at k
        (repeat' split at k) <;> first | exact k | (exfalso; omega)
      · refine Gx_aload_n (i := 0) dX2_text_19 rfl rfl ?_
        refine Gx_iconst ⟨by decide, by decide⟩ dX2_text_20 ?_
        refine cl_X2_118 dX2_text_21 rfl rfl ⟨(Nat.le_of_ble_eq_true rfl), (Nat.le_of_ble_eq_true rfl)⟩ rfl ?_
        refine ct_X2_meets (by omega) ?_
        refine Gx_ireturn dX2_text_24 trivial ?_
        unfold sText at k
        (repeat' split at k) <;> first | exact k | (exfalso; omega)
    · refine Gx_iconst ⟨by decide, by decide⟩ dX2_text_13 ?_
      refine Gx_ireturn dX2_text_14 trivial ?_
      unfold sText at k
      (repeat' split at k) <;> first | exact k | (exfalso; omega)
  · refine Gx_if_eq (tgt := 13) dX2_text_4 (by decide) (fun _ => ?_) (fun hz => absurd hz (by decide))
    refine Gx_iconst ⟨by decide, by decide⟩ dX2_text_13 ?_
    refine Gx_ireturn dX2_text_14 trivial ?_
    unfold sText at k
    (repeat' split at k) <;> first | exact k | (exfalso; omega)
theorem ct_X2_put {r i x : Int} (hS : oTz v) (k : Q (0, (sPut v r i x).1) (sPut v r i x).2 (gHd K) t) : Ctr Γ mX2_put [(2, 38), (0, r), (0, i), (0, x)] v (gHd K) t Q := by
  refine Ctr.ofG (ls := [(2, 38), (0, r), (0, i), (0, x), (9, 0)]) rfl rfl rfl rfl rfl ?_
  refine Gx_iload_n (i := 1) dX2_put_0 rfl rfl ?_
  refine cl_X2_129 dX2_put_1 rfl ⟨(Nat.le_of_ble_eq_true rfl), (Nat.le_of_ble_eq_true rfl)⟩ rfl ?_
  refine ct_X2_isText (fun c1 => ?_) (fun c1 => ?_)
  · refine Gx_if_ne (tgt := 9) dX2_put_4 (by decide) (fun _ => ?_) (fun hz => absurd hz (by decide))
    have hs := hS r (by omega) (by omega)
    refine Gx_aload_n (i := 0) dX2_put_9 rfl rfl ?_
    refine gf_X2_22_22 dX2_put_10 rfl rfl ?_
    refine Gx_iload_n (i := 1) dX2_put_13 rfl rfl ?_
    refine Gx_iaload dX2_put_14 rfl (by first | omega | (simp (disch := omega) only [w32_id]; omega)) ?_
    refine Gx_if_ge (tgt := 24) dX2_put_15 (by decide) (fun c15 => ?_) (fun c15 => ?_)
    · refine Gx_iload_n (i := 2) dX2_put_24 rfl rfl ?_
      refine Gx_iconst ⟨by decide, by decide⟩ dX2_put_25 ?_
      refine Gx_aload_n (i := 0) dX2_put_26 rfl rfl ?_
      refine gf_X2_22_22 dX2_put_27 rfl rfl ?_
      refine Gx_iload_n (i := 1) dX2_put_30 rfl rfl ?_
      refine Gx_iaload dX2_put_31 rfl (by first | omega | (simp (disch := omega) only [w32_id]; omega)) ?_
      refine Gx_iconst ⟨by decide, by decide⟩ dX2_put_32 ?_
      refine Gx_isub dX2_put_33 ?_
      try simp (disch := omega) only [w32_id]
      refine cl_X2_104 dX2_put_34 rfl ⟨(Nat.le_of_ble_eq_true rfl), (Nat.le_of_ble_eq_true rfl)⟩ rfl ?_
      refine ct_X2_in (fun c34 => ?_) (fun c34 => ?_)
      · refine Gx_if_ne (tgt := 46) dX2_put_37 (by decide) (fun _ => ?_) (fun hz => absurd hz (by decide))
        refine Gx_aload_n (i := 0) dX2_put_46 rfl rfl ?_
        refine gf_X2_25_22 dX2_put_47 rfl rfl ?_
        refine Gx_bipush dX2_put_50 ⟨by decide, by decide⟩ ?_
        refine Gx_iload_n (i := 1) dX2_put_52 rfl rfl ?_
        refine Gx_imul dX2_put_53 ?_
        try simp (disch := omega) only [w32_id]
        refine Gx_iload_n (i := 2) dX2_put_54 rfl rfl ?_
        refine Gx_iadd dX2_put_55 ?_
        try simp (disch := omega) only [w32_id]
        refine Gx_baload dX2_put_56 rfl (by first | omega | (simp (disch := omega) only [w32_id]; omega)) ?_
        refine Gx_istore_4 dX2_put_57 (Nat.le_of_ble_eq_true rfl) (Nat.ne_of_beq_eq_false rfl) ?_
        refine Gx_aload_n (i := 0) dX2_put_59 rfl rfl ?_
        refine gf_X2_25_22 dX2_put_60 rfl rfl ?_
        refine Gx_bipush dX2_put_63 ⟨by decide, by decide⟩ ?_
        refine Gx_iload_n (i := 1) dX2_put_65 rfl rfl ?_
        refine Gx_imul dX2_put_66 ?_
        try simp (disch := omega) only [w32_id]
        refine Gx_iload_n (i := 2) dX2_put_67 rfl rfl ?_
        refine Gx_iadd dX2_put_68 ?_
        try simp (disch := omega) only [w32_id]
        refine Gx_iload_n (i := 3) dX2_put_69 rfl rfl ?_
        refine Gx_i2b dX2_put_70 ?_
        refine Gx_bastore dX2_put_71 rfl (by first | omega | (simp (disch := omega) only [w32_id]; omega)) (by unfold w8; omega) ?_
        refine Gx_sipush dX2_put_72 ⟨by decide, by decide⟩ ?_
        refine Gx_iload dX2_put_75 rfl ?_
        refine Gx_iadd dX2_put_77 ?_
        try simp (disch := omega) only [w32_id]
        refine Gx_ireturn dX2_put_78 trivial ?_
        unfold sPut at k
        (repeat' split at k) <;> first | exact k | (exfalso; omega)
      · refine Gx_if_ne (tgt := 46) dX2_put_37 (by decide) (fun hz => absurd hz (by decide)) (fun _ => ?_)
        refine Gx_aload_n (i := 0) dX2_put_40 rfl rfl ?_
        refine Gx_iconst ⟨by decide, by decide⟩ dX2_put_41 ?_
        refine cl_X2_118 dX2_put_42 rfl rfl ⟨(Nat.le_of_ble_eq_true rfl), (Nat.le_of_ble_eq_true rfl)⟩ rfl ?_
        refine ct_X2_meets (by omega) ?_
        refine Gx_ireturn dX2_put_45 trivial ?_
        unfold sPut at k
        (repeat' split at k) <;> first | exact k | (exfalso; omega)
    · refine Gx_aload_n (i := 0) dX2_put_18 rfl rfl ?_
      refine Gx_iconst ⟨by decide, by decide⟩ dX2_put_19 ?_
      refine cl_X2_118 dX2_put_20 rfl rfl ⟨(Nat.le_of_ble_eq_true rfl), (Nat.le_of_ble_eq_true rfl)⟩ rfl ?_
      refine ct_X2_meets (by omega) ?_
      refine Gx_ireturn dX2_put_23 trivial ?_
      unfold sPut at k
      (repeat' split at k) <;> first | exact k | (exfalso; omega)
  · refine Gx_if_ne (tgt := 9) dX2_put_4 (by decide) (fun hz => absurd hz (by decide)) (fun _ => ?_)
    refine Gx_iconst ⟨by decide, by decide⟩ dX2_put_7 ?_
    refine Gx_ireturn dX2_put_8 trivial ?_
    unfold sPut at k
    (repeat' split at k) <;> first | exact k | (exfalso; omega)
end
