/-! AcornYearsModel: image -/
section
variable {Γ : gC} {v : gM} {K : gH} {t : Nat} {Q : gQ}
/-- what an image holds at its place i -/
def mImg (v : gM) (i : Int) : Int := if 3 + 3 * v 38 33 ≤ i then 0 else if i < 3 then sNow v i else sTree v ((i - 3) / 3) (1 + i % 3)
def sImage (v : gM) (r : Int) : Int × gM := if ¬ (0 ≤ r ∧ r ≤ 5) then (-1, v) else (3 + 3 * v 38 33, gCopy (gUp v 40 r (3 + 3 * v 38 33)) 41 (80 * r) 80 (mImg v))
theorem gCopy_ne {v : gM} {a lo n b k : Int} {f : Int → Int} (h : b ≠ a) : gCopy v a lo n f b k = v b k := by
  unfold gCopy
  rw [if_neg (by omega)]

set_option maxHeartbeats 2000000 in
theorem lp_X2_image {r : Int} {bc bs : Nat} (hr : 0 ≤ r ∧ r ≤ 5) (hn : 0 ≤ v 38 33 ∧ v 38 33 ≤ 24) (k : Q (0, 3 + 3 * v 38 33) (gCopy (gUp v 40 r (3 + 3 * v 38 33)) 41 (80 * r) 80 (mImg v)) (gHd K) t) : ∀ (j : Nat) (i : Int) (z3 : gV), 0 ≤ i → i + j = 80 → Gx Γ mX2_image 25 [(2, 38), (0, r), (0, i), z3] [] (gCopy (gUp v 40 r (3 + 3 * v 38 33)) 41 (80 * r) i (mImg v)) (gHd K) t bc bs Q := by
  intro j
  induction j with
  | zero =>
    intro i z3 h0 h1
    refine Gx_iload_n (i := 2) dX2_image_25 rfl rfl ?_
    refine Gx_bipush dX2_image_26 ⟨by decide, by decide⟩ ?_
    refine Gx_icmp_ge (tgt := 91) dX2_image_28 (by decide) (fun c28 => ?_) (fun c28 => ?_)
    · refine Gx_aload_n (i := 0) dX2_image_91 rfl rfl ?_
      refine gf_X2_13_22 dX2_image_92 rfl rfl ?_
      refine Gx_iload_n (i := 1) dX2_image_95 rfl rfl ?_
      refine Gx_iaload dX2_image_96 rfl (by first | omega | (simp (disch := omega) only [w32_id]; omega)) ?_
      refine Gx_ireturn dX2_image_97 trivial ?_
      have e0 : i = 80 := by omega
      rw [gCopy_ne (by omega), gUp_eq2 rfl rfl, e0]
      exact k
    · exfalso
      omega
  | succ j ih =>
    intro i z3 h0 h1
    refine Gx_iload_n (i := 2) dX2_image_25 rfl rfl ?_
    refine Gx_bipush dX2_image_26 ⟨by decide, by decide⟩ ?_
    refine Gx_icmp_ge (tgt := 91) dX2_image_28 (by decide) (fun c28 => ?_) (fun c28 => ?_)
    · refine Gx_aload_n (i := 0) dX2_image_91 rfl rfl ?_
      refine gf_X2_13_22 dX2_image_92 rfl rfl ?_
      refine Gx_iload_n (i := 1) dX2_image_95 rfl rfl ?_
      refine Gx_iaload dX2_image_96 rfl (by first | omega | (simp (disch := omega) only [w32_id]; omega)) ?_
      refine Gx_ireturn dX2_image_97 trivial ?_
      exfalso
      omega
    · refine Gx_iload_n (i := 2) dX2_image_31 rfl rfl ?_
      refine Gx_iconst ⟨by decide, by decide⟩ dX2_image_32 ?_
      refine Gx_isub dX2_image_33 ?_
      try simp (disch := omega) only [w32_id]
      refine Gx_iconst ⟨by decide, by decide⟩ dX2_image_34 ?_
      refine Gx_idiv dX2_image_35 (by first | omega | (simp (disch := omega) only [w32_id]; omega)) ?_
      refine Gx_istore_n_3 dX2_image_36 (Nat.le_of_ble_eq_true rfl) (Nat.ne_of_beq_eq_false rfl) ?_
      refine Gx_aload_n (i := 0) dX2_image_37 rfl rfl ?_
      refine gf_X2_16_22 dX2_image_38 rfl rfl ?_
      refine Gx_bipush dX2_image_41 ⟨by decide, by decide⟩ ?_
      refine Gx_iload_n (i := 1) dX2_image_43 rfl rfl ?_
      refine Gx_imul dX2_image_44 ?_
      try simp (disch := omega) only [w32_id]
      refine Gx_iload_n (i := 2) dX2_image_45 rfl rfl ?_
      refine Gx_iadd dX2_image_46 ?_
      try simp (disch := omega) only [w32_id]
      refine Gx_iload_n (i := 2) dX2_image_47 rfl rfl ?_
      refine Gx_aload_n (i := 0) dX2_image_48 rfl rfl ?_
      refine gf_X2_13_22 dX2_image_49 rfl rfl ?_
      refine Gx_iload_n (i := 1) dX2_image_52 rfl rfl ?_
      refine Gx_iaload dX2_image_53 rfl (by first | omega | (simp (disch := omega) only [w32_id]; omega)) ?_
      rw [show gCopy (gUp v 40 r (3 + 3 * v 38 33)) 41 (80 * r) i (mImg v) 40 r = 3 + 3 * v 38 33 by rw [gCopy_ne (by omega), gUp_eq2 rfl rfl]]
      refine Gx_icmp_lt (tgt := 61) dX2_image_54 (by decide) (fun c54 => ?_) (fun c54 => ?_)
      · refine Gx_iload_n (i := 2) dX2_image_61 rfl rfl ?_
        refine Gx_iconst ⟨by decide, by decide⟩ dX2_image_62 ?_
        refine Gx_icmp_ge (tgt := 74) dX2_image_63 (by decide) (fun c63 => ?_) (fun c63 => ?_)
        · have e3 : w32 ((i - 3).tdiv 3) = (i - 3) / 3 := by
            rw [Int.tdiv_eq_ediv_of_nonneg (by omega)]
            exact w32_id (by omega) (by omega)
          refine Gx_aload_n (i := 0) dX2_image_74 rfl rfl ?_
          refine Gx_iload_n (i := 3) dX2_image_75 rfl rfl ?_
          refine Gx_iconst ⟨by decide, by decide⟩ dX2_image_76 ?_
          refine Gx_iload_n (i := 2) dX2_image_77 rfl rfl ?_
          refine Gx_iconst ⟨by decide, by decide⟩ dX2_image_78 ?_
          refine Gx_irem dX2_image_79 (by first | omega | (simp (disch := omega) only [w32_id]; omega)) ?_
          rw [Int.tmod_eq_emod_of_nonneg h0]
          refine Gx_iadd dX2_image_80 ?_
          try simp (disch := omega) only [w32_id]
          refine cl_X2_230 dX2_image_81 rfl rfl ⟨(Nat.le_of_ble_eq_true rfl), (Nat.le_of_ble_eq_true rfl)⟩ rfl ?_
          refine ct_X2_treeTells (by rw [e3]; omega) ?_
          refine Gx_iastore dX2_image_84 rfl (by first | omega | (simp (disch := omega) only [w32_id]; omega)) ?_
          refine Gx_iinc_2 dX2_image_85 (Nat.le_of_ble_eq_true rfl) (Nat.ne_of_beq_eq_false rfl) ?_
          try simp (disch := omega) only [w32_id]
          refine Gx_goto (tgt := 25) dX2_image_88 (by decide) ?_
          have e1 : gUp (gCopy (gUp v 40 r (3 + 3 * v 38 33)) 41 (80 * r) i (mImg v)) 41 (80 * r + i) (mImg v i) = gCopy (gUp v 40 r (3 + 3 * v 38 33)) 41 (80 * r) (i + 1) (mImg v) := gCopy_step h0
          have hi := ih (i + 1) (0, w32 ((i - 3).tdiv 3)) (by omega) (by omega)
          rw [← e1] at hi
          unfold mImg at hi
          first
            | (rw [if_pos (by omega)] at hi; exact hi)
            | (rw [if_neg (by omega), if_pos (by omega)] at hi; exact hi)
            | (rw [if_neg (by omega), if_neg (by omega)] at hi
               have e2 : w32 ((i - 3).tdiv 3) = (i - 3) / 3 := by
                 rw [Int.tdiv_eq_ediv_of_nonneg (by omega)]
                 exact w32_id (by omega) (by omega)
               rw [e2] at hi ⊢
               exact hi)
        · refine Gx_aload_n (i := 0) dX2_image_66 rfl rfl ?_
          refine Gx_iload_n (i := 2) dX2_image_67 rfl rfl ?_
          refine cl_X2_236 dX2_image_68 rfl rfl ⟨(Nat.le_of_ble_eq_true rfl), (Nat.le_of_ble_eq_true rfl)⟩ rfl ?_
          refine ct_X2_nowTells (by omega) ?_
          refine Gx_goto (tgt := 84) dX2_image_71 (by decide) ?_
          refine Gx_iastore dX2_image_84 rfl (by first | omega | (simp (disch := omega) only [w32_id]; omega)) ?_
          refine Gx_iinc_2 dX2_image_85 (Nat.le_of_ble_eq_true rfl) (Nat.ne_of_beq_eq_false rfl) ?_
          try simp (disch := omega) only [w32_id]
          refine Gx_goto (tgt := 25) dX2_image_88 (by decide) ?_
          have e1 : gUp (gCopy (gUp v 40 r (3 + 3 * v 38 33)) 41 (80 * r) i (mImg v)) 41 (80 * r + i) (mImg v i) = gCopy (gUp v 40 r (3 + 3 * v 38 33)) 41 (80 * r) (i + 1) (mImg v) := gCopy_step h0
          have hi := ih (i + 1) (0, w32 ((i - 3).tdiv 3)) (by omega) (by omega)
          rw [← e1] at hi
          unfold mImg at hi
          first
            | (rw [if_pos (by omega)] at hi; exact hi)
            | (rw [if_neg (by omega), if_pos (by omega)] at hi; exact hi)
            | (rw [if_neg (by omega), if_neg (by omega)] at hi
               have e2 : w32 ((i - 3).tdiv 3) = (i - 3) / 3 := by
                 rw [Int.tdiv_eq_ediv_of_nonneg (by omega)]
                 exact w32_id (by omega) (by omega)
               rw [e2] at hi ⊢
               exact hi)
      · refine Gx_iconst ⟨by decide, by decide⟩ dX2_image_57 ?_
        refine Gx_goto (tgt := 84) dX2_image_58 (by decide) ?_
        refine Gx_iastore dX2_image_84 rfl (by first | omega | (simp (disch := omega) only [w32_id]; omega)) ?_
        refine Gx_iinc_2 dX2_image_85 (Nat.le_of_ble_eq_true rfl) (Nat.ne_of_beq_eq_false rfl) ?_
        try simp (disch := omega) only [w32_id]
        refine Gx_goto (tgt := 25) dX2_image_88 (by decide) ?_
        have e1 : gUp (gCopy (gUp v 40 r (3 + 3 * v 38 33)) 41 (80 * r) i (mImg v)) 41 (80 * r + i) (mImg v i) = gCopy (gUp v 40 r (3 + 3 * v 38 33)) 41 (80 * r) (i + 1) (mImg v) := gCopy_step h0
        have hi := ih (i + 1) (0, w32 ((i - 3).tdiv 3)) (by omega) (by omega)
        rw [← e1] at hi
        unfold mImg at hi
        first
          | (rw [if_pos (by omega)] at hi; exact hi)
          | (rw [if_neg (by omega), if_pos (by omega)] at hi; exact hi)
          | (rw [if_neg (by omega), if_neg (by omega)] at hi
             have e2 : w32 ((i - 3).tdiv 3) = (i - 3) / 3 := by
               rw [Int.tdiv_eq_ediv_of_nonneg (by omega)]
               exact w32_id (by omega) (by omega)
             rw [e2] at hi ⊢
             exact hi)
theorem ct_X2_image {r : Int} (hn : 0 ≤ v 38 33 ∧ v 38 33 ≤ 24) (k : Q (0, (sImage v r).1) (sImage v r).2 (gHd K) t) : Ctr Γ mX2_image [(2, 38), (0, r)] v (gHd K) t Q := by
  refine Ctr.ofG (ls := [(2, 38), (0, r), (9, 0), (9, 0)]) rfl rfl rfl rfl rfl ?_
  refine Gx_iload_n (i := 1) dX2_image_0 rfl rfl ?_
  refine cl_X2_114 dX2_image_1 rfl ⟨(Nat.le_of_ble_eq_true rfl), (Nat.le_of_ble_eq_true rfl)⟩ rfl ?_
  refine ct_X2_isRow (fun c1 => ?_) (fun c1 => ?_)
  · refine Gx_if_ne (tgt := 9) dX2_image_4 (by decide) (fun _ => ?_) (fun hz => absurd hz (by decide))
    refine Gx_aload_n (i := 0) dX2_image_9 rfl rfl ?_
    refine gf_X2_13_22 dX2_image_10 rfl rfl ?_
    refine Gx_iload_n (i := 1) dX2_image_13 rfl rfl ?_
    refine Gx_iconst ⟨by decide, by decide⟩ dX2_image_14 ?_
    refine Gx_iconst ⟨by decide, by decide⟩ dX2_image_15 ?_
    refine Gx_aload_n (i := 0) dX2_image_16 rfl rfl ?_
    refine gf_X2_203_22 dX2_image_17 rfl rfl ?_
    refine Gx_imul dX2_image_20 ?_
    try simp (disch := omega) only [w32_id]
    refine Gx_iadd dX2_image_21 ?_
    try simp (disch := omega) only [w32_id]
    refine Gx_iastore dX2_image_22 rfl (by first | omega | (simp (disch := omega) only [w32_id]; omega)) ?_
    refine Gx_iconst ⟨by decide, by decide⟩ dX2_image_23 ?_
    refine Gx_istore_n_2 dX2_image_24 (Nat.le_of_ble_eq_true rfl) (Nat.ne_of_beq_eq_false rfl) ?_
    have hk : Q (0, 3 + 3 * v 38 33) (gCopy (gUp v 40 r (3 + 3 * v 38 33)) 41 (80 * r) 80 (mImg v)) (gHd K) t := by
      unfold sImage at k
      rw [if_neg (by omega)] at k
      exact k
    have hl := lp_X2_image (Γ := Γ) (bc := 0) (bs := 0) (by omega) hn hk 80 0 (9, 0) (by omega) (by omega)
    rw [gCopy_0] at hl
    exact hl
  · refine Gx_if_ne (tgt := 9) dX2_image_4 (by decide) (fun hz => absurd hz (by decide)) (fun _ => ?_)
    refine Gx_iconst ⟨by decide, by decide⟩ dX2_image_7 ?_
    refine Gx_ireturn dX2_image_8 trivial ?_
    unfold sImage at k
    (repeat' split at k) <;> first | exact k | (exfalso; omega)
end
