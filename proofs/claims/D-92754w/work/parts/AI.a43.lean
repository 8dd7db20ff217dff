/-! AcornYears: row at text put spring lay -/
section
variable {Γ : gC} {v : gM} {K : gH} {t : Nat} {Q : gQ}
theorem Gx_rst {M : gI} {pc : Nat} {ls st : List gV} {h : gH} {bc bs : Nat} (kk : gRs t st → Gx Γ M pc ls st v h t bc bs Q) : Gx Γ M pc ls st v h t bc bs Q :=
  fun p e R s m args below meth c Z Cx H locs cells slots lsa h1 h2 h3 h4 h5 h6 h7 => kk h7 p e R s m args below meth c Z Cx H locs cells slots lsa h1 h2 h3 h4 h5 h6 h7
theorem xLd_row : xLand mX0_row 21 "java/lang/NegativeArraySizeException" 26 = true := by decide +kernel
theorem xLd_at1 : xLand mX0_at 17 "java/lang/NullPointerException" 23 = true := by decide +kernel
theorem xLd_at2 : xLand mX0_at 17 "java/lang/ArrayIndexOutOfBoundsException" 30 = true := by decide +kernel
theorem xLd_text : xLand mX0_text 16 "java/lang/NegativeArraySizeException" 49 = true := by decide +kernel
theorem xLd_put1 : xLand mX0_put 16 "java/lang/NullPointerException" 36 = true := by decide +kernel
theorem xLd_put2 : xLand mX0_put 16 "java/lang/ArrayIndexOutOfBoundsException" 44 = true := by decide +kernel
theorem xLd_spr : xLand mX0_spring 16 "java/lang/ArrayIndexOutOfBoundsException" 28 = true := by decide +kernel
theorem xLd_mean1 : xLand mX0_mean 21 "java/lang/NullPointerException" 70 = true := by decide +kernel
theorem xLd_mean2 : xLand mX0_mean 63 "java/lang/ArithmeticException" 77 = true := by decide +kernel
theorem xRm_ok {M : gI} {st : List gV} {c : Nat} (hc : gCs st = c) (h : (decide (8 < M.2.2.2.2.2.frames) && decide (c + 10240 ≤ M.2.2.2.2.2.locals)) = true) : xRm M st = true := by
  subst hc
  exact h
theorem r32_of {t : Nat} {n : Int} (h : gRa t (0, n)) : r32 n := h

set_option maxHeartbeats 1000000 in
theorem ct_X0_row {r n : Int} (hfl : Γ.1.stackTraces = false) (kB : ¬ (0 ≤ r ∧ r ≤ 5) ∨ 80 < n → Q (0, -1) v (gHd K) t) (kZ : 0 ≤ r ∧ r ≤ 5 → n < 0 → Q (0, -3) (aMet v 5) (gHd K) (t + 3)) (k1 : 0 ≤ r ∧ r ≤ 5 → 0 ≤ n → n ≤ 80 → 66 ≤ t → Q (0, n) (gUp (gNf v t (fun _ => 0)) 2 r t) (gHd (gUpH K t (10, n))) (t + 1)) : CtrW Γ mX0_row [(2, 0), (0, r), (0, n)] v (gHd K) t Q := by
  refine CtrW.ofG (ls := [(2, 0), (0, r), (0, n), (9, 0)]) rfl rfl rfl rfl rfl ?_
  refine Gx_top (fun hT => ?_)
  have h66 := gHd_66 hT
  refine Gx_iload_n (i := 1) dX0_row_0 rfl rfl ?_
  refine cl_X0_133 dX0_row_1 rfl ⟨(Nat.le_of_ble_eq_true rfl), (Nat.le_of_ble_eq_true rfl)⟩ rfl ?_
  refine ct_X0_isRow (fun hr => ?_) (fun hr => ?_)
  · refine Gx_if_eq (tgt := 13) dX0_row_4 (by decide) (fun hz => absurd hz (by decide)) (fun _ => ?_)
    refine Gx_iload_n (i := 2) dX0_row_7 rfl rfl ?_
    refine Gx_bipush dX0_row_8 ⟨by decide, by decide⟩ ?_
    refine Gx_icmp_le (tgt := 15) dX0_row_10 (by decide) (fun c10 => ?_) (fun c10 => ?_)
    · refine Gx_aload_n (i := 0) dX0_row_15 rfl rfl ?_
      refine gf_X0_28_20 dX0_row_16 rfl rfl ?_
      refine Gx_iload_n (i := 1) dX0_row_19 rfl rfl ?_
      refine Gx_iload_n (i := 2) dX0_row_20 rfl rfl ?_
      refine Gx_rst (fun hrs => ?_)
      rcases (by omega : n < 0 ∨ 0 ≤ n) with z21 | z21
      · refine Gx_newa_neg (bc' := 5) (bs' := 11) dX0_row_21 hfl xLd_row (xRm_ok (c := 2) rfl (by decide +kernel)) (by decide) (by decide) z21 (r32_of hrs.1) ?_
        refine Gx_astore_n_3 dX0_row_26 (Nat.le_of_ble_eq_true rfl) (Nat.ne_of_beq_eq_false rfl) ?_
        refine Gx_aload_n (i := 0) dX0_row_27 rfl rfl ?_
        refine Gx_iconst ⟨by decide, by decide⟩ dX0_row_28 ?_
        refine cl_X0_139 dX0_row_29 rfl rfl ⟨(Nat.le_of_ble_eq_true rfl), (Nat.le_of_ble_eq_true rfl)⟩ rfl ?_
        refine ct_X0_met (by omega) ?_
        refine Gx_ireturn dX0_row_32 trivial ?_
        exact kZ hr z21
      · refine Gx_newarr (k := 10) (bc' := 7) (bs' := 300) dX0_row_21 ⟨by decide, by decide⟩ rfl q182 (by first | omega | (simp (disch := omega) only [w32_id]; omega)) (by decide) (by show n.toNat + 300 ≤ (441 : Nat); omega) ?_
        rw [gHd_up (by omega)]
        refine Gx_aast15 dX0_row_23 q138 (by rw [gHd_ne (by omega)]; rfl) (by omega) (gHd_at (by omega)) ?_
        refine Gx_iload_n (i := 2) dX0_row_24 rfl rfl ?_
        refine Gx_ireturn dX0_row_25 trivial ?_
        exact k1 hr z21 (by omega) h66
    · refine Gx_iconst ⟨by decide, by decide⟩ dX0_row_13 ?_
      refine Gx_ireturn dX0_row_14 trivial ?_
      exact kB (by omega)
  · refine Gx_if_eq (tgt := 13) dX0_row_4 (by decide) (fun _ => ?_) (fun hz => absurd hz (by decide))
    refine Gx_iconst ⟨by decide, by decide⟩ dX0_row_13 ?_
    refine Gx_ireturn dX0_row_14 trivial ?_
    exact kB (by omega)
set_option maxHeartbeats 1000000 in
theorem ct_X0_at {r i n : Int} (hfl : Γ.1.stackTraces = false) (hro : 0 ≤ r ∧ r ≤ 5 → v 2 r = -1 ∨ aRo v (gHd K) r n) (kB : ¬ (0 ≤ r ∧ r ≤ 5) → Q (0, -1) v (gHd K) t) (kN : 0 ≤ r ∧ r ≤ 5 → v 2 r = -1 → Q (0, -3) (aMet v 1) (gHd K) (t + 1)) (kO : 0 ≤ r ∧ r ≤ 5 → aRo v (gHd K) r n → ¬ (0 ≤ i ∧ i < n) → Q (0, -3) (aMet v 2) (gHd K) (t + 3)) (k1 : 0 ≤ r ∧ r ≤ 5 → aRo v (gHd K) r n → 0 ≤ i ∧ i < n → Q (0, 1) (gUp v 0 2 (v (v 2 r) i)) (gHd K) t) : CtrW Γ mX0_at [(2, 0), (0, r), (0, i)] v (gHd K) t Q := by
  refine CtrW.ofG (ls := [(2, 0), (0, r), (0, i), (9, 0)]) rfl rfl rfl rfl rfl ?_
  refine Gx_iload_n (i := 1) dX0_at_0 rfl rfl ?_
  refine cl_X0_133 dX0_at_1 rfl ⟨(Nat.le_of_ble_eq_true rfl), (Nat.le_of_ble_eq_true rfl)⟩ rfl ?_
  refine ct_X0_isRow (fun hr => ?_) (fun hr => ?_)
  · refine Gx_if_ne (tgt := 9) dX0_at_4 (by decide) (fun _ => ?_) (fun hz => absurd hz (by decide))
    refine Gx_aload_n (i := 0) dX0_at_9 rfl rfl ?_
    refine Gx_aload_n (i := 0) dX0_at_10 rfl rfl ?_
    refine gf_X0_28_20 dX0_at_11 rfl rfl ?_
    refine Gx_iload_n (i := 1) dX0_at_14 rfl rfl ?_
    refine Gx_aaload15 dX0_at_15 rfl (by first | omega | (simp (disch := omega) only [w32_id]; omega)) ?_
    refine Gx_iload_n (i := 2) dX0_at_16 rfl rfl ?_
    rcases (by rcases hro hr with z | z <;> omega : v 2 r < 0 ∨ (0 ≤ v 2 r ∧ ¬ (0 ≤ i ∧ i < n)) ∨ (0 ≤ v 2 r ∧ 0 ≤ i ∧ i < n)) with z17 | z17 | z17
    · refine Gx_iald_n (bc' := 7) (bs' := 400) dX0_at_17 hfl xLd_at1 (xRm_ok (c := 1) rfl (by decide +kernel)) (by decide) (by decide) z17 ?_
      refine Gx_astore_n_3 dX0_at_23 (Nat.le_of_ble_eq_true rfl) (Nat.ne_of_beq_eq_false rfl) ?_
      refine Gx_aload_n (i := 0) dX0_at_24 rfl rfl ?_
      refine Gx_iconst ⟨by decide, by decide⟩ dX0_at_25 ?_
      refine cl_X0_139 dX0_at_26 rfl rfl ⟨(Nat.le_of_ble_eq_true rfl), (Nat.le_of_ble_eq_true rfl)⟩ rfl ?_
      refine ct_X0_met (by omega) ?_
      refine Gx_ireturn dX0_at_29 trivial ?_
      exact kN hr (by rcases hro hr with z | z <;> omega)
    · refine Gx_rst (fun hrs => ?_)
      refine Gx_iald_o (bc' := 5) (bs' := 11) dX0_at_17 hfl xLd_at2 (xRm_ok (c := 1) rfl (by decide +kernel)) (by decide) (by decide) ((hro hr).resolve_left (by omega)).2.1 (by have := ((hro hr).resolve_left (by omega)).2.2; omega) z17.2 (r32_of hrs.1) ?_
      refine Gx_astore_n_3 dX0_at_30 (Nat.le_of_ble_eq_true rfl) (Nat.ne_of_beq_eq_false rfl) ?_
      refine Gx_aload_n (i := 0) dX0_at_31 rfl rfl ?_
      refine Gx_iconst ⟨by decide, by decide⟩ dX0_at_32 ?_
      refine cl_X0_139 dX0_at_33 rfl rfl ⟨(Nat.le_of_ble_eq_true rfl), (Nat.le_of_ble_eq_true rfl)⟩ rfl ?_
      refine ct_X0_met (by omega) ?_
      refine Gx_ireturn dX0_at_36 trivial ?_
      exact kO hr ((hro hr).resolve_left (by omega)) z17.2
    · refine Gx_iaload dX0_at_17 ((hro hr).resolve_left (by omega)).2.1 (by first | omega | (simp (disch := omega) only [w32_id]; omega)) ?_
      refine Gx_iconst ⟨by decide, by decide⟩ dX0_at_18 ?_
      refine cl_X0_147 dX0_at_19 rfl rfl ⟨(Nat.le_of_ble_eq_true rfl), (Nat.le_of_ble_eq_true rfl)⟩ rfl ?_
      refine ct_X0_ask ?_
      refine Gx_ireturn dX0_at_22 trivial ?_
      exact k1 hr ((hro hr).resolve_left (by omega)) z17.2
  · refine Gx_if_ne (tgt := 9) dX0_at_4 (by decide) (fun hz => absurd hz (by decide)) (fun _ => ?_)
    refine Gx_iconst ⟨by decide, by decide⟩ dX0_at_7 ?_
    refine Gx_ireturn dX0_at_8 trivial ?_
    exact kB hr
abbrev aTe (v : gM) (h : gH) (r n : Int) : Prop := 66 ≤ v 3 r ∧ h (v 3 r) = (11, n) ∧ 0 ≤ n ∧ n ≤ 80
set_option maxHeartbeats 1000000 in
theorem ct_X0_put {r i x n : Int} (hfl : Γ.1.stackTraces = false) (hro : 0 ≤ r ∧ r ≤ 3 → v 3 r = -1 ∨ aTe v (gHd K) r n) (kB : ¬ (0 ≤ r ∧ r ≤ 3) → Q (0, -1) v (gHd K) t) (kN : 0 ≤ r ∧ r ≤ 3 → v 3 r = -1 → Q (0, -3) (aMet v 1) (gHd K) (t + 1)) (kO : 0 ≤ r ∧ r ≤ 3 → aTe v (gHd K) r n → ¬ (0 ≤ i ∧ i < n) → Q (0, -3) (aMet v 2) (gHd K) (t + 3)) (k1 : 0 ≤ r ∧ r ≤ 3 → aTe v (gHd K) r n → 0 ≤ i ∧ i < n → Q (0, w32 (v (v 3 r) i + 1000)) (gUp v (v 3 r) i (w8 x)) (gHd K) t) : CtrW Γ mX0_put [(2, 0), (0, r), (0, i), (0, x)] v (gHd K) t Q := by
  refine CtrW.ofG (ls := [(2, 0), (0, r), (0, i), (0, x), (9, 0)]) rfl rfl rfl rfl rfl ?_
  refine Gx_iload_n (i := 1) dX0_put_0 rfl rfl ?_
  refine cl_X0_164 dX0_put_1 rfl ⟨(Nat.le_of_ble_eq_true rfl), (Nat.le_of_ble_eq_true rfl)⟩ rfl ?_
  refine ct_X0_isText (fun hr => ?_) (fun hr => ?_)
  · refine Gx_if_ne (tgt := 9) dX0_put_4 (by decide) (fun _ => ?_) (fun hz => absurd hz (by decide))
    refine Gx_aload_n (i := 0) dX0_put_9 rfl rfl ?_
    refine gf_X0_34_20 dX0_put_10 rfl rfl ?_
    refine Gx_iload_n (i := 1) dX0_put_13 rfl rfl ?_
    refine Gx_aaload16 dX0_put_14 rfl (by first | omega | (simp (disch := omega) only [w32_id]; omega)) ?_
    refine Gx_iload_n (i := 2) dX0_put_15 rfl rfl ?_
    rcases (by rcases hro hr with z | z <;> omega : v 3 r < 0 ∨ (0 ≤ v 3 r ∧ ¬ (0 ≤ i ∧ i < n)) ∨ (0 ≤ v 3 r ∧ 0 ≤ i ∧ i < n)) with z16 | z16 | z16
    · refine Gx_bald_n (bc' := 7) (bs' := 400) dX0_put_16 hfl xLd_put1 (xRm_ok (c := 0) rfl (by decide +kernel)) (by decide) (by decide) z16 ?_
      refine Gx_astore_4 dX0_put_36 (Nat.le_of_ble_eq_true rfl) (Nat.ne_of_beq_eq_false rfl) ?_
      refine Gx_aload_n (i := 0) dX0_put_38 rfl rfl ?_
      refine Gx_iconst ⟨by decide, by decide⟩ dX0_put_39 ?_
      refine cl_X0_139 dX0_put_40 rfl rfl ⟨(Nat.le_of_ble_eq_true rfl), (Nat.le_of_ble_eq_true rfl)⟩ rfl ?_
      refine ct_X0_met (by omega) ?_
      refine Gx_ireturn dX0_put_43 trivial ?_
      exact kN hr (by rcases hro hr with z | z <;> omega)
    · refine Gx_rst (fun hrs => ?_)
      refine Gx_bald_o (bc' := 5) (bs' := 11) dX0_put_16 hfl xLd_put2 (xRm_ok (c := 0) rfl (by decide +kernel)) (by decide) (by decide) ((hro hr).resolve_left (by omega)).2.1 (by have := ((hro hr).resolve_left (by omega)).2.2; omega) z16.2 (r32_of hrs.1) ?_
      refine Gx_astore_4 dX0_put_44 (Nat.le_of_ble_eq_true rfl) (Nat.ne_of_beq_eq_false rfl) ?_
      refine Gx_aload_n (i := 0) dX0_put_46 rfl rfl ?_
      refine Gx_iconst ⟨by decide, by decide⟩ dX0_put_47 ?_
      refine cl_X0_139 dX0_put_48 rfl rfl ⟨(Nat.le_of_ble_eq_true rfl), (Nat.le_of_ble_eq_true rfl)⟩ rfl ?_
      refine ct_X0_met (by omega) ?_
      refine Gx_ireturn dX0_put_51 trivial ?_
      exact kO hr ((hro hr).resolve_left (by omega)) z16.2
    · refine Gx_baload dX0_put_16 ((hro hr).resolve_left (by omega)).2.1 (by first | omega | (simp (disch := omega) only [w32_id]; omega)) ?_
      refine Gx_istore_4 dX0_put_17 (Nat.le_of_ble_eq_true rfl) (Nat.ne_of_beq_eq_false rfl) ?_
      refine Gx_aload_n (i := 0) dX0_put_19 rfl rfl ?_
      refine gf_X0_34_20 dX0_put_20 rfl rfl ?_
      refine Gx_iload_n (i := 1) dX0_put_23 rfl rfl ?_
      refine Gx_aaload16 dX0_put_24 rfl (by first | omega | (simp (disch := omega) only [w32_id]; omega)) ?_
      refine Gx_iload_n (i := 2) dX0_put_25 rfl rfl ?_
      refine Gx_iload_n (i := 3) dX0_put_26 rfl rfl ?_
      refine Gx_i2b dX0_put_27 ?_
      refine Gx_bastore dX0_put_28 ((hro hr).resolve_left (by omega)).2.1 (by first | omega | (simp (disch := omega) only [w32_id]; omega)) (by unfold w8; omega) ?_
      refine Gx_iload dX0_put_29 rfl ?_
      refine Gx_sipush dX0_put_31 ⟨by decide, by decide⟩ ?_
      refine Gx_iadd dX0_put_34 ?_
      refine Gx_ireturn dX0_put_35 trivial ?_
      exact k1 hr ((hro hr).resolve_left (by omega)) z16.2
  · refine Gx_if_ne (tgt := 9) dX0_put_4 (by decide) (fun hz => absurd hz (by decide)) (fun _ => ?_)
    refine Gx_iconst ⟨by decide, by decide⟩ dX0_put_7 ?_
    refine Gx_ireturn dX0_put_8 trivial ?_
    exact kB hr
end
