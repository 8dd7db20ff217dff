/-! AcornYears: calls of methods with handlers; lay -/
section
variable {Γ : gC} {v : gM} {K : gH} {t : Nat} {Q : gQ}
section
variable {M : gI} {pc : Nat} {ls st : List gV} {h : gH} {bc bs : Nat}
theorem cl_X0_143 {x1 x2 : gV} {n : Int} (d : decode M.2.1 pc = .ok (.invokevirtual 143, 3)) (ho : RX0 = M.2.2.2.2.1) (hh : h 0 = (20, n)) (hrm : 13 ≤ M.2.2.2.2.2.frames ∧ 10423 ≤ M.2.2.2.2.2.locals) (hcs : (gCs st).ble 8 = true) {bc' bs' : Nat} (hb1 : 8 + bc' ≤ bc) (hb2 : 442 + bs' ≤ bs) (kk : CtrW Γ mX0_at [(2, 0), x1, x2] v h t (fun r v' h' t' => Gx Γ M (pc + 3) ls (r :: st) v' h' t' bc' bs' Q)) : Gx Γ M pc ls (x2 :: x1 :: (2, 0) :: st) v h t bc bs Q :=
  Gx_callVW (M' := mX0_at) (As := [x1, x2]) (n0 := 2) (k := 20) (C := RX0) (T := TX0) (N := 54) rfl rfl d ho hh rfl rfl q454 q455 q456 q107 rfl q457 (by decide +kernel) hrm hcs hb1 hb2 kk
end
set_option maxHeartbeats 1000000 in
theorem ct_X0_lay {r i x n : Int} (hfl : Γ.1.stackTraces = false) (hro : 0 ≤ r ∧ r ≤ 5 → v 2 r = -1 ∨ aRo v (gHd K) r n) (kB : ¬ (0 ≤ r ∧ r ≤ 5) → Q (0, -1) v (gHd K) t) (kN : 0 ≤ r ∧ r ≤ 5 → v 2 r = -1 → Q (0, -3) (aMet v 1) (gHd K) (t + 1)) (kO : 0 ≤ r ∧ r ≤ 5 → aRo v (gHd K) r n → ¬ (0 ≤ i ∧ i < n) → Q (0, -3) (aMet v 2) (gHd K) (t + 3)) (k1 : 0 ≤ r ∧ r ≤ 5 → aRo v (gHd K) r n → 0 ≤ i ∧ i < n → Q (0, 1) (gUp (gUp v 0 2 (v (v 2 r) i)) (v 2 r) i x) (gHd K) t) : Ctr Γ mX0_lay [(2, 0), (0, r), (0, i), (0, x)] v (gHd K) t Q := by
  refine Ctr.ofG (ls := [(2, 0), (0, r), (0, i), (0, x), (9, 0)]) rfl rfl rfl rfl rfl ?_
  refine Gx_aload_n (i := 0) dX0_lay_0 rfl rfl ?_
  refine Gx_iload_n (i := 1) dX0_lay_1 rfl rfl ?_
  refine Gx_iload_n (i := 2) dX0_lay_2 rfl rfl ?_
  refine cl_X0_143 (bc' := 0) (bs' := 18) dX0_lay_3 rfl rfl ⟨(Nat.le_of_ble_eq_true rfl), (Nat.le_of_ble_eq_true rfl)⟩ rfl (by first | omega | decide) (by first | omega | decide) ?_
  refine ct_X0_at hfl hro (fun hr => ?_) (fun hr hz => ?_) (fun hr ho hz => ?_) (fun hr ho hi => ?_)
  · refine Gx_istore_4 dX0_lay_6 (Nat.le_of_ble_eq_true rfl) (Nat.ne_of_beq_eq_false rfl) ?_
    refine Gx_iload dX0_lay_8 rfl ?_
    refine Gx_iconst ⟨by decide, by decide⟩ dX0_lay_10 ?_
    refine Gx_icmp_ne (tgt := 23) dX0_lay_11 (by decide) (fun _ => ?_) (fun hz => absurd hz (by decide))
    refine Gx_iload dX0_lay_23 rfl ?_
    refine Gx_ireturn dX0_lay_25 trivial ?_
    first | exact kB hr | exact kN hr hz | exact kO hr ho hz | exact k1 hr ho hi
  · refine Gx_istore_4 dX0_lay_6 (Nat.le_of_ble_eq_true rfl) (Nat.ne_of_beq_eq_false rfl) ?_
    refine Gx_iload dX0_lay_8 rfl ?_
    refine Gx_iconst ⟨by decide, by decide⟩ dX0_lay_10 ?_
    refine Gx_icmp_ne (tgt := 23) dX0_lay_11 (by decide) (fun _ => ?_) (fun hz => absurd hz (by decide))
    refine Gx_iload dX0_lay_23 rfl ?_
    refine Gx_ireturn dX0_lay_25 trivial ?_
    first | exact kB hr | exact kN hr hz | exact kO hr ho hz | exact k1 hr ho hi
  · refine Gx_istore_4 dX0_lay_6 (Nat.le_of_ble_eq_true rfl) (Nat.ne_of_beq_eq_false rfl) ?_
    refine Gx_iload dX0_lay_8 rfl ?_
    refine Gx_iconst ⟨by decide, by decide⟩ dX0_lay_10 ?_
    refine Gx_icmp_ne (tgt := 23) dX0_lay_11 (by decide) (fun _ => ?_) (fun hz => absurd hz (by decide))
    refine Gx_iload dX0_lay_23 rfl ?_
    refine Gx_ireturn dX0_lay_25 trivial ?_
    first | exact kB hr | exact kN hr hz | exact kO hr ho hz | exact k1 hr ho hi
  · refine Gx_istore_4 dX0_lay_6 (Nat.le_of_ble_eq_true rfl) (Nat.ne_of_beq_eq_false rfl) ?_
    refine Gx_iload dX0_lay_8 rfl ?_
    refine Gx_iconst ⟨by decide, by decide⟩ dX0_lay_10 ?_
    refine Gx_icmp_ne (tgt := 23) dX0_lay_11 (by decide) (fun hz => absurd hz (by decide)) (fun _ => ?_)
    refine Gx_aload_n (i := 0) dX0_lay_14 rfl rfl ?_
    refine gf_X0_28_20 dX0_lay_15 rfl rfl ?_
    refine Gx_iload_n (i := 1) dX0_lay_18 rfl rfl ?_
    refine Gx_aaload15 dX0_lay_19 rfl (by first | omega | (simp (disch := omega) only [w32_id]; omega)) ?_
    refine Gx_iload_n (i := 2) dX0_lay_20 rfl rfl ?_
    refine Gx_iload_n (i := 3) dX0_lay_21 rfl rfl ?_
    refine Gx_iastore dX0_lay_22 ho.2.1 (by first | omega | (simp (disch := omega) only [w32_id]; omega)) ?_
    refine Gx_iload dX0_lay_23 rfl ?_
    refine Gx_ireturn dX0_lay_25 trivial ?_
    first | exact kB hr | exact kN hr hz | exact kO hr ho hz | exact k1 hr ho hi
end
