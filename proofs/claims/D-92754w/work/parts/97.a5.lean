/-! AcornYears: sets -/
section
variable {Γ : gC} {v : gM} {K : gH} {t : Nat} {Q : gQ}
theorem gv_sets {M : gI} {pc : Nat} {ls st : List gV} {bc bs : Nat} {h : gH} {o n : Int} {k : Nat} {x1 x2 nd : Int} (d : decode M.2.1 pc = .ok (.invokeinterface 365 4, 5)) (ho : RX0 = M.2.2.2.2.1) (hh : h o = (k, n)) (hk : 3 ≤ k ∧ k ≤ 7) (hb : k = 6 → 0 ≤ v o 3 ∧ v o 3 ≤ 99) (hab : (0 ≤ x1 ∧ x1 ≤ 24) ∧ 0 ≤ x2 ∧ x2 ≤ 24) (hn : nd ≤ 99) (hrm : 1 ≤ M.2.2.2.2.2.frames ∧ 23 ≤ M.2.2.2.2.2.locals) (hcs : (gCs st).ble 8 = true) (k1 : (k = 6 → (if 0 ≤ nd then nd else v o 3) * x2 ≤ 100 * x1) → (k ≠ 6 → 0 < x1) → Gx Γ M (pc + 5) ls ((0, 1) :: st) v h t bc bs Q) (k0 : (k = 6 ∧ ¬ (if 0 ≤ nd then nd else v o 3) * x2 ≤ 100 * x1) ∨ (k ≠ 6 ∧ ¬ 0 < x1) → Gx Γ M (pc + 5) ls ((0, 0) :: st) v h t bc bs Q) : Gx Γ M pc ls ((0, nd) :: (0, x2) :: (0, x1) :: (2, o) :: st) v h t bc bs Q := by
  rcases (by omega : k = 6 ∨ k = 3 ∨ k = 4 ∨ k = 5 ∨ k = 7) with z | z | z | z | z
  · subst z
    exact ci_X0_365_6 d ho hh hrm hcs (ct_X7_sets_6 hh (hb rfl) hab hn (fun z => k1 (fun _ => z) (fun q => absurd rfl q)) (fun z => k0 (Or.inl ⟨rfl, z⟩)))
  · subst z
    exact Gx_dflt (C := RX4) (T := TX4) (N := 1) d ho hh rfl rfl q934 q933 (List.mem_of_getElem? (i := 229) rfl) hrm hcs (fun z => k1 (fun q => absurd q (by decide)) (fun _ => z)) (fun z => k0 (Or.inr ⟨by decide, z⟩))
  · subst z
    exact Gx_dflt (C := RX5) (T := TX5) (N := 3) d ho hh rfl rfl q936 q935 (List.mem_of_getElem? (i := 230) rfl) hrm hcs (fun z => k1 (fun q => absurd q (by decide)) (fun _ => z)) (fun z => k0 (Or.inr ⟨by decide, z⟩))
  · subst z
    exact Gx_dflt (C := RX6) (T := TX6) (N := 3) d ho hh rfl rfl q932 q931 (List.mem_of_getElem? (i := 228) rfl) hrm hcs (fun z => k1 (fun q => absurd q (by decide)) (fun _ => z)) (fun z => k0 (Or.inr ⟨by decide, z⟩))
  · subst z
    exact Gx_dflt (C := RX8) (T := TX8) (N := 4) d ho hh rfl rfl q927 q926 (List.mem_of_getElem? (i := 227) rfl) hrm hcs (fun z => k1 (fun q => absurd q (by decide)) (fun _ => z)) (fun z => k0 (Or.inr ⟨by decide, z⟩))

set_option maxHeartbeats 1000000 in
theorem ct_X0_sets {i o s n m no : Int} {k : Nat} {sd : Int} (hh : gHd K (v 0 7) = (17, n)) (hi : 0 ≤ i ∧ i < 24) (ht : gHd K (v 16 i) = (8, m)) (hs : v (v 16 i) 0 = s) (hsn : 0 ≤ s ∧ s < n) (ho : v (v 0 7) s = o) (hho : gHd K o = (k, no)) (hk : 3 ≤ k ∧ k ≤ 7) (hb : k = 6 → 0 ≤ v o 3 ∧ v o 3 ≤ 99) (hsd : sd = if gHas (aHf v) i = true then 1 else 0) (hab : (0 ≤ v 30 sd ∧ v 30 sd ≤ 24) ∧ 0 ≤ v 29 sd ∧ v 29 sd ≤ 24) (hn : v 0 35 ≤ 99) (k1 : (k = 6 → (if 0 ≤ v 0 35 then v 0 35 else v o 3) * v 29 sd ≤ 100 * v 30 sd) → (k ≠ 6 → 0 < v 30 sd) → Q (0, 1) v (gHd K) t) (k0 : (k = 6 ∧ ¬ (if 0 ≤ v 0 35 then v 0 35 else v o 3) * v 29 sd ≤ 100 * v 30 sd) ∨ (k ≠ 6 ∧ ¬ 0 < v 30 sd) → Q (0, 0) v (gHd K) t) : Ctr Γ mX0_sets [(2, 0), (0, i)] v (gHd K) t Q := by
  refine Ctr.ofG (ls := [(2, 0), (0, i), (9, 0)]) rfl rfl rfl rfl rfl ?_
  have hsb : 0 ≤ sd ∧ sd < 2 := by rw [hsd]; split <;> omega
  refine Gx_aload_n (i := 0) dX0_sets_0 rfl rfl ?_
  refine Gx_iload_n (i := 1) dX0_sets_1 rfl rfl ?_
  refine cl_X0_356 dX0_sets_2 rfl rfl ⟨(Nat.le_of_ble_eq_true rfl), (Nat.le_of_ble_eq_true rfl)⟩ rfl ?_
  refine ct_X0_sortOf hh hi ht hs hsn ?_
  rw [ho]
  refine Gx_astore_n_2 dX0_sets_5 (Nat.le_of_ble_eq_true rfl) (Nat.ne_of_beq_eq_false rfl) ?_
  refine Gx_aload_n (i := 2) dX0_sets_6 rfl rfl ?_
  refine Gx_aload_n (i := 0) dX0_sets_7 rfl rfl ?_
  refine gf_X0_102_20 dX0_sets_8 rfl rfl ?_
  refine Gx_aload_n (i := 0) dX0_sets_11 rfl rfl ?_
  refine Gx_iload_n (i := 1) dX0_sets_12 rfl rfl ?_
  refine cl_X0_349 dX0_sets_13 rfl rfl ⟨(Nat.le_of_ble_eq_true rfl), (Nat.le_of_ble_eq_true rfl)⟩ rfl ?_
  refine ct_X0_halfOf ⟨hi.1, by omega⟩ ?_
  rw [← hsd]
  refine Gx_iaload dX0_sets_16 rfl (by first | omega | (simp (disch := omega) only [w32_id]; omega)) ?_
  refine Gx_aload_n (i := 0) dX0_sets_17 rfl rfl ?_
  refine gf_X0_99_20 dX0_sets_18 rfl rfl ?_
  refine Gx_aload_n (i := 0) dX0_sets_21 rfl rfl ?_
  refine Gx_iload_n (i := 1) dX0_sets_22 rfl rfl ?_
  refine cl_X0_349 dX0_sets_23 rfl rfl ⟨(Nat.le_of_ble_eq_true rfl), (Nat.le_of_ble_eq_true rfl)⟩ rfl ?_
  refine ct_X0_halfOf ⟨hi.1, by omega⟩ ?_
  rw [← hsd]
  refine Gx_iaload dX0_sets_26 rfl (by first | omega | (simp (disch := omega) only [w32_id]; omega)) ?_
  refine Gx_aload_n (i := 0) dX0_sets_27 rfl rfl ?_
  refine gf_X0_93_20 dX0_sets_28 rfl rfl ?_
  refine gv_sets dX0_sets_31 rfl hho hk hb hab hn ⟨(Nat.le_of_ble_eq_true rfl), (Nat.le_of_ble_eq_true rfl)⟩ rfl (fun y1 y2 => ?_) (fun y0 => ?_)
  · refine Gx_ireturn dX0_sets_36 (Or.inr rfl) ?_
    first
    | exact k1 y1 y2
    | exact k0 y0
  · refine Gx_ireturn dX0_sets_36 (Or.inl rfl) ?_
    first
    | exact k1 y1 y2
    | exact k0 y0
end
