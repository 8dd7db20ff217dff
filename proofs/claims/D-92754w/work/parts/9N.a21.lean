/-! AcornYears reads a text: numbers, signs, eaters, the jay, chances -/
section
variable {Γ : gC} {v : gM} {K : gH} {t : Nat} {Q : gQ}
/-- the text that is read: b tells its bytes, 0 behind its end -/
def aTx (v : gM) (h : gH) (b : pB) (n : Int) : Prop := h (v 0 17) = (11, n) ∧ 66 ≤ v 0 17 ∧ (0 ≤ n ∧ n ≤ 80) ∧ ∀ i, 0 ≤ i → b i = if i < n then v (v 0 17) i else 0
theorem aTx_fr {v v1 : gM} {h : gH} {b : pB} {n : Int} (hT : aTx v h b n) (h17 : v1 0 17 = v 0 17) (hF : ∀ k, v1 (v 0 17) k = v (v 0 17) k) : aTx v1 h b n := by
  obtain ⟨h1, h2, h3, h4⟩ := hT
  refine ⟨by rw [h17]; exact h1, by omega, h3, fun i hi => ?_⟩
  rw [h17, hF]
  exact h4 i hi
theorem aTx_up {v : gM} {h : gH} {b : pB} {n a k x : Int} (hT : aTx v h b n) (ha : a < 66) (hk : ¬ (a = 0 ∧ k = 17)) : aTx (gUp v a k x) h b n := by
  have h2 := hT.2.1
  exact aTx_fr hT (gUp_ne2 (by omega)) (fun k => gUp_ne2 (by omega))

theorem ct_X0_here {b : pB} {n : Int} (hT : aTx v (gHd K) b n) (hq : 0 ≤ v 0 18) (k : ∀ c, (v 0 18 < n → c = b (v 0 18)) → (c = b (v 0 18) ∨ (c = -9 ∧ b (v 0 18) = 0)) → Q (0, c) v (gHd K) t) : Ctr Γ mX0_here [(2, 0)] v (gHd K) t Q := by
  refine Ctr.ofG (ls := [(2, 0)]) rfl rfl rfl rfl rfl ?_
  obtain ⟨h1, h2, h3, h4⟩ := hT
  refine Gx_aload_n (i := 0) dX0_here_0 rfl rfl ?_
  refine gf_X0_167_20 dX0_here_1 rfl rfl ?_
  refine Gx_aload_n (i := 0) dX0_here_4 rfl rfl ?_
  refine gf_X0_170_20 dX0_here_5 rfl rfl ?_
  refine Gx_alen dX0_here_8 h1 (by decide) (by decide) ?_
  refine Gx_icmp_ge (tgt := 24) dX0_here_9 (by decide) (fun c9 => ?_) (fun c9 => ?_)
  · refine Gx_bipush dX0_here_24 ⟨by decide, by decide⟩ ?_
    refine Gx_ireturn dX0_here_26 trivial ?_
    first
    | (refine k _ (fun _ => ?_) (Or.inl ?_) <;> rw [h4 _ hq, if_pos (by omega)])
    | (refine k _ (fun z => ?_) (Or.inr ⟨rfl, ?_⟩)
       · exfalso; omega
       · rw [h4 _ hq, if_neg (by omega)])
  · refine Gx_aload_n (i := 0) dX0_here_12 rfl rfl ?_
    refine gf_X0_170_20 dX0_here_13 rfl rfl ?_
    refine Gx_aload_n (i := 0) dX0_here_16 rfl rfl ?_
    refine gf_X0_167_20 dX0_here_17 rfl rfl ?_
    refine Gx_baload dX0_here_20 h1 (by first | omega | (simp (disch := omega) only [w32_id]; omega)) ?_
    refine Gx_goto (tgt := 26) dX0_here_21 (by decide) ?_
    refine Gx_ireturn dX0_here_26 trivial ?_
    first
    | (refine k _ (fun _ => ?_) (Or.inl ?_) <;> rw [h4 _ hq, if_pos (by omega)])
    | (refine k _ (fun z => ?_) (Or.inr ⟨rfl, ?_⟩)
       · exfalso; omega
       · rw [h4 _ hq, if_neg (by omega)])
set_option maxHeartbeats 1000000 in
theorem ct_X0_reads {b : pB} {n c q0 : Int} (hT : aTx v (gHd K) b n) (hq : v 0 18 = q0) (hp : 0 ≤ q0 ∧ q0 ≤ 1000) (hc : c ≠ 0 ∧ c ≠ -9) (k1 : ∀ v1, pSg b c q0 = .ok (q0 + 1) → (∀ a j, ¬ (a = 0 ∧ j = 18) → v1 a j = v a j) → v1 0 18 = q0 + 1 → aTx v1 (gHd K) b n → Q (0, 1) v1 (gHd K) t) (k0 : ∀ v1, pSg b c q0 = .error q0 → (∀ a j, ¬ (a = 0 ∧ j = 18) → v1 a j = v a j) → v1 0 18 = q0 → aTx v1 (gHd K) b n → Q (0, 0) v1 (gHd K) t) : Ctr Γ mX0_reads [(2, 0), (0, c)] v (gHd K) t Q := by
  refine Ctr.ofG (ls := [(2, 0), (0, c), (9, 0)]) rfl rfl rfl rfl rfl ?_
  refine Gx_aload_n (i := 0) dX0_reads_0 rfl rfl ?_
  refine cl_X0_173 dX0_reads_1 rfl rfl ⟨(Nat.le_of_ble_eq_true rfl), (Nat.le_of_ble_eq_true rfl)⟩ rfl ?_
  refine ct_X0_here hT (by omega) (fun d _ hd => ?_)
  rw [hq] at hd
  refine Gx_iload_n (i := 1) dX0_reads_4 rfl rfl ?_
  refine Gx_icmp_ne (tgt := 12) dX0_reads_5 (by decide) (fun c5 => ?_) (fun c5 => ?_)
  · refine Gx_iconst ⟨by decide, by decide⟩ dX0_reads_12 ?_
    refine Gx_istore_n_2 dX0_reads_13 (Nat.le_of_ble_eq_true rfl) (Nat.ne_of_beq_eq_false rfl) ?_
    refine Gx_aload_n (i := 0) dX0_reads_14 rfl rfl ?_
    refine Gx_dup (Nat.ne_of_beq_eq_false rfl) dX0_reads_15 ?_
    refine gf_X0_167_20 dX0_reads_16 rfl rfl ?_
    refine Gx_iload_n (i := 2) dX0_reads_19 rfl rfl ?_
    refine Gx_if_eq (tgt := 27) dX0_reads_20 (by decide) (fun _ => ?_) (fun hz => absurd hz (by decide))
    refine Gx_iconst ⟨by decide, by decide⟩ dX0_reads_27 ?_
    rw [hq]
    refine Gx_iadd dX0_reads_28 ?_
    try simp (disch := omega) only [w32_id]
    refine pf_X0_167_20 dX0_reads_29 rfl rfl ?_
    refine Gx_iload_n (i := 2) dX0_reads_32 rfl rfl ?_
    refine Gx_ireturn dX0_reads_33 (Or.inl rfl) ?_
    first
    | (refine k1 _ (if_pos (by omega)) (fun a j hn => gUp_ne2 (by omega)) (gUp_eq2 rfl rfl) (aTx_up hT (by omega) (by omega)))
    | (rw [show q0 + 0 = q0 by omega]
       refine k0 _ (if_neg (by omega)) (fun a j hn => gUp_ne2 (by omega)) (gUp_eq2 rfl rfl) (aTx_up hT (by omega) (by omega)))
  · refine Gx_iconst ⟨by decide, by decide⟩ dX0_reads_8 ?_
    refine Gx_goto (tgt := 13) dX0_reads_9 (by decide) ?_
    refine Gx_istore_n_2 dX0_reads_13 (Nat.le_of_ble_eq_true rfl) (Nat.ne_of_beq_eq_false rfl) ?_
    refine Gx_aload_n (i := 0) dX0_reads_14 rfl rfl ?_
    refine Gx_dup (Nat.ne_of_beq_eq_false rfl) dX0_reads_15 ?_
    refine gf_X0_167_20 dX0_reads_16 rfl rfl ?_
    refine Gx_iload_n (i := 2) dX0_reads_19 rfl rfl ?_
    refine Gx_if_eq (tgt := 27) dX0_reads_20 (by decide) (fun hz => absurd hz (by decide)) (fun _ => ?_)
    refine Gx_iconst ⟨by decide, by decide⟩ dX0_reads_23 ?_
    refine Gx_goto (tgt := 28) dX0_reads_24 (by decide) ?_
    rw [hq]
    refine Gx_iadd dX0_reads_28 ?_
    try simp (disch := omega) only [w32_id]
    refine pf_X0_167_20 dX0_reads_29 rfl rfl ?_
    refine Gx_iload_n (i := 2) dX0_reads_32 rfl rfl ?_
    refine Gx_ireturn dX0_reads_33 (Or.inr rfl) ?_
    first
    | (refine k1 _ (if_pos (by omega)) (fun a j hn => gUp_ne2 (by omega)) (gUp_eq2 rfl rfl) (aTx_up hT (by omega) (by omega)))
    | (rw [show q0 + 0 = q0 by omega]
       refine k0 _ (if_neg (by omega)) (fun a j hn => gUp_ne2 (by omega)) (gUp_eq2 rfl rfl) (aTx_up hT (by omega) (by omega)))
set_option maxHeartbeats 1000000 in
theorem lp_X0_readsNumber {lo hi F q0 n : Int} {b : pB} {bc bs : Nat} {v0 : gM} (hT : aTx v0 (gHd K) b n) (hF : F ≤ 2) : ∀ (j : Nat) (q x : Int), q0 ≤ q → q - q0 + j = F → 0 ≤ q0 ∧ q0 ≤ 900 → 0 ≤ x → x ≤ 99 → (1 ≤ j → x ≤ 9) → (2 ≤ j → x = 0) → Gx Γ mX0_readsNumber 68 [(2, 0), (0, F), (0, lo), (0, hi), (0, q0)] [] (gUp (gUp v0 0 19 (pDig b j q x).2) 0 18 (pDig b j q x).1) (gHd K) t bc bs Q → Gx Γ mX0_readsNumber 11 [(2, 0), (0, F), (0, lo), (0, hi), (0, q0)] [] (gUp (gUp v0 0 19 x) 0 18 q) (gHd K) t bc bs Q := by
  intro j
  induction j with
  | zero =>
    intro q x h0 h1 hp hx0 hx1 hx2 hx3 k
    have hT1 : aTx (gUp (gUp v0 0 19 x) 0 18 q) (gHd K) b n := aTx_up (aTx_up hT (by omega) (by omega)) (by omega) (by omega)
    have e1 : gUp (gUp v0 0 19 x) 0 18 q 0 18 = q := gUp_eq2 rfl rfl
    have e2 : gUp (gUp v0 0 19 x) 0 18 q 0 19 = x := by rw [gUp_ne2 (by omega), gUp_eq2 rfl rfl]
    refine Gx_aload_n (i := 0) dX0_readsNumber_11 rfl rfl ?_
    refine gf_X0_167_20 dX0_readsNumber_12 rfl rfl ?_
    rw [e1]
    refine Gx_iload dX0_readsNumber_15 rfl ?_
    refine Gx_isub dX0_readsNumber_17 ?_
    try simp (disch := omega) only [w32_id]
    refine Gx_iload_n (i := 1) dX0_readsNumber_18 rfl rfl ?_
    refine Gx_icmp_ge (tgt := 68) dX0_readsNumber_19 (by decide) (fun c19 => ?_) (fun c19 => ?_)
    · exact k
    · exfalso
      omega
  | succ j ih =>
    intro q x h0 h1 hp hx0 hx1 hx2 hx3 k
    have hT1 : aTx (gUp (gUp v0 0 19 x) 0 18 q) (gHd K) b n := aTx_up (aTx_up hT (by omega) (by omega)) (by omega) (by omega)
    have e1 : gUp (gUp v0 0 19 x) 0 18 q 0 18 = q := gUp_eq2 rfl rfl
    have e2 : gUp (gUp v0 0 19 x) 0 18 q 0 19 = x := by rw [gUp_ne2 (by omega), gUp_eq2 rfl rfl]
    refine Gx_aload_n (i := 0) dX0_readsNumber_11 rfl rfl ?_
    refine gf_X0_167_20 dX0_readsNumber_12 rfl rfl ?_
    rw [e1]
    refine Gx_iload dX0_readsNumber_15 rfl ?_
    refine Gx_isub dX0_readsNumber_17 ?_
    try simp (disch := omega) only [w32_id]
    refine Gx_iload_n (i := 1) dX0_readsNumber_18 rfl rfl ?_
    refine Gx_icmp_ge (tgt := 68) dX0_readsNumber_19 (by decide) (fun c19 => ?_) (fun c19 => ?_)
    · first
      | (exfalso; omega)
      | (have e : pDig b (j + 1) q x = (q, x) := by
           unfold pDig
           rw [if_neg (by omega)]
         rw [e] at k
         exact k)
    · refine Gx_aload_n (i := 0) dX0_readsNumber_22 rfl rfl ?_
      refine cl_X0_173 dX0_readsNumber_23 rfl rfl ⟨(Nat.le_of_ble_eq_true rfl), (Nat.le_of_ble_eq_true rfl)⟩ rfl ?_
      refine ct_X0_here hT1 (by omega) (fun dA hlA hdA => ?_)
      rw [e1] at hlA hdA
      refine Gx_bipush dX0_readsNumber_26 ⟨by decide, by decide⟩ ?_
      refine Gx_bipush dX0_readsNumber_28 ⟨by decide, by decide⟩ ?_
      refine cl_X0_129 dX0_readsNumber_30 rfl ⟨(Nat.le_of_ble_eq_true rfl), (Nat.le_of_ble_eq_true rfl)⟩ rfl ?_
      refine ct_X0_isIn (fun hi => ?_) (fun hi => ?_)
      · refine Gx_if_eq (tgt := 68) dX0_readsNumber_33 (by decide) (fun hz => absurd hz (by decide)) (fun _ => ?_)
        refine Gx_aload_n (i := 0) dX0_readsNumber_36 rfl rfl ?_
        refine Gx_bipush dX0_readsNumber_37 ⟨by decide, by decide⟩ ?_
        refine Gx_aload_n (i := 0) dX0_readsNumber_39 rfl rfl ?_
        refine gf_X0_177_20 dX0_readsNumber_40 rfl rfl ?_
        rw [e2]
        refine Gx_imul dX0_readsNumber_43 ?_
        try simp (disch := omega) only [w32_id]
        refine Gx_aload_n (i := 0) dX0_readsNumber_44 rfl rfl ?_
        refine cl_X0_173 dX0_readsNumber_45 rfl rfl ⟨(Nat.le_of_ble_eq_true rfl), (Nat.le_of_ble_eq_true rfl)⟩ rfl ?_
        refine ct_X0_here hT1 (by omega) (fun dB hlB hdB => ?_)
        rw [e1] at hlB hdB
        refine Gx_iadd dX0_readsNumber_48 ?_
        try simp (disch := omega) only [w32_id]
        refine Gx_bipush dX0_readsNumber_49 ⟨by decide, by decide⟩ ?_
        refine Gx_isub dX0_readsNumber_51 ?_
        try simp (disch := omega) only [w32_id]
        refine pf_X0_177_20 dX0_readsNumber_52 rfl rfl ?_
        refine Gx_aload_n (i := 0) dX0_readsNumber_55 rfl rfl ?_
        refine Gx_dup (Nat.ne_of_beq_eq_false rfl) dX0_readsNumber_56 ?_
        refine gf_X0_167_20 dX0_readsNumber_57 rfl rfl ?_
        refine Gx_iconst ⟨by decide, by decide⟩ dX0_readsNumber_60 ?_
        refine Gx_iadd dX0_readsNumber_61 ?_
        try simp (disch := omega) only [w32_id]
        refine pf_X0_167_20 dX0_readsNumber_62 rfl rfl ?_
        refine Gx_goto (tgt := 11) dX0_readsNumber_65 (by decide) ?_
        have hd : 48 ≤ b q ∧ b q ≤ 57 := by omega
        have eB : dB = b q := by omega
        have e : pDig b (j + 1) q x = pDig b j (q + 1) (10 * x + b q - 48) := by
          show (if _ then _ else _) = _
          rw [if_pos hd]
        rw [e] at k
        have e5 : gUp (gUp (gUp (gUp v0 0 19 x) 0 18 q) 0 19 (10 * x + b q - 48)) 0 18 (q + 1) = gUp (gUp v0 0 19 (10 * x + b q - 48)) 0 18 (q + 1) := gUp_re
        rw [eB]
        have e6 : gUp (gUp (gUp v0 0 19 x) 0 18 q) 0 19 (10 * x + b q - 48) 0 18 = q := by rw [gUp_ne2 (by omega)]; exact e1
        rw [e6]
        try simp (disch := omega) only [w32_id]
        rw [e5]
        exact ih (q + 1) (10 * x + b q - 48) (by omega) (by omega) hp (by omega) (by omega) (by omega) (by omega) k
      · refine Gx_if_eq (tgt := 68) dX0_readsNumber_33 (by decide) (fun _ => ?_) (fun hz => absurd hz (by decide))
        first
        | (exfalso; omega)
        | (have e : pDig b (j + 1) q x = (q, x) := by
             unfold pDig
             rw [if_neg (by omega)]
           rw [e] at k
           exact k)
set_option maxHeartbeats 1000000 in
theorem ct_X0_readsNumber {b : pB} {n F lo hi' q0 : Int} {f : Nat} (hT : aTx v (gHd K) b n) (hq : v 0 18 = q0) (hp : 0 ≤ q0 ∧ q0 ≤ 900) (hF : F = f) (hf : f ≤ 2) (k1 : ∀ q x v1, pRd b f lo hi' q0 = .ok (q, x) → q0 < q ∧ q ≤ q0 + f ∧ lo ≤ x ∧ x ≤ hi' → (∀ a j, ¬ (a = 0 ∧ (j = 18 ∨ j = 19)) → v1 a j = v a j) → v1 0 18 = q → v1 0 19 = x → aTx v1 (gHd K) b n → Q (0, 1) v1 (gHd K) t) (k0 : ∀ q x v1, 0 ≤ x ∧ x ≤ 99 → pRd b f lo hi' q0 = .error q → q0 ≤ q ∧ q ≤ q0 + f → (∀ a j, ¬ (a = 0 ∧ (j = 18 ∨ j = 19)) → v1 a j = v a j) → v1 0 18 = q → v1 0 19 = x → aTx v1 (gHd K) b n → Q (0, 0) v1 (gHd K) t) : Ctr Γ mX0_readsNumber [(2, 0), (0, F), (0, lo), (0, hi')] v (gHd K) t Q := by
  refine Ctr.ofG (ls := [(2, 0), (0, F), (0, lo), (0, hi'), (9, 0)]) rfl rfl rfl rfl rfl ?_
  refine Gx_aload_n (i := 0) dX0_readsNumber_0 rfl rfl ?_
  refine gf_X0_167_20 dX0_readsNumber_1 rfl rfl ?_
  rw [hq]
  refine Gx_istore_4 dX0_readsNumber_4 (Nat.le_of_ble_eq_true rfl) (Nat.ne_of_beq_eq_false rfl) ?_
  refine Gx_aload_n (i := 0) dX0_readsNumber_6 rfl rfl ?_
  refine Gx_iconst ⟨by decide, by decide⟩ dX0_readsNumber_7 ?_
  refine pf_X0_177_20 dX0_readsNumber_8 rfl rfl ?_
  have e0 : gUp v 0 19 0 = gUp (gUp v 0 19 0) 0 18 q0 := by
    funext z y
    by_cases hz : z = 0 ∧ y = 18
    · rw [gUp_eq2 (x := q0) hz.1 hz.2, gUp_ne2 (by omega), hz.1, hz.2]
      exact hq
    · rw [gUp_ne2 (x := q0) hz]
  rw [e0]
  refine lp_X0_readsNumber (v0 := v) hT (by omega) f q0 0 (by omega) (by omega) hp (by omega) (by omega) (by omega) (by omega) ?_
  have hnum := pDig_num b f q0 0 (by omega) (by omega) (by omega) (by omega) (by omega)
  have hpos := pDig_pos b f q0 0
  have e1 : gUp (gUp v 0 19 (pDig b f q0 0).2) 0 18 (pDig b f q0 0).1 0 18 = (pDig b f q0 0).1 := gUp_eq2 rfl rfl
  have e2 : gUp (gUp v 0 19 (pDig b f q0 0).2) 0 18 (pDig b f q0 0).1 0 19 = (pDig b f q0 0).2 := by rw [gUp_ne2 (by omega), gUp_eq2 rfl rfl]
  refine Gx_aload_n (i := 0) dX0_readsNumber_68 rfl rfl ?_
  refine gf_X0_167_20 dX0_readsNumber_69 rfl rfl ?_
  refine Gx_iload dX0_readsNumber_72 rfl ?_
  rw [e1]
  refine Gx_icmp_le (tgt := 93) dX0_readsNumber_74 (by decide) (fun c74 => ?_) (fun c74 => ?_)
  · refine Gx_iconst ⟨by decide, by decide⟩ dX0_readsNumber_93 ?_
    refine Gx_ireturn dX0_readsNumber_94 (Or.inl rfl) ?_
    first
    | (have hz : pRd b f lo hi' q0 = .ok ((pDig b f q0 0).1, (pDig b f q0 0).2) := if_pos ⟨by omega, by omega⟩
       exact k1 _ _ _ hz (pRd_ok hz) (fun a j hn => by rw [gUp_ne2 (by omega), gUp_ne2 (by omega)]) e1 e2 (aTx_up (aTx_up hT (by omega) (by omega)) (by omega) (by omega)))
    | (have hz : pRd b f lo hi' q0 = .error (pDig b f q0 0).1 := if_neg (by omega)
       exact k0 _ _ _ hnum hz (pRd_err hz) (fun a j hn => by rw [gUp_ne2 (by omega), gUp_ne2 (by omega)]) e1 e2 (aTx_up (aTx_up hT (by omega) (by omega)) (by omega) (by omega)))
  · refine Gx_aload_n (i := 0) dX0_readsNumber_77 rfl rfl ?_
    refine gf_X0_177_20 dX0_readsNumber_78 rfl rfl ?_
    refine Gx_iload_n (i := 2) dX0_readsNumber_81 rfl rfl ?_
    refine Gx_iload_n (i := 3) dX0_readsNumber_82 rfl rfl ?_
    rw [e2]
    refine cl_X0_129 dX0_readsNumber_83 rfl ⟨(Nat.le_of_ble_eq_true rfl), (Nat.le_of_ble_eq_true rfl)⟩ rfl ?_
    refine ct_X0_isIn (fun hi => ?_) (fun hi => ?_)
    · refine Gx_if_eq (tgt := 93) dX0_readsNumber_86 (by decide) (fun hz => absurd hz (by decide)) (fun _ => ?_)
      refine Gx_iconst ⟨by decide, by decide⟩ dX0_readsNumber_89 ?_
      refine Gx_goto (tgt := 94) dX0_readsNumber_90 (by decide) ?_
      refine Gx_ireturn dX0_readsNumber_94 (Or.inr rfl) ?_
      first
      | (have hz : pRd b f lo hi' q0 = .ok ((pDig b f q0 0).1, (pDig b f q0 0).2) := if_pos ⟨by omega, by omega⟩
         exact k1 _ _ _ hz (pRd_ok hz) (fun a j hn => by rw [gUp_ne2 (by omega), gUp_ne2 (by omega)]) e1 e2 (aTx_up (aTx_up hT (by omega) (by omega)) (by omega) (by omega)))
      | (have hz : pRd b f lo hi' q0 = .error (pDig b f q0 0).1 := if_neg (by omega)
         exact k0 _ _ _ hnum hz (pRd_err hz) (fun a j hn => by rw [gUp_ne2 (by omega), gUp_ne2 (by omega)]) e1 e2 (aTx_up (aTx_up hT (by omega) (by omega)) (by omega) (by omega)))
    · refine Gx_if_eq (tgt := 93) dX0_readsNumber_86 (by decide) (fun _ => ?_) (fun hz => absurd hz (by decide))
      refine Gx_iconst ⟨by decide, by decide⟩ dX0_readsNumber_93 ?_
      refine Gx_ireturn dX0_readsNumber_94 (Or.inl rfl) ?_
      first
      | (have hz : pRd b f lo hi' q0 = .ok ((pDig b f q0 0).1, (pDig b f q0 0).2) := if_pos ⟨by omega, by omega⟩
         exact k1 _ _ _ hz (pRd_ok hz) (fun a j hn => by rw [gUp_ne2 (by omega), gUp_ne2 (by omega)]) e1 e2 (aTx_up (aTx_up hT (by omega) (by omega)) (by omega) (by omega)))
      | (have hz : pRd b f lo hi' q0 = .error (pDig b f q0 0).1 := if_neg (by omega)
         exact k0 _ _ _ hnum hz (pRd_err hz) (fun a j hn => by rw [gUp_ne2 (by omega), gUp_ne2 (by omega)]) e1 e2 (aTx_up (aTx_up hT (by omega) (by omega)) (by omega) (by omega)))
set_option maxHeartbeats 2000000 in
theorem ct_X0_readsJay {b : pB} {n q0 : Int} (hT : aTx v (gHd K) b n) (hq : v 0 18 = q0) (hp : 0 ≤ q0 ∧ q0 ≤ 400) (k1 : ∀ q x0 x1 v1, pJay b q0 = .ok (q, x0, x1) → (∀ a j, ¬ (a = 0 ∧ (j = 18 ∨ j = 19 ∨ j = 24 ∨ j = 25)) → v1 a j = v a j) → v1 0 18 = q → v1 0 24 = x0 → v1 0 25 = x1 → Q (0, 1) v1 (gHd K) t) (k0 : ∀ q v1, pJay b q0 = .error q → (∀ a j, ¬ (a = 0 ∧ (j = 18 ∨ j = 19 ∨ j = 24 ∨ j = 25)) → v1 a j = v a j) → v1 0 18 = q → Q (0, 0) v1 (gHd K) t) : Ctr Γ mX0_readsJay [(2, 0)] v (gHd K) t Q := by
  refine Ctr.ofG (ls := [(2, 0), (9, 0)]) rfl rfl rfl rfl rfl ?_
  refine Gx_aload_n (i := 0) dX0_readsJay_0 rfl rfl ?_
  refine Gx_iconst ⟨by decide, by decide⟩ dX0_readsJay_1 ?_
  refine Gx_iconst ⟨by decide, by decide⟩ dX0_readsJay_2 ?_
  refine Gx_bipush dX0_readsJay_3 ⟨by decide, by decide⟩ ?_
  refine cl_X0_180 dX0_readsJay_5 rfl rfl ⟨(Nat.le_of_ble_eq_true rfl), (Nat.le_of_ble_eq_true rfl)⟩ rfl ?_
  refine ct_X0_readsNumber (q0 := q0) (f := 2) hT hq (by omega) rfl (by omega) (fun qA xA vA cA bA hFA hqA hxA hTA => ?_) (fun qA xA vA hzA cA bA hFA hqA hxA hTA => ?_)
  · refine Gx_if_ne (tgt := 13) dX0_readsJay_8 (by decide) (fun _ => ?_) (fun hz => absurd hz (by decide))
    refine Gx_aload_n (i := 0) dX0_readsJay_13 rfl rfl ?_
    refine Gx_aload_n (i := 0) dX0_readsJay_14 rfl rfl ?_
    refine gf_X0_177_20 dX0_readsJay_15 rfl rfl ?_
    refine pf_X0_226_20 dX0_readsJay_18 rfl rfl ?_
    refine Gx_name (fun vT eT => ?_)
    have hFT : ∀ a j, ¬ (a = 0 ∧ j = 24) → vT a j = vA a j := by
      intro a j hn
      rw [eT]
      simp (disch := omega) only [gUp_ne2, gUp_eq2]
    have hyT : vT 0 24 = xA := by
      rw [eT]
      simp (disch := omega) only [gUp_ne2, gUp_eq2, hxA, hqA]
    have hqT : vT 0 18 = qA := by
      rw [eT]
      simp (disch := omega) only [gUp_ne2, gUp_eq2, hxA, hqA]
    have hTT : aTx vT (gHd K) b n := aTx_fr hTA (hFT 0 17 (by omega)) (fun k => hFT _ k (by have := hTA.2.1; omega))
    refine Gx_aload_n (i := 0) dX0_readsJay_21 rfl rfl ?_
    refine Gx_bipush dX0_readsJay_22 ⟨by decide, by decide⟩ ?_
    refine cl_X0_199 dX0_readsJay_24 rfl rfl ⟨(Nat.le_of_ble_eq_true rfl), (Nat.le_of_ble_eq_true rfl)⟩ rfl ?_
    refine ct_X0_reads (q0 := qA) hTT hqT (by omega) (by omega) (fun vG cG hFG hqG hTG => ?_) (fun vG cG hFG hqG hTG => ?_)
    · refine Gx_if_eq (tgt := 45) dX0_readsJay_27 (by decide) (fun hz => absurd hz (by decide)) (fun _ => ?_)
      refine Gx_aload_n (i := 0) dX0_readsJay_30 rfl rfl ?_
      refine Gx_iconst ⟨by decide, by decide⟩ dX0_readsJay_31 ?_
      refine Gx_iconst ⟨by decide, by decide⟩ dX0_readsJay_32 ?_
      refine Gx_bipush dX0_readsJay_33 ⟨by decide, by decide⟩ ?_
      refine cl_X0_180 dX0_readsJay_35 rfl rfl ⟨(Nat.le_of_ble_eq_true rfl), (Nat.le_of_ble_eq_true rfl)⟩ rfl ?_
      refine ct_X0_readsNumber (q0 := (qA + 1)) (f := 2) hTG hqG (by omega) rfl (by omega) (fun qB xB vB cB bB hFB hqB hxB hTB => ?_) (fun qB xB vB hzB cB bB hFB hqB hxB hTB => ?_)
      · refine Gx_if_eq (tgt := 45) dX0_readsJay_38 (by decide) (fun hz => absurd hz (by decide)) (fun _ => ?_)
        refine Gx_iconst ⟨by decide, by decide⟩ dX0_readsJay_41 ?_
        refine Gx_goto (tgt := 46) dX0_readsJay_42 (by decide) ?_
        refine Gx_istore_n_1 dX0_readsJay_46 (Nat.le_of_ble_eq_true rfl) (Nat.ne_of_beq_eq_false rfl) ?_
        refine Gx_aload_n (i := 0) dX0_readsJay_47 rfl rfl ?_
        refine Gx_aload_n (i := 0) dX0_readsJay_48 rfl rfl ?_
        refine gf_X0_177_20 dX0_readsJay_49 rfl rfl ?_
        refine pf_X0_229_20 dX0_readsJay_52 rfl rfl ?_
        refine Gx_iload_n (i := 1) dX0_readsJay_55 rfl rfl ?_
        refine Gx_ireturn dX0_readsJay_56 (Or.inr rfl) ?_
        first
          | (refine k1 qB xA xB _ ?_ ?_ ?_ ?_ ?_
             · simp [pJay, Bind.bind, Except.bind, Pure.pure, Except.pure, *]; done
             · intro a j hn; simp (disch := omega) only [gUp_ne2, gUp_eq2, hFA, hqA, hxA, hFG, hqG, hFB, hqB, hxB, hFT]; done
             · simp (disch := omega) only [gUp_ne2, gUp_eq2, hFA, hqA, hxA, hFG, hqG, hFB, hqB, hxB]; done
             · simp (disch := omega) only [gUp_ne2, gUp_eq2, hFA, hqA, hxA, hFG, hqG, hFB, hqB, hxB, hyT]; done
             · simp (disch := omega) only [gUp_ne2, gUp_eq2, hFA, hqA, hxA, hFG, hqG, hFB, hqB, hxB]; done)
          | (refine k0 qB _ ?_ ?_ ?_
             · simp [pJay, Bind.bind, Except.bind, Pure.pure, Except.pure, *]; done
             · intro a j hn; simp (disch := omega) only [gUp_ne2, gUp_eq2, hFA, hqA, hxA, hFG, hqG, hFB, hqB, hxB, hFT]; done
             · simp (disch := omega) only [gUp_ne2, gUp_eq2, hFA, hqA, hxA, hFG, hqG, hFB, hqB, hxB]; done)
          | (refine k0 qA _ ?_ ?_ ?_
             · simp [pJay, Bind.bind, Except.bind, Pure.pure, Except.pure, *]; done
             · intro a j hn; simp (disch := omega) only [gUp_ne2, gUp_eq2, hFA, hqA, hxA, hFG, hqG, hFB, hqB, hxB, hFT]; done
             · simp (disch := omega) only [gUp_ne2, gUp_eq2, hFA, hqA, hxA, hFG, hqG, hFB, hqB, hxB]; done)
      · refine Gx_if_eq (tgt := 45) dX0_readsJay_38 (by decide) (fun _ => ?_) (fun hz => absurd hz (by decide))
        refine Gx_iconst ⟨by decide, by decide⟩ dX0_readsJay_45 ?_
        refine Gx_istore_n_1 dX0_readsJay_46 (Nat.le_of_ble_eq_true rfl) (Nat.ne_of_beq_eq_false rfl) ?_
        refine Gx_aload_n (i := 0) dX0_readsJay_47 rfl rfl ?_
        refine Gx_aload_n (i := 0) dX0_readsJay_48 rfl rfl ?_
        refine gf_X0_177_20 dX0_readsJay_49 rfl rfl ?_
        refine pf_X0_229_20 dX0_readsJay_52 rfl rfl ?_
        refine Gx_iload_n (i := 1) dX0_readsJay_55 rfl rfl ?_
        refine Gx_ireturn dX0_readsJay_56 (Or.inl rfl) ?_
        first
          | (refine k1 qB xA xB _ ?_ ?_ ?_ ?_ ?_
             · simp [pJay, Bind.bind, Except.bind, Pure.pure, Except.pure, *]; done
             · intro a j hn; simp (disch := omega) only [gUp_ne2, gUp_eq2, hFA, hqA, hxA, hFG, hqG, hFB, hqB, hxB, hFT]; done
             · simp (disch := omega) only [gUp_ne2, gUp_eq2, hFA, hqA, hxA, hFG, hqG, hFB, hqB, hxB]; done
             · simp (disch := omega) only [gUp_ne2, gUp_eq2, hFA, hqA, hxA, hFG, hqG, hFB, hqB, hxB, hyT]; done
             · simp (disch := omega) only [gUp_ne2, gUp_eq2, hFA, hqA, hxA, hFG, hqG, hFB, hqB, hxB]; done)
          | (refine k0 qB _ ?_ ?_ ?_
             · simp [pJay, Bind.bind, Except.bind, Pure.pure, Except.pure, *]; done
             · intro a j hn; simp (disch := omega) only [gUp_ne2, gUp_eq2, hFA, hqA, hxA, hFG, hqG, hFB, hqB, hxB, hFT]; done
             · simp (disch := omega) only [gUp_ne2, gUp_eq2, hFA, hqA, hxA, hFG, hqG, hFB, hqB, hxB]; done)
          | (refine k0 qA _ ?_ ?_ ?_
             · simp [pJay, Bind.bind, Except.bind, Pure.pure, Except.pure, *]; done
             · intro a j hn; simp (disch := omega) only [gUp_ne2, gUp_eq2, hFA, hqA, hxA, hFG, hqG, hFB, hqB, hxB, hFT]; done
             · simp (disch := omega) only [gUp_ne2, gUp_eq2, hFA, hqA, hxA, hFG, hqG, hFB, hqB, hxB]; done)
    · refine Gx_if_eq (tgt := 45) dX0_readsJay_27 (by decide) (fun _ => ?_) (fun hz => absurd hz (by decide))
      refine Gx_iconst ⟨by decide, by decide⟩ dX0_readsJay_45 ?_
      refine Gx_istore_n_1 dX0_readsJay_46 (Nat.le_of_ble_eq_true rfl) (Nat.ne_of_beq_eq_false rfl) ?_
      refine Gx_aload_n (i := 0) dX0_readsJay_47 rfl rfl ?_
      refine Gx_aload_n (i := 0) dX0_readsJay_48 rfl rfl ?_
      refine gf_X0_177_20 dX0_readsJay_49 rfl rfl ?_
      refine pf_X0_229_20 dX0_readsJay_52 rfl rfl ?_
      refine Gx_iload_n (i := 1) dX0_readsJay_55 rfl rfl ?_
      refine Gx_ireturn dX0_readsJay_56 (Or.inl rfl) ?_
      first
        | (refine k1 qB xA xB _ ?_ ?_ ?_ ?_ ?_
           · simp [pJay, Bind.bind, Except.bind, Pure.pure, Except.pure, *]; done
           · intro a j hn; simp (disch := omega) only [gUp_ne2, gUp_eq2, hFA, hqA, hxA, hFG, hqG, hFT]; done
           · simp (disch := omega) only [gUp_ne2, gUp_eq2, hFA, hqA, hxA, hFG, hqG]; done
           · simp (disch := omega) only [gUp_ne2, gUp_eq2, hFA, hqA, hxA, hFG, hqG, hyT]; done
           · simp (disch := omega) only [gUp_ne2, gUp_eq2, hFA, hqA, hxA, hFG, hqG]; done)
        | (refine k0 qB _ ?_ ?_ ?_
           · simp [pJay, Bind.bind, Except.bind, Pure.pure, Except.pure, *]; done
           · intro a j hn; simp (disch := omega) only [gUp_ne2, gUp_eq2, hFA, hqA, hxA, hFG, hqG, hFT]; done
           · simp (disch := omega) only [gUp_ne2, gUp_eq2, hFA, hqA, hxA, hFG, hqG]; done)
        | (refine k0 qA _ ?_ ?_ ?_
           · simp [pJay, Bind.bind, Except.bind, Pure.pure, Except.pure, *]; done
           · intro a j hn; simp (disch := omega) only [gUp_ne2, gUp_eq2, hFA, hqA, hxA, hFG, hqG, hFT]; done
           · simp (disch := omega) only [gUp_ne2, gUp_eq2, hFA, hqA, hxA, hFG, hqG]; done)
  · refine Gx_if_ne (tgt := 13) dX0_readsJay_8 (by decide) (fun hz => absurd hz (by decide)) (fun _ => ?_)
    refine Gx_iconst ⟨by decide, by decide⟩ dX0_readsJay_11 ?_
    refine Gx_ireturn dX0_readsJay_12 (Or.inl rfl) ?_
    first
      | (refine k0 qA _ ?_ ?_ ?_
         · simp [pJay, Bind.bind, Except.bind, Pure.pure, Except.pure, *]; done
         · intro a j hn; simp (disch := omega) only [gUp_ne2, gUp_eq2, hFA, hqA, hxA]; done
         · exact hqA)
set_option maxHeartbeats 4000000 in
theorem ct_X0_readsEaters {b : pB} {n q0 n0 : Int} (hT : aTx v (gHd K) b n) (hq : v 0 18 = q0) (hp : 0 ≤ q0 ∧ q0 ≤ 400) (hn : v 0 26 = n0) (hn0 : 0 ≤ n0 ∧ n0 < 2) (k1 : ∀ q x0 x1 x2 x3 v1, pEater b q0 = .ok (q, x0, x1, x2, x3) → (∀ a j, ¬ ((a = 0 ∧ (j = 18 ∨ j = 19 ∨ j = 26)) ∨ (12 ≤ a ∧ a ≤ 15 ∧ j = n0)) → v1 a j = v a j) → v1 0 18 = q → v1 0 26 = n0 + 1 → v1 12 n0 = x0 → v1 13 n0 = x1 → v1 14 n0 = x2 → v1 15 n0 = x3 → Q (0, 1) v1 (gHd K) t) (k0 : ∀ q v1, pEater b q0 = .error q → (∀ a j, ¬ ((a = 0 ∧ (j = 18 ∨ j = 19 ∨ j = 26)) ∨ (12 ≤ a ∧ a ≤ 15 ∧ j = n0)) → v1 a j = v a j) → v1 0 18 = q → v1 0 26 = n0 → Q (0, 0) v1 (gHd K) t) : Ctr Γ mX0_readsEaters [(2, 0)] v (gHd K) t Q := by
  refine Ctr.ofG (ls := [(2, 0), (9, 0)]) rfl rfl rfl rfl rfl ?_
  refine Gx_aload_n (i := 0) dX0_readsEaters_0 rfl rfl ?_
  refine gf_X0_223_20 dX0_readsEaters_1 rfl rfl ?_
  rw [hn]
  refine Gx_istore_n_1 dX0_readsEaters_4 (Nat.le_of_ble_eq_true rfl) (Nat.ne_of_beq_eq_false rfl) ?_
  refine Gx_aload_n (i := 0) dX0_readsEaters_5 rfl rfl ?_
  refine Gx_iconst ⟨by decide, by decide⟩ dX0_readsEaters_6 ?_
  refine Gx_iconst ⟨by decide, by decide⟩ dX0_readsEaters_7 ?_
  refine Gx_bipush dX0_readsEaters_8 ⟨by decide, by decide⟩ ?_
  refine cl_X0_180 dX0_readsEaters_10 rfl rfl ⟨(Nat.le_of_ble_eq_true rfl), (Nat.le_of_ble_eq_true rfl)⟩ rfl ?_
  refine ct_X0_readsNumber (q0 := q0) (f := 2) hT hq (by omega) rfl (by omega) (fun qA xA vA cA bA hFA hqA hxA hTA => ?_) (fun qA xA vA hzA cA bA hFA hqA hxA hTA => ?_)
  · refine Gx_if_ne (tgt := 18) dX0_readsEaters_13 (by decide) (fun _ => ?_) (fun hz => absurd hz (by decide))
    refine Gx_aload_n (i := 0) dX0_readsEaters_18 rfl rfl ?_
    refine gf_X0_65_20 dX0_readsEaters_19 rfl rfl ?_
    refine Gx_iload_n (i := 1) dX0_readsEaters_22 rfl rfl ?_
    refine Gx_aload_n (i := 0) dX0_readsEaters_23 rfl rfl ?_
    refine gf_X0_177_20 dX0_readsEaters_24 rfl rfl ?_
    refine Gx_iastore dX0_readsEaters_27 rfl (by first | omega | (simp (disch := omega) only [w32_id]; omega)) ?_
    refine Gx_name (fun vT1 eT1 => ?_)
    have hFT1 : ∀ a j, ¬ (a = 12 ∧ j = n0) → vT1 a j = vA a j := by
      intro a j hn
      rw [eT1]
      simp (disch := omega) only [gUp_ne2, gUp_eq2]
    have hyT1 : vT1 12 n0 = xA := by
      rw [eT1]
      simp (disch := omega) only [gUp_ne2, gUp_eq2, hxA, hqA]
    have hqT1 : vT1 0 18 = qA := by
      rw [eT1]
      simp (disch := omega) only [gUp_ne2, gUp_eq2, hxA, hqA]
    have hTT1 : aTx vT1 (gHd K) b n := aTx_fr hTA (hFT1 0 17 (by omega)) (fun k => hFT1 _ k (by have := hTA.2.1; omega))
    refine Gx_aload_n (i := 0) dX0_readsEaters_28 rfl rfl ?_
    refine Gx_bipush dX0_readsEaters_29 ⟨by decide, by decide⟩ ?_
    refine cl_X0_199 dX0_readsEaters_31 rfl rfl ⟨(Nat.le_of_ble_eq_true rfl), (Nat.le_of_ble_eq_true rfl)⟩ rfl ?_
    refine ct_X0_reads (q0 := qA) hTT1 hqT1 (by omega) (by omega) (fun vG2 cG2 hFG2 hqG2 hTG2 => ?_) (fun vG2 cG2 hFG2 hqG2 hTG2 => ?_)
    · refine Gx_if_eq (tgt := 48) dX0_readsEaters_34 (by decide) (fun hz => absurd hz (by decide)) (fun _ => ?_)
      refine Gx_aload_n (i := 0) dX0_readsEaters_37 rfl rfl ?_
      refine Gx_iconst ⟨by decide, by decide⟩ dX0_readsEaters_38 ?_
      refine Gx_iconst ⟨by decide, by decide⟩ dX0_readsEaters_39 ?_
      refine Gx_bipush dX0_readsEaters_40 ⟨by decide, by decide⟩ ?_
      refine cl_X0_180 dX0_readsEaters_42 rfl rfl ⟨(Nat.le_of_ble_eq_true rfl), (Nat.le_of_ble_eq_true rfl)⟩ rfl ?_
      refine ct_X0_readsNumber (q0 := (qA + 1)) (f := 1) hTG2 hqG2 (by omega) rfl (by omega) (fun qB xB vB cB bB hFB hqB hxB hTB => ?_) (fun qB xB vB hzB cB bB hFB hqB hxB hTB => ?_)
      · refine Gx_if_ne (tgt := 50) dX0_readsEaters_45 (by decide) (fun _ => ?_) (fun hz => absurd hz (by decide))
        refine Gx_aload_n (i := 0) dX0_readsEaters_50 rfl rfl ?_
        refine gf_X0_68_20 dX0_readsEaters_51 rfl rfl ?_
        refine Gx_iload_n (i := 1) dX0_readsEaters_54 rfl rfl ?_
        refine Gx_aload_n (i := 0) dX0_readsEaters_55 rfl rfl ?_
        refine gf_X0_177_20 dX0_readsEaters_56 rfl rfl ?_
        refine Gx_iastore dX0_readsEaters_59 rfl (by first | omega | (simp (disch := omega) only [w32_id]; omega)) ?_
        refine Gx_name (fun vT2 eT2 => ?_)
        have hFT2 : ∀ a j, ¬ (a = 13 ∧ j = n0) → vT2 a j = vB a j := by
          intro a j hn
          rw [eT2]
          simp (disch := omega) only [gUp_ne2, gUp_eq2]
        have hyT2 : vT2 13 n0 = xB := by
          rw [eT2]
          simp (disch := omega) only [gUp_ne2, gUp_eq2, hxB, hqB]
        have hqT2 : vT2 0 18 = qB := by
          rw [eT2]
          simp (disch := omega) only [gUp_ne2, gUp_eq2, hxB, hqB]
        have hTT2 : aTx vT2 (gHd K) b n := aTx_fr hTB (hFT2 0 17 (by omega)) (fun k => hFT2 _ k (by have := hTB.2.1; omega))
        refine Gx_aload_n (i := 0) dX0_readsEaters_60 rfl rfl ?_
        refine Gx_bipush dX0_readsEaters_61 ⟨by decide, by decide⟩ ?_
        refine cl_X0_199 dX0_readsEaters_63 rfl rfl ⟨(Nat.le_of_ble_eq_true rfl), (Nat.le_of_ble_eq_true rfl)⟩ rfl ?_
        refine ct_X0_reads (q0 := qB) hTT2 hqT2 (by omega) (by omega) (fun vG3 cG3 hFG3 hqG3 hTG3 => ?_) (fun vG3 cG3 hFG3 hqG3 hTG3 => ?_)
        · refine Gx_if_eq (tgt := 80) dX0_readsEaters_66 (by decide) (fun hz => absurd hz (by decide)) (fun _ => ?_)
          refine Gx_aload_n (i := 0) dX0_readsEaters_69 rfl rfl ?_
          refine Gx_iconst ⟨by decide, by decide⟩ dX0_readsEaters_70 ?_
          refine Gx_iconst ⟨by decide, by decide⟩ dX0_readsEaters_71 ?_
          refine Gx_bipush dX0_readsEaters_72 ⟨by decide, by decide⟩ ?_
          refine cl_X0_180 dX0_readsEaters_74 rfl rfl ⟨(Nat.le_of_ble_eq_true rfl), (Nat.le_of_ble_eq_true rfl)⟩ rfl ?_
          refine ct_X0_readsNumber (q0 := (qB + 1)) (f := 1) hTG3 hqG3 (by omega) rfl (by omega) (fun qC xC vC cC bC hFC hqC hxC hTC => ?_) (fun qC xC vC hzC cC bC hFC hqC hxC hTC => ?_)
          · refine Gx_if_ne (tgt := 82) dX0_readsEaters_77 (by decide) (fun _ => ?_) (fun hz => absurd hz (by decide))
            refine Gx_aload_n (i := 0) dX0_readsEaters_82 rfl rfl ?_
            refine gf_X0_71_20 dX0_readsEaters_83 rfl rfl ?_
            refine Gx_iload_n (i := 1) dX0_readsEaters_86 rfl rfl ?_
            refine Gx_aload_n (i := 0) dX0_readsEaters_87 rfl rfl ?_
            refine gf_X0_177_20 dX0_readsEaters_88 rfl rfl ?_
            refine Gx_iastore dX0_readsEaters_91 rfl (by first | omega | (simp (disch := omega) only [w32_id]; omega)) ?_
            refine Gx_name (fun vT3 eT3 => ?_)
            have hFT3 : ∀ a j, ¬ (a = 14 ∧ j = n0) → vT3 a j = vC a j := by
              intro a j hn
              rw [eT3]
              simp (disch := omega) only [gUp_ne2, gUp_eq2]
            have hyT3 : vT3 14 n0 = xC := by
              rw [eT3]
              simp (disch := omega) only [gUp_ne2, gUp_eq2, hxC, hqC]
            have hqT3 : vT3 0 18 = qC := by
              rw [eT3]
              simp (disch := omega) only [gUp_ne2, gUp_eq2, hxC, hqC]
            have hTT3 : aTx vT3 (gHd K) b n := aTx_fr hTC (hFT3 0 17 (by omega)) (fun k => hFT3 _ k (by have := hTC.2.1; omega))
            refine Gx_aload_n (i := 0) dX0_readsEaters_92 rfl rfl ?_
            refine Gx_bipush dX0_readsEaters_93 ⟨by decide, by decide⟩ ?_
            refine cl_X0_199 dX0_readsEaters_95 rfl rfl ⟨(Nat.le_of_ble_eq_true rfl), (Nat.le_of_ble_eq_true rfl)⟩ rfl ?_
            refine ct_X0_reads (q0 := qC) hTT3 hqT3 (by omega) (by omega) (fun vG4 cG4 hFG4 hqG4 hTG4 => ?_) (fun vG4 cG4 hFG4 hqG4 hTG4 => ?_)
            · refine Gx_if_eq (tgt := 112) dX0_readsEaters_98 (by decide) (fun hz => absurd hz (by decide)) (fun _ => ?_)
              refine Gx_aload_n (i := 0) dX0_readsEaters_101 rfl rfl ?_
              refine Gx_iconst ⟨by decide, by decide⟩ dX0_readsEaters_102 ?_
              refine Gx_iconst ⟨by decide, by decide⟩ dX0_readsEaters_103 ?_
              refine Gx_bipush dX0_readsEaters_104 ⟨by decide, by decide⟩ ?_
              refine cl_X0_180 dX0_readsEaters_106 rfl rfl ⟨(Nat.le_of_ble_eq_true rfl), (Nat.le_of_ble_eq_true rfl)⟩ rfl ?_
              refine ct_X0_readsNumber (q0 := (qC + 1)) (f := 1) hTG4 hqG4 (by omega) rfl (by omega) (fun qD xD vD cD bD hFD hqD hxD hTD => ?_) (fun qD xD vD hzD cD bD hFD hqD hxD hTD => ?_)
              · refine Gx_if_ne (tgt := 114) dX0_readsEaters_109 (by decide) (fun _ => ?_) (fun hz => absurd hz (by decide))
                refine Gx_aload_n (i := 0) dX0_readsEaters_114 rfl rfl ?_
                refine gf_X0_74_20 dX0_readsEaters_115 rfl rfl ?_
                refine Gx_iload_n (i := 1) dX0_readsEaters_118 rfl rfl ?_
                refine Gx_aload_n (i := 0) dX0_readsEaters_119 rfl rfl ?_
                refine gf_X0_177_20 dX0_readsEaters_120 rfl rfl ?_
                refine Gx_iastore dX0_readsEaters_123 rfl (by first | omega | (simp (disch := omega) only [w32_id]; omega)) ?_
                refine Gx_name (fun vT4 eT4 => ?_)
                have hFT4 : ∀ a j, ¬ (a = 15 ∧ j = n0) → vT4 a j = vD a j := by
                  intro a j hn
                  rw [eT4]
                  simp (disch := omega) only [gUp_ne2, gUp_eq2]
                have hyT4 : vT4 15 n0 = xD := by
                  rw [eT4]
                  simp (disch := omega) only [gUp_ne2, gUp_eq2, hxD, hqD]
                have hqT4 : vT4 0 18 = qD := by
                  rw [eT4]
                  simp (disch := omega) only [gUp_ne2, gUp_eq2, hxD, hqD]
                have hTT4 : aTx vT4 (gHd K) b n := aTx_fr hTD (hFT4 0 17 (by omega)) (fun k => hFT4 _ k (by have := hTD.2.1; omega))
                have hnT : vT4 0 26 = n0 := by simp (disch := omega) only [hFT4, hFD, hFG4, hFT3, hFC, hFG3, hFT2, hFB, hFG2, hFT1, hFA, hn]
                refine Gx_aload_n (i := 0) dX0_readsEaters_124 rfl rfl ?_
                refine Gx_dup (Nat.ne_of_beq_eq_false rfl) dX0_readsEaters_125 ?_
                refine gf_X0_223_20 dX0_readsEaters_126 rfl rfl ?_
                rw [hnT]
                refine Gx_iconst ⟨by decide, by decide⟩ dX0_readsEaters_129 ?_
                refine Gx_iadd dX0_readsEaters_130 ?_
                try simp (disch := omega) only [w32_id]
                refine pf_X0_223_20 dX0_readsEaters_131 rfl rfl ?_
                refine Gx_iconst ⟨by decide, by decide⟩ dX0_readsEaters_134 ?_
                refine Gx_ireturn dX0_readsEaters_135 (Or.inr rfl) ?_
                first
                  | (refine k1 qD xA xB xC xD _ ?_ ?_ ?_ ?_ ?_ ?_ ?_ ?_
                     · simp [pEater, Bind.bind, Except.bind, Pure.pure, Except.pure, *]; done
                     · intro a j hn; simp (disch := omega) only [gUp_ne2, gUp_eq2, hFA, hqA, hxA, hFG2, hqG2, hFB, hqB, hxB, hFG3, hqG3, hFC, hqC, hxC, hFG4, hqG4, hFD, hqD, hxD, hFT4, hFT3, hFT2, hFT1]; done
                     · rw [gUp_ne2 (by omega)]; exact hqT4
                     · rw [gUp_eq2 rfl rfl]
                     · simp (disch := omega) only [gUp_ne2, gUp_eq2, hFA, hqA, hxA, hFG2, hqG2, hFB, hqB, hxB, hFG3, hqG3, hFC, hqC, hxC, hFG4, hqG4, hFD, hqD, hxD, hFT4, hFT3, hFT2, hyT1]; done
                     · simp (disch := omega) only [gUp_ne2, gUp_eq2, hFA, hqA, hxA, hFG2, hqG2, hFB, hqB, hxB, hFG3, hqG3, hFC, hqC, hxC, hFG4, hqG4, hFD, hqD, hxD, hFT4, hFT3, hyT2]; done
                     · simp (disch := omega) only [gUp_ne2, gUp_eq2, hFA, hqA, hxA, hFG2, hqG2, hFB, hqB, hxB, hFG3, hqG3, hFC, hqC, hxC, hFG4, hqG4, hFD, hqD, hxD, hFT4, hyT3]; done
                     · simp (disch := omega) only [gUp_ne2, gUp_eq2, hFA, hqA, hxA, hFG2, hqG2, hFB, hqB, hxB, hFG3, hqG3, hFC, hqC, hxC, hFG4, hqG4, hFD, hqD, hxD, hyT4]; done)
              · refine Gx_if_ne (tgt := 114) dX0_readsEaters_109 (by decide) (fun hz => absurd hz (by decide)) (fun _ => ?_)
                refine Gx_iconst ⟨by decide, by decide⟩ dX0_readsEaters_112 ?_
                refine Gx_ireturn dX0_readsEaters_113 (Or.inl rfl) ?_
                first
                  | (refine k0 qD _ ?_ ?_ ?_ ?_
                     · simp [pEater, Bind.bind, Except.bind, Pure.pure, Except.pure, *]; done
                     · intro a j hn; simp (disch := omega) only [gUp_ne2, gUp_eq2, hFA, hqA, hxA, hFG2, hqG2, hFB, hqB, hxB, hFG3, hqG3, hFC, hqC, hxC, hFG4, hqG4, hFD, hqD, hxD, hFT3, hFT2, hFT1]; done
                     · exact hqD
                     · simp (disch := omega) only [gUp_ne2, gUp_eq2, hFA, hqA, hxA, hFG2, hqG2, hFB, hqB, hxB, hFG3, hqG3, hFC, hqC, hxC, hFG4, hqG4, hFD, hqD, hxD, hFT3, hFT2, hFT1, hn]; done)
                  | (refine k0 qC _ ?_ ?_ ?_ ?_
                     · simp [pEater, Bind.bind, Except.bind, Pure.pure, Except.pure, *]; done
                     · intro a j hn; simp (disch := omega) only [gUp_ne2, gUp_eq2, hFA, hqA, hxA, hFG2, hqG2, hFB, hqB, hxB, hFG3, hqG3, hFC, hqC, hxC, hFG4, hqG4, hFD, hqD, hxD, hFT3, hFT2, hFT1]; done
                     · exact hqG4
                     · simp (disch := omega) only [gUp_ne2, gUp_eq2, hFA, hqA, hxA, hFG2, hqG2, hFB, hqB, hxB, hFG3, hqG3, hFC, hqC, hxC, hFG4, hqG4, hFD, hqD, hxD, hFT3, hFT2, hFT1, hn]; done)
            · refine Gx_if_eq (tgt := 112) dX0_readsEaters_98 (by decide) (fun _ => ?_) (fun hz => absurd hz (by decide))
              refine Gx_iconst ⟨by decide, by decide⟩ dX0_readsEaters_112 ?_
              refine Gx_ireturn dX0_readsEaters_113 (Or.inl rfl) ?_
              first
                | (refine k0 qD _ ?_ ?_ ?_ ?_
                   · simp [pEater, Bind.bind, Except.bind, Pure.pure, Except.pure, *]; done
                   · intro a j hn; simp (disch := omega) only [gUp_ne2, gUp_eq2, hFA, hqA, hxA, hFG2, hqG2, hFB, hqB, hxB, hFG3, hqG3, hFC, hqC, hxC, hFG4, hqG4, hFT3, hFT2, hFT1]; done
                   · exact hqD
                   · simp (disch := omega) only [gUp_ne2, gUp_eq2, hFA, hqA, hxA, hFG2, hqG2, hFB, hqB, hxB, hFG3, hqG3, hFC, hqC, hxC, hFG4, hqG4, hFT3, hFT2, hFT1, hn]; done)
                | (refine k0 qC _ ?_ ?_ ?_ ?_
                   · simp [pEater, Bind.bind, Except.bind, Pure.pure, Except.pure, *]; done
                   · intro a j hn; simp (disch := omega) only [gUp_ne2, gUp_eq2, hFA, hqA, hxA, hFG2, hqG2, hFB, hqB, hxB, hFG3, hqG3, hFC, hqC, hxC, hFG4, hqG4, hFT3, hFT2, hFT1]; done
                   · exact hqG4
                   · simp (disch := omega) only [gUp_ne2, gUp_eq2, hFA, hqA, hxA, hFG2, hqG2, hFB, hqB, hxB, hFG3, hqG3, hFC, hqC, hxC, hFG4, hqG4, hFT3, hFT2, hFT1, hn]; done)
          · refine Gx_if_ne (tgt := 82) dX0_readsEaters_77 (by decide) (fun hz => absurd hz (by decide)) (fun _ => ?_)
            refine Gx_iconst ⟨by decide, by decide⟩ dX0_readsEaters_80 ?_
            refine Gx_ireturn dX0_readsEaters_81 (Or.inl rfl) ?_
            first
              | (refine k0 qC _ ?_ ?_ ?_ ?_
                 · simp [pEater, Bind.bind, Except.bind, Pure.pure, Except.pure, *]; done
                 · intro a j hn; simp (disch := omega) only [gUp_ne2, gUp_eq2, hFA, hqA, hxA, hFG2, hqG2, hFB, hqB, hxB, hFG3, hqG3, hFC, hqC, hxC, hFT2, hFT1]; done
                 · exact hqC
                 · simp (disch := omega) only [gUp_ne2, gUp_eq2, hFA, hqA, hxA, hFG2, hqG2, hFB, hqB, hxB, hFG3, hqG3, hFC, hqC, hxC, hFT2, hFT1, hn]; done)
              | (refine k0 qB _ ?_ ?_ ?_ ?_
                 · simp [pEater, Bind.bind, Except.bind, Pure.pure, Except.pure, *]; done
                 · intro a j hn; simp (disch := omega) only [gUp_ne2, gUp_eq2, hFA, hqA, hxA, hFG2, hqG2, hFB, hqB, hxB, hFG3, hqG3, hFC, hqC, hxC, hFT2, hFT1]; done
                 · exact hqG3
                 · simp (disch := omega) only [gUp_ne2, gUp_eq2, hFA, hqA, hxA, hFG2, hqG2, hFB, hqB, hxB, hFG3, hqG3, hFC, hqC, hxC, hFT2, hFT1, hn]; done)
        · refine Gx_if_eq (tgt := 80) dX0_readsEaters_66 (by decide) (fun _ => ?_) (fun hz => absurd hz (by decide))
          refine Gx_iconst ⟨by decide, by decide⟩ dX0_readsEaters_80 ?_
          refine Gx_ireturn dX0_readsEaters_81 (Or.inl rfl) ?_
          first
            | (refine k0 qC _ ?_ ?_ ?_ ?_
               · simp [pEater, Bind.bind, Except.bind, Pure.pure, Except.pure, *]; done
               · intro a j hn; simp (disch := omega) only [gUp_ne2, gUp_eq2, hFA, hqA, hxA, hFG2, hqG2, hFB, hqB, hxB, hFG3, hqG3, hFT2, hFT1]; done
               · exact hqC
               · simp (disch := omega) only [gUp_ne2, gUp_eq2, hFA, hqA, hxA, hFG2, hqG2, hFB, hqB, hxB, hFG3, hqG3, hFT2, hFT1, hn]; done)
            | (refine k0 qB _ ?_ ?_ ?_ ?_
               · simp [pEater, Bind.bind, Except.bind, Pure.pure, Except.pure, *]; done
               · intro a j hn; simp (disch := omega) only [gUp_ne2, gUp_eq2, hFA, hqA, hxA, hFG2, hqG2, hFB, hqB, hxB, hFG3, hqG3, hFT2, hFT1]; done
               · exact hqG3
               · simp (disch := omega) only [gUp_ne2, gUp_eq2, hFA, hqA, hxA, hFG2, hqG2, hFB, hqB, hxB, hFG3, hqG3, hFT2, hFT1, hn]; done)
      · refine Gx_if_ne (tgt := 50) dX0_readsEaters_45 (by decide) (fun hz => absurd hz (by decide)) (fun _ => ?_)
        refine Gx_iconst ⟨by decide, by decide⟩ dX0_readsEaters_48 ?_
        refine Gx_ireturn dX0_readsEaters_49 (Or.inl rfl) ?_
        first
          | (refine k0 qB _ ?_ ?_ ?_ ?_
             · simp [pEater, Bind.bind, Except.bind, Pure.pure, Except.pure, *]; done
             · intro a j hn; simp (disch := omega) only [gUp_ne2, gUp_eq2, hFA, hqA, hxA, hFG2, hqG2, hFB, hqB, hxB, hFT1]; done
             · exact hqB
             · simp (disch := omega) only [gUp_ne2, gUp_eq2, hFA, hqA, hxA, hFG2, hqG2, hFB, hqB, hxB, hFT1, hn]; done)
          | (refine k0 qA _ ?_ ?_ ?_ ?_
             · simp [pEater, Bind.bind, Except.bind, Pure.pure, Except.pure, *]; done
             · intro a j hn; simp (disch := omega) only [gUp_ne2, gUp_eq2, hFA, hqA, hxA, hFG2, hqG2, hFB, hqB, hxB, hFT1]; done
             · exact hqG2
             · simp (disch := omega) only [gUp_ne2, gUp_eq2, hFA, hqA, hxA, hFG2, hqG2, hFB, hqB, hxB, hFT1, hn]; done)
    · refine Gx_if_eq (tgt := 48) dX0_readsEaters_34 (by decide) (fun _ => ?_) (fun hz => absurd hz (by decide))
      refine Gx_iconst ⟨by decide, by decide⟩ dX0_readsEaters_48 ?_
      refine Gx_ireturn dX0_readsEaters_49 (Or.inl rfl) ?_
      first
        | (refine k0 qB _ ?_ ?_ ?_ ?_
           · simp [pEater, Bind.bind, Except.bind, Pure.pure, Except.pure, *]; done
           · intro a j hn; simp (disch := omega) only [gUp_ne2, gUp_eq2, hFA, hqA, hxA, hFG2, hqG2, hFT1]; done
           · exact hqB
           · simp (disch := omega) only [gUp_ne2, gUp_eq2, hFA, hqA, hxA, hFG2, hqG2, hFT1, hn]; done)
        | (refine k0 qA _ ?_ ?_ ?_ ?_
           · simp [pEater, Bind.bind, Except.bind, Pure.pure, Except.pure, *]; done
           · intro a j hn; simp (disch := omega) only [gUp_ne2, gUp_eq2, hFA, hqA, hxA, hFG2, hqG2, hFT1]; done
           · exact hqG2
           · simp (disch := omega) only [gUp_ne2, gUp_eq2, hFA, hqA, hxA, hFG2, hqG2, hFT1, hn]; done)
  · refine Gx_if_ne (tgt := 18) dX0_readsEaters_13 (by decide) (fun hz => absurd hz (by decide)) (fun _ => ?_)
    refine Gx_iconst ⟨by decide, by decide⟩ dX0_readsEaters_16 ?_
    refine Gx_ireturn dX0_readsEaters_17 (Or.inl rfl) ?_
    first
      | (refine k0 qA _ ?_ ?_ ?_ ?_
         · simp [pEater, Bind.bind, Except.bind, Pure.pure, Except.pure, *]; done
         · intro a j hn; simp (disch := omega) only [gUp_ne2, gUp_eq2, hFA, hqA, hxA]; done
         · exact hqA
         · simp (disch := omega) only [gUp_ne2, gUp_eq2, hFA, hqA, hxA, hn]; done)
set_option maxHeartbeats 4000000 in
theorem ct_X0_readsChances {b : pB} {n q0 : Int} (hT : aTx v (gHd K) b n) (hq : v 0 18 = q0) (hp : 0 ≤ q0 ∧ q0 ≤ 400) (k1 : ∀ q x0 x1 x2 v1, pChan b q0 = .ok (q, x0, x1, x2) → (∀ a j, ¬ ((a = 0 ∧ (j = 18 ∨ j = 19)) ∨ (a = 11 ∧ 0 ≤ j ∧ j ≤ 2)) → v1 a j = v a j) → v1 0 18 = q → v1 11 0 = x0 → v1 11 1 = x1 → v1 11 2 = x2 → Q (0, 1) v1 (gHd K) t) (k0 : ∀ q v1, pChan b q0 = .error q → (∀ a j, ¬ ((a = 0 ∧ (j = 18 ∨ j = 19)) ∨ (a = 11 ∧ 0 ≤ j ∧ j ≤ 2)) → v1 a j = v a j) → v1 0 18 = q → Q (0, 0) v1 (gHd K) t) : Ctr Γ mX0_readsChances [(2, 0)] v (gHd K) t Q := by
  refine Ctr.ofG (ls := [(2, 0), (9, 0), (9, 0)]) rfl rfl rfl rfl rfl ?_
  refine Gx_iconst ⟨by decide, by decide⟩ dX0_readsChances_0 ?_
  refine Gx_istore_n_1 dX0_readsChances_1 (Nat.le_of_ble_eq_true rfl) (Nat.ne_of_beq_eq_false rfl) ?_
  refine Gx_iconst ⟨by decide, by decide⟩ dX0_readsChances_2 ?_
  refine Gx_istore_n_2 dX0_readsChances_3 (Nat.le_of_ble_eq_true rfl) (Nat.ne_of_beq_eq_false rfl) ?_
  refine Gx_iload_n (i := 2) dX0_readsChances_4 rfl rfl ?_
  refine Gx_iconst ⟨by decide, by decide⟩ dX0_readsChances_5 ?_
  refine Gx_icmp_ge (tgt := 58) dX0_readsChances_6 (by decide) (fun hz => absurd hz (by decide)) (fun _ => ?_)
  refine Gx_iload_n (i := 2) dX0_readsChances_9 rfl rfl ?_
  refine Gx_if_le (tgt := 22) dX0_readsChances_10 (by decide) (fun _ => ?_) (fun hz => absurd hz (by decide))
  refine Gx_aload_n (i := 0) dX0_readsChances_22 rfl rfl ?_
  refine Gx_iconst ⟨by decide, by decide⟩ dX0_readsChances_23 ?_
  refine Gx_iconst ⟨by decide, by decide⟩ dX0_readsChances_24 ?_
  refine Gx_bipush dX0_readsChances_25 ⟨by decide, by decide⟩ ?_
  refine cl_X0_180 dX0_readsChances_27 rfl rfl ⟨(Nat.le_of_ble_eq_true rfl), (Nat.le_of_ble_eq_true rfl)⟩ rfl ?_
  refine ct_X0_readsNumber (q0 := q0) (f := 2) hT hq (by omega) rfl (by omega) (fun qA xA vA cA bA hFA hqA hxA hTA => ?_) (fun qA xA vA hzA cA bA hFA hqA hxA hTA => ?_)
  · refine Gx_if_ne (tgt := 35) dX0_readsChances_30 (by decide) (fun _ => ?_) (fun hz => absurd hz (by decide))
    refine Gx_aload_n (i := 0) dX0_readsChances_35 rfl rfl ?_
    refine gf_X0_62_20 dX0_readsChances_36 rfl rfl ?_
    refine Gx_iload_n (i := 2) dX0_readsChances_39 rfl rfl ?_
    refine Gx_aload_n (i := 0) dX0_readsChances_40 rfl rfl ?_
    refine gf_X0_177_20 dX0_readsChances_41 rfl rfl ?_
    refine Gx_iastore dX0_readsChances_44 rfl (by first | omega | (simp (disch := omega) only [w32_id]; omega)) ?_
    refine Gx_iload_n (i := 1) dX0_readsChances_45 rfl rfl ?_
    refine Gx_aload_n (i := 0) dX0_readsChances_46 rfl rfl ?_
    refine gf_X0_177_20 dX0_readsChances_47 rfl rfl ?_
    rw [show gUp vA 11 0 (vA 0 19) 0 19 = xA from hxA]
    refine Gx_iadd dX0_readsChances_50 ?_
    try simp (disch := omega) only [w32_id]
    refine Gx_istore_n_1 dX0_readsChances_51 (Nat.le_of_ble_eq_true rfl) (Nat.ne_of_beq_eq_false rfl) ?_
    refine Gx_iinc_2 dX0_readsChances_52 (Nat.le_of_ble_eq_true rfl) (Nat.ne_of_beq_eq_false rfl) ?_
    rw [show w32 (0 + 1) = (1 : Int) from by decide]
    refine Gx_goto (tgt := 4) dX0_readsChances_55 (by decide) ?_
    refine Gx_name (fun vT1 eT1 => ?_)
    have hFT1 : ∀ a j, ¬ (a = 11 ∧ j = 0) → vT1 a j = vA a j := by
      intro a j hn
      rw [eT1]
      simp (disch := omega) only [gUp_ne2, gUp_eq2]
    have hyT1 : vT1 11 0 = xA := by
      rw [eT1]
      simp (disch := omega) only [gUp_ne2, gUp_eq2, hxA, hqA]
    have hqT1 : vT1 0 18 = qA := by
      rw [eT1]
      simp (disch := omega) only [gUp_ne2, gUp_eq2, hxA, hqA]
    have hTT1 : aTx vT1 (gHd K) b n := aTx_fr hTA (hFT1 0 17 (by omega)) (fun k => hFT1 _ k (by have := hTA.2.1; omega))
    refine Gx_iload_n (i := 2) dX0_readsChances_4 rfl rfl ?_
    refine Gx_iconst ⟨by decide, by decide⟩ dX0_readsChances_5 ?_
    refine Gx_icmp_ge (tgt := 58) dX0_readsChances_6 (by decide) (fun hz => absurd hz (by decide)) (fun _ => ?_)
    refine Gx_iload_n (i := 2) dX0_readsChances_9 rfl rfl ?_
    refine Gx_if_le (tgt := 22) dX0_readsChances_10 (by decide) (fun hz => absurd hz (by decide)) (fun _ => ?_)
    refine Gx_aload_n (i := 0) dX0_readsChances_13 rfl rfl ?_
    refine Gx_bipush dX0_readsChances_14 ⟨by decide, by decide⟩ ?_
    refine cl_X0_199 dX0_readsChances_16 rfl rfl ⟨(Nat.le_of_ble_eq_true rfl), (Nat.le_of_ble_eq_true rfl)⟩ rfl ?_
    refine ct_X0_reads (q0 := qA) hTT1 hqT1 (by omega) (by omega) (fun vG2 cG2 hFG2 hqG2 hTG2 => ?_) (fun vG2 cG2 hFG2 hqG2 hTG2 => ?_)
    · refine Gx_if_eq (tgt := 33) dX0_readsChances_19 (by decide) (fun hz => absurd hz (by decide)) (fun _ => ?_)
      refine Gx_aload_n (i := 0) dX0_readsChances_22 rfl rfl ?_
      refine Gx_iconst ⟨by decide, by decide⟩ dX0_readsChances_23 ?_
      refine Gx_iconst ⟨by decide, by decide⟩ dX0_readsChances_24 ?_
      refine Gx_bipush dX0_readsChances_25 ⟨by decide, by decide⟩ ?_
      refine cl_X0_180 dX0_readsChances_27 rfl rfl ⟨(Nat.le_of_ble_eq_true rfl), (Nat.le_of_ble_eq_true rfl)⟩ rfl ?_
      refine ct_X0_readsNumber (q0 := (qA + 1)) (f := 2) hTG2 hqG2 (by omega) rfl (by omega) (fun qB xB vB cB bB hFB hqB hxB hTB => ?_) (fun qB xB vB hzB cB bB hFB hqB hxB hTB => ?_)
      · refine Gx_if_ne (tgt := 35) dX0_readsChances_30 (by decide) (fun _ => ?_) (fun hz => absurd hz (by decide))
        refine Gx_aload_n (i := 0) dX0_readsChances_35 rfl rfl ?_
        refine gf_X0_62_20 dX0_readsChances_36 rfl rfl ?_
        refine Gx_iload_n (i := 2) dX0_readsChances_39 rfl rfl ?_
        refine Gx_aload_n (i := 0) dX0_readsChances_40 rfl rfl ?_
        refine gf_X0_177_20 dX0_readsChances_41 rfl rfl ?_
        refine Gx_iastore dX0_readsChances_44 rfl (by first | omega | (simp (disch := omega) only [w32_id]; omega)) ?_
        refine Gx_iload_n (i := 1) dX0_readsChances_45 rfl rfl ?_
        refine Gx_aload_n (i := 0) dX0_readsChances_46 rfl rfl ?_
        refine gf_X0_177_20 dX0_readsChances_47 rfl rfl ?_
        rw [show gUp vB 11 1 (vB 0 19) 0 19 = xB from hxB]
        refine Gx_iadd dX0_readsChances_50 ?_
        try simp (disch := omega) only [w32_id]
        refine Gx_istore_n_1 dX0_readsChances_51 (Nat.le_of_ble_eq_true rfl) (Nat.ne_of_beq_eq_false rfl) ?_
        refine Gx_iinc_2 dX0_readsChances_52 (Nat.le_of_ble_eq_true rfl) (Nat.ne_of_beq_eq_false rfl) ?_
        rw [show w32 (1 + 1) = (2 : Int) from by decide]
        refine Gx_goto (tgt := 4) dX0_readsChances_55 (by decide) ?_
        refine Gx_name (fun vT2 eT2 => ?_)
        have hFT2 : ∀ a j, ¬ (a = 11 ∧ j = 1) → vT2 a j = vB a j := by
          intro a j hn
          rw [eT2]
          simp (disch := omega) only [gUp_ne2, gUp_eq2]
        have hyT2 : vT2 11 1 = xB := by
          rw [eT2]
          simp (disch := omega) only [gUp_ne2, gUp_eq2, hxB, hqB]
        have hqT2 : vT2 0 18 = qB := by
          rw [eT2]
          simp (disch := omega) only [gUp_ne2, gUp_eq2, hxB, hqB]
        have hTT2 : aTx vT2 (gHd K) b n := aTx_fr hTB (hFT2 0 17 (by omega)) (fun k => hFT2 _ k (by have := hTB.2.1; omega))
        refine Gx_iload_n (i := 2) dX0_readsChances_4 rfl rfl ?_
        refine Gx_iconst ⟨by decide, by decide⟩ dX0_readsChances_5 ?_
        refine Gx_icmp_ge (tgt := 58) dX0_readsChances_6 (by decide) (fun hz => absurd hz (by decide)) (fun _ => ?_)
        refine Gx_iload_n (i := 2) dX0_readsChances_9 rfl rfl ?_
        refine Gx_if_le (tgt := 22) dX0_readsChances_10 (by decide) (fun hz => absurd hz (by decide)) (fun _ => ?_)
        refine Gx_aload_n (i := 0) dX0_readsChances_13 rfl rfl ?_
        refine Gx_bipush dX0_readsChances_14 ⟨by decide, by decide⟩ ?_
        refine cl_X0_199 dX0_readsChances_16 rfl rfl ⟨(Nat.le_of_ble_eq_true rfl), (Nat.le_of_ble_eq_true rfl)⟩ rfl ?_
        refine ct_X0_reads (q0 := qB) hTT2 hqT2 (by omega) (by omega) (fun vG3 cG3 hFG3 hqG3 hTG3 => ?_) (fun vG3 cG3 hFG3 hqG3 hTG3 => ?_)
        · refine Gx_if_eq (tgt := 33) dX0_readsChances_19 (by decide) (fun hz => absurd hz (by decide)) (fun _ => ?_)
          refine Gx_aload_n (i := 0) dX0_readsChances_22 rfl rfl ?_
          refine Gx_iconst ⟨by decide, by decide⟩ dX0_readsChances_23 ?_
          refine Gx_iconst ⟨by decide, by decide⟩ dX0_readsChances_24 ?_
          refine Gx_bipush dX0_readsChances_25 ⟨by decide, by decide⟩ ?_
          refine cl_X0_180 dX0_readsChances_27 rfl rfl ⟨(Nat.le_of_ble_eq_true rfl), (Nat.le_of_ble_eq_true rfl)⟩ rfl ?_
          refine ct_X0_readsNumber (q0 := (qB + 1)) (f := 2) hTG3 hqG3 (by omega) rfl (by omega) (fun qC xC vC cC bC hFC hqC hxC hTC => ?_) (fun qC xC vC hzC cC bC hFC hqC hxC hTC => ?_)
          · refine Gx_if_ne (tgt := 35) dX0_readsChances_30 (by decide) (fun _ => ?_) (fun hz => absurd hz (by decide))
            refine Gx_aload_n (i := 0) dX0_readsChances_35 rfl rfl ?_
            refine gf_X0_62_20 dX0_readsChances_36 rfl rfl ?_
            refine Gx_iload_n (i := 2) dX0_readsChances_39 rfl rfl ?_
            refine Gx_aload_n (i := 0) dX0_readsChances_40 rfl rfl ?_
            refine gf_X0_177_20 dX0_readsChances_41 rfl rfl ?_
            refine Gx_iastore dX0_readsChances_44 rfl (by first | omega | (simp (disch := omega) only [w32_id]; omega)) ?_
            refine Gx_iload_n (i := 1) dX0_readsChances_45 rfl rfl ?_
            refine Gx_aload_n (i := 0) dX0_readsChances_46 rfl rfl ?_
            refine gf_X0_177_20 dX0_readsChances_47 rfl rfl ?_
            rw [show gUp vC 11 2 (vC 0 19) 0 19 = xC from hxC]
            refine Gx_iadd dX0_readsChances_50 ?_
            try simp (disch := omega) only [w32_id]
            refine Gx_istore_n_1 dX0_readsChances_51 (Nat.le_of_ble_eq_true rfl) (Nat.ne_of_beq_eq_false rfl) ?_
            refine Gx_iinc_2 dX0_readsChances_52 (Nat.le_of_ble_eq_true rfl) (Nat.ne_of_beq_eq_false rfl) ?_
            rw [show w32 (2 + 1) = (3 : Int) from by decide]
            refine Gx_goto (tgt := 4) dX0_readsChances_55 (by decide) ?_
            refine Gx_name (fun vT3 eT3 => ?_)
            have hFT3 : ∀ a j, ¬ (a = 11 ∧ j = 2) → vT3 a j = vC a j := by
              intro a j hn
              rw [eT3]
              simp (disch := omega) only [gUp_ne2, gUp_eq2]
            have hyT3 : vT3 11 2 = xC := by
              rw [eT3]
              simp (disch := omega) only [gUp_ne2, gUp_eq2, hxC, hqC]
            have hqT3 : vT3 0 18 = qC := by
              rw [eT3]
              simp (disch := omega) only [gUp_ne2, gUp_eq2, hxC, hqC]
            have hTT3 : aTx vT3 (gHd K) b n := aTx_fr hTC (hFT3 0 17 (by omega)) (fun k => hFT3 _ k (by have := hTC.2.1; omega))
            refine Gx_iload_n (i := 2) dX0_readsChances_4 rfl rfl ?_
            refine Gx_iconst ⟨by decide, by decide⟩ dX0_readsChances_5 ?_
            refine Gx_icmp_ge (tgt := 58) dX0_readsChances_6 (by decide) (fun _ => ?_) (fun hz => absurd hz (by decide))
            refine Gx_iload_n (i := 1) dX0_readsChances_58 rfl rfl ?_
            refine Gx_bipush dX0_readsChances_59 ⟨by decide, by decide⟩ ?_
            refine Gx_icmp_ne (tgt := 68) dX0_readsChances_61 (by decide) (fun c61 => ?_) (fun c61 => ?_)
            · refine Gx_iconst ⟨by decide, by decide⟩ dX0_readsChances_68 ?_
              refine Gx_ireturn dX0_readsChances_69 (Or.inl rfl) ?_
              first
                | (refine k1 qC xA xB xC _ ?_ ?_ ?_ ?_ ?_ ?_
                   · have h12 : xA + xB + xC = 12 := by omega
                     simp [pChan, Bind.bind, Except.bind, Pure.pure, Except.pure, *]; done
                   · intro a j hn; simp (disch := omega) only [gUp_ne2, gUp_eq2, hFA, hqA, hxA, hFG2, hqG2, hFB, hqB, hxB, hFG3, hqG3, hFC, hqC, hxC, hFT3, hFT2, hFT1]; done
                   · exact hqT3
                   · simp (disch := omega) only [gUp_ne2, gUp_eq2, hFA, hqA, hxA, hFG2, hqG2, hFB, hqB, hxB, hFG3, hqG3, hFC, hqC, hxC, hFT3, hFT2, hFT1, hyT1]; done
                   · simp (disch := omega) only [gUp_ne2, gUp_eq2, hFA, hqA, hxA, hFG2, hqG2, hFB, hqB, hxB, hFG3, hqG3, hFC, hqC, hxC, hFT3, hFT2, hFT1, hyT2]; done
                   · simp (disch := omega) only [gUp_ne2, gUp_eq2, hFA, hqA, hxA, hFG2, hqG2, hFB, hqB, hxB, hFG3, hqG3, hFC, hqC, hxC, hFT3, hFT2, hFT1, hyT3]; done)
                | (refine k0 qC _ ?_ ?_ ?_
                   · have h12 : ¬ (xA + xB + xC = 12) := by omega
                     simp [pChan, Bind.bind, Except.bind, Pure.pure, Except.pure, *]; done
                   · intro a j hn; simp (disch := omega) only [gUp_ne2, gUp_eq2, hFA, hqA, hxA, hFG2, hqG2, hFB, hqB, hxB, hFG3, hqG3, hFC, hqC, hxC, hFT3, hFT2, hFT1]; done
                   · exact hqT3)
            · refine Gx_iconst ⟨by decide, by decide⟩ dX0_readsChances_64 ?_
              refine Gx_goto (tgt := 69) dX0_readsChances_65 (by decide) ?_
              refine Gx_ireturn dX0_readsChances_69 (Or.inr rfl) ?_
              first
                | (refine k1 qC xA xB xC _ ?_ ?_ ?_ ?_ ?_ ?_
                   · have h12 : xA + xB + xC = 12 := by omega
                     simp [pChan, Bind.bind, Except.bind, Pure.pure, Except.pure, *]; done
                   · intro a j hn; simp (disch := omega) only [gUp_ne2, gUp_eq2, hFA, hqA, hxA, hFG2, hqG2, hFB, hqB, hxB, hFG3, hqG3, hFC, hqC, hxC, hFT3, hFT2, hFT1]; done
                   · exact hqT3
                   · simp (disch := omega) only [gUp_ne2, gUp_eq2, hFA, hqA, hxA, hFG2, hqG2, hFB, hqB, hxB, hFG3, hqG3, hFC, hqC, hxC, hFT3, hFT2, hFT1, hyT1]; done
                   · simp (disch := omega) only [gUp_ne2, gUp_eq2, hFA, hqA, hxA, hFG2, hqG2, hFB, hqB, hxB, hFG3, hqG3, hFC, hqC, hxC, hFT3, hFT2, hFT1, hyT2]; done
                   · simp (disch := omega) only [gUp_ne2, gUp_eq2, hFA, hqA, hxA, hFG2, hqG2, hFB, hqB, hxB, hFG3, hqG3, hFC, hqC, hxC, hFT3, hFT2, hFT1, hyT3]; done)
                | (refine k0 qC _ ?_ ?_ ?_
                   · have h12 : ¬ (xA + xB + xC = 12) := by omega
                     simp [pChan, Bind.bind, Except.bind, Pure.pure, Except.pure, *]; done
                   · intro a j hn; simp (disch := omega) only [gUp_ne2, gUp_eq2, hFA, hqA, hxA, hFG2, hqG2, hFB, hqB, hxB, hFG3, hqG3, hFC, hqC, hxC, hFT3, hFT2, hFT1]; done
                   · exact hqT3)
          · refine Gx_if_ne (tgt := 35) dX0_readsChances_30 (by decide) (fun hz => absurd hz (by decide)) (fun _ => ?_)
            refine Gx_iconst ⟨by decide, by decide⟩ dX0_readsChances_33 ?_
            refine Gx_ireturn dX0_readsChances_34 (Or.inl rfl) ?_
            first
              | (refine k0 qC _ ?_ ?_ ?_
                 · simp [pChan, Bind.bind, Except.bind, Pure.pure, Except.pure, *]; done
                 · intro a j hn; simp (disch := omega) only [gUp_ne2, gUp_eq2, hFA, hqA, hxA, hFG2, hqG2, hFB, hqB, hxB, hFG3, hqG3, hFC, hqC, hxC, hFT2, hFT1]; done
                 · exact hqC)
              | (refine k0 qB _ ?_ ?_ ?_
                 · simp [pChan, Bind.bind, Except.bind, Pure.pure, Except.pure, *]; done
                 · intro a j hn; simp (disch := omega) only [gUp_ne2, gUp_eq2, hFA, hqA, hxA, hFG2, hqG2, hFB, hqB, hxB, hFG3, hqG3, hFC, hqC, hxC, hFT2, hFT1]; done
                 · exact hqG3)
              | (refine k0 qB _ ?_ ?_ ?_
                 · simp [pChan, Bind.bind, Except.bind, Pure.pure, Except.pure, *]; done
                 · intro a j hn; simp (disch := omega) only [gUp_ne2, gUp_eq2, hFA, hqA, hxA, hFG2, hqG2, hFB, hqB, hxB, hFG3, hqG3, hFC, hqC, hxC, hFT1]; done
                 · exact hqB)
              | (refine k0 qA _ ?_ ?_ ?_
                 · simp [pChan, Bind.bind, Except.bind, Pure.pure, Except.pure, *]; done
                 · intro a j hn; simp (disch := omega) only [gUp_ne2, gUp_eq2, hFA, hqA, hxA, hFG2, hqG2, hFB, hqB, hxB, hFG3, hqG3, hFC, hqC, hxC, hFT1]; done
                 · exact hqG2)
              | (refine k0 qA _ ?_ ?_ ?_
                 · simp [pChan, Bind.bind, Except.bind, Pure.pure, Except.pure, *]; done
                 · intro a j hn; simp (disch := omega) only [gUp_ne2, gUp_eq2, hFA, hqA, hxA, hFG2, hqG2, hFB, hqB, hxB, hFG3, hqG3, hFC, hqC, hxC]; done
                 · exact hqA)
        · refine Gx_if_eq (tgt := 33) dX0_readsChances_19 (by decide) (fun _ => ?_) (fun hz => absurd hz (by decide))
          refine Gx_iconst ⟨by decide, by decide⟩ dX0_readsChances_33 ?_
          refine Gx_ireturn dX0_readsChances_34 (Or.inl rfl) ?_
          first
            | (refine k0 qC _ ?_ ?_ ?_
               · simp [pChan, Bind.bind, Except.bind, Pure.pure, Except.pure, *]; done
               · intro a j hn; simp (disch := omega) only [gUp_ne2, gUp_eq2, hFA, hqA, hxA, hFG2, hqG2, hFB, hqB, hxB, hFG3, hqG3, hFT2, hFT1]; done
               · exact hqC)
            | (refine k0 qB _ ?_ ?_ ?_
               · simp [pChan, Bind.bind, Except.bind, Pure.pure, Except.pure, *]; done
               · intro a j hn; simp (disch := omega) only [gUp_ne2, gUp_eq2, hFA, hqA, hxA, hFG2, hqG2, hFB, hqB, hxB, hFG3, hqG3, hFT2, hFT1]; done
               · exact hqG3)
            | (refine k0 qB _ ?_ ?_ ?_
               · simp [pChan, Bind.bind, Except.bind, Pure.pure, Except.pure, *]; done
               · intro a j hn; simp (disch := omega) only [gUp_ne2, gUp_eq2, hFA, hqA, hxA, hFG2, hqG2, hFB, hqB, hxB, hFG3, hqG3, hFT1]; done
               · exact hqB)
            | (refine k0 qA _ ?_ ?_ ?_
               · simp [pChan, Bind.bind, Except.bind, Pure.pure, Except.pure, *]; done
               · intro a j hn; simp (disch := omega) only [gUp_ne2, gUp_eq2, hFA, hqA, hxA, hFG2, hqG2, hFB, hqB, hxB, hFG3, hqG3, hFT1]; done
               · exact hqG2)
            | (refine k0 qA _ ?_ ?_ ?_
               · simp [pChan, Bind.bind, Except.bind, Pure.pure, Except.pure, *]; done
               · intro a j hn; simp (disch := omega) only [gUp_ne2, gUp_eq2, hFA, hqA, hxA, hFG2, hqG2, hFB, hqB, hxB, hFG3, hqG3]; done
               · exact hqA)
      · refine Gx_if_ne (tgt := 35) dX0_readsChances_30 (by decide) (fun hz => absurd hz (by decide)) (fun _ => ?_)
        refine Gx_iconst ⟨by decide, by decide⟩ dX0_readsChances_33 ?_
        refine Gx_ireturn dX0_readsChances_34 (Or.inl rfl) ?_
        first
          | (refine k0 qC _ ?_ ?_ ?_
             · simp [pChan, Bind.bind, Except.bind, Pure.pure, Except.pure, *]; done
             · intro a j hn; simp (disch := omega) only [gUp_ne2, gUp_eq2, hFA, hqA, hxA, hFG2, hqG2, hFB, hqB, hxB, hFT2, hFT1]; done
             · exact hqC)
          | (refine k0 qB _ ?_ ?_ ?_
             · simp [pChan, Bind.bind, Except.bind, Pure.pure, Except.pure, *]; done
             · intro a j hn; simp (disch := omega) only [gUp_ne2, gUp_eq2, hFA, hqA, hxA, hFG2, hqG2, hFB, hqB, hxB, hFT2, hFT1]; done
             · exact hqG3)
          | (refine k0 qB _ ?_ ?_ ?_
             · simp [pChan, Bind.bind, Except.bind, Pure.pure, Except.pure, *]; done
             · intro a j hn; simp (disch := omega) only [gUp_ne2, gUp_eq2, hFA, hqA, hxA, hFG2, hqG2, hFB, hqB, hxB, hFT1]; done
             · exact hqB)
          | (refine k0 qA _ ?_ ?_ ?_
             · simp [pChan, Bind.bind, Except.bind, Pure.pure, Except.pure, *]; done
             · intro a j hn; simp (disch := omega) only [gUp_ne2, gUp_eq2, hFA, hqA, hxA, hFG2, hqG2, hFB, hqB, hxB, hFT1]; done
             · exact hqG2)
          | (refine k0 qA _ ?_ ?_ ?_
             · simp [pChan, Bind.bind, Except.bind, Pure.pure, Except.pure, *]; done
             · intro a j hn; simp (disch := omega) only [gUp_ne2, gUp_eq2, hFA, hqA, hxA, hFG2, hqG2, hFB, hqB, hxB]; done
             · exact hqA)
    · refine Gx_if_eq (tgt := 33) dX0_readsChances_19 (by decide) (fun _ => ?_) (fun hz => absurd hz (by decide))
      refine Gx_iconst ⟨by decide, by decide⟩ dX0_readsChances_33 ?_
      refine Gx_ireturn dX0_readsChances_34 (Or.inl rfl) ?_
      first
        | (refine k0 qC _ ?_ ?_ ?_
           · simp [pChan, Bind.bind, Except.bind, Pure.pure, Except.pure, *]; done
           · intro a j hn; simp (disch := omega) only [gUp_ne2, gUp_eq2, hFA, hqA, hxA, hFG2, hqG2, hFT2, hFT1]; done
           · exact hqC)
        | (refine k0 qB _ ?_ ?_ ?_
           · simp [pChan, Bind.bind, Except.bind, Pure.pure, Except.pure, *]; done
           · intro a j hn; simp (disch := omega) only [gUp_ne2, gUp_eq2, hFA, hqA, hxA, hFG2, hqG2, hFT2, hFT1]; done
           · exact hqG3)
        | (refine k0 qB _ ?_ ?_ ?_
           · simp [pChan, Bind.bind, Except.bind, Pure.pure, Except.pure, *]; done
           · intro a j hn; simp (disch := omega) only [gUp_ne2, gUp_eq2, hFA, hqA, hxA, hFG2, hqG2, hFT1]; done
           · exact hqB)
        | (refine k0 qA _ ?_ ?_ ?_
           · simp [pChan, Bind.bind, Except.bind, Pure.pure, Except.pure, *]; done
           · intro a j hn; simp (disch := omega) only [gUp_ne2, gUp_eq2, hFA, hqA, hxA, hFG2, hqG2, hFT1]; done
           · exact hqG2)
        | (refine k0 qA _ ?_ ?_ ?_
           · simp [pChan, Bind.bind, Except.bind, Pure.pure, Except.pure, *]; done
           · intro a j hn; simp (disch := omega) only [gUp_ne2, gUp_eq2, hFA, hqA, hxA, hFG2, hqG2]; done
           · exact hqA)
  · refine Gx_if_ne (tgt := 35) dX0_readsChances_30 (by decide) (fun hz => absurd hz (by decide)) (fun _ => ?_)
    refine Gx_iconst ⟨by decide, by decide⟩ dX0_readsChances_33 ?_
    refine Gx_ireturn dX0_readsChances_34 (Or.inl rfl) ?_
    first
      | (refine k0 qC _ ?_ ?_ ?_
         · simp [pChan, Bind.bind, Except.bind, Pure.pure, Except.pure, *]; done
         · intro a j hn; simp (disch := omega) only [gUp_ne2, gUp_eq2, hFA, hqA, hxA, hFT2, hFT1]; done
         · exact hqC)
      | (refine k0 qB _ ?_ ?_ ?_
         · simp [pChan, Bind.bind, Except.bind, Pure.pure, Except.pure, *]; done
         · intro a j hn; simp (disch := omega) only [gUp_ne2, gUp_eq2, hFA, hqA, hxA, hFT2, hFT1]; done
         · exact hqG3)
      | (refine k0 qB _ ?_ ?_ ?_
         · simp [pChan, Bind.bind, Except.bind, Pure.pure, Except.pure, *]; done
         · intro a j hn; simp (disch := omega) only [gUp_ne2, gUp_eq2, hFA, hqA, hxA, hFT1]; done
         · exact hqB)
      | (refine k0 qA _ ?_ ?_ ?_
         · simp [pChan, Bind.bind, Except.bind, Pure.pure, Except.pure, *]; done
         · intro a j hn; simp (disch := omega) only [gUp_ne2, gUp_eq2, hFA, hqA, hxA, hFT1]; done
         · exact hqG2)
      | (refine k0 qA _ ?_ ?_ ?_
         · simp [pChan, Bind.bind, Except.bind, Pure.pure, Except.pure, *]; done
         · intro a j hn; simp (disch := omega) only [gUp_ne2, gUp_eq2, hFA, hqA, hxA]; done
         · exact hqA)
theorem ct_X0_isSortLetter {c : Int} (k1 : 0 < pKind c → Q (0, 1) v (gHd K) t) (k0 : pKind c = 0 → Q (0, 0) v (gHd K) t) : Ctr Γ mX0_isSortLetter [(0, c)] v (gHd K) t Q := by
  refine Ctr.ofG (ls := [(0, c)]) rfl rfl rfl rfl rfl ?_
  have hk : (pKind c = 0 ∧ c ≠ 84 ∧ c ≠ 86 ∧ c ≠ 87 ∧ c ≠ 78 ∧ c ≠ 79) ∨ (0 < pKind c ∧ (c = 84 ∨ c = 86 ∨ c = 87 ∨ c = 78 ∨ c = 79)) := by unfold pKind; omega
  refine Gx_iload_n (i := 0) dX0_isSortLetter_0 rfl rfl ?_
  refine Gx_bipush dX0_isSortLetter_1 ⟨by decide, by decide⟩ ?_
  refine Gx_icmp_eq (tgt := 30) dX0_isSortLetter_3 (by decide) (fun c3 => ?_) (fun c3 => ?_)
  · refine Gx_iconst ⟨by decide, by decide⟩ dX0_isSortLetter_30 ?_
    refine Gx_goto (tgt := 35) dX0_isSortLetter_31 (by decide) ?_
    refine Gx_ireturn dX0_isSortLetter_35 (Or.inr rfl) ?_
    first
    | exact k1 (by omega)
    | exact k0 (by omega)
  · refine Gx_iload_n (i := 0) dX0_isSortLetter_6 rfl rfl ?_
    refine Gx_bipush dX0_isSortLetter_7 ⟨by decide, by decide⟩ ?_
    refine Gx_icmp_eq (tgt := 30) dX0_isSortLetter_9 (by decide) (fun c9 => ?_) (fun c9 => ?_)
    · refine Gx_iconst ⟨by decide, by decide⟩ dX0_isSortLetter_30 ?_
      refine Gx_goto (tgt := 35) dX0_isSortLetter_31 (by decide) ?_
      refine Gx_ireturn dX0_isSortLetter_35 (Or.inr rfl) ?_
      first
      | exact k1 (by omega)
      | exact k0 (by omega)
    · refine Gx_iload_n (i := 0) dX0_isSortLetter_12 rfl rfl ?_
      refine Gx_bipush dX0_isSortLetter_13 ⟨by decide, by decide⟩ ?_
      refine Gx_icmp_eq (tgt := 30) dX0_isSortLetter_15 (by decide) (fun c15 => ?_) (fun c15 => ?_)
      · refine Gx_iconst ⟨by decide, by decide⟩ dX0_isSortLetter_30 ?_
        refine Gx_goto (tgt := 35) dX0_isSortLetter_31 (by decide) ?_
        refine Gx_ireturn dX0_isSortLetter_35 (Or.inr rfl) ?_
        first
        | exact k1 (by omega)
        | exact k0 (by omega)
      · refine Gx_iload_n (i := 0) dX0_isSortLetter_18 rfl rfl ?_
        refine Gx_bipush dX0_isSortLetter_19 ⟨by decide, by decide⟩ ?_
        refine Gx_icmp_eq (tgt := 30) dX0_isSortLetter_21 (by decide) (fun c21 => ?_) (fun c21 => ?_)
        · refine Gx_iconst ⟨by decide, by decide⟩ dX0_isSortLetter_30 ?_
          refine Gx_goto (tgt := 35) dX0_isSortLetter_31 (by decide) ?_
          refine Gx_ireturn dX0_isSortLetter_35 (Or.inr rfl) ?_
          first
          | exact k1 (by omega)
          | exact k0 (by omega)
        · refine Gx_iload_n (i := 0) dX0_isSortLetter_24 rfl rfl ?_
          refine Gx_bipush dX0_isSortLetter_25 ⟨by decide, by decide⟩ ?_
          refine Gx_icmp_ne (tgt := 34) dX0_isSortLetter_27 (by decide) (fun c27 => ?_) (fun c27 => ?_)
          · refine Gx_iconst ⟨by decide, by decide⟩ dX0_isSortLetter_34 ?_
            refine Gx_ireturn dX0_isSortLetter_35 (Or.inl rfl) ?_
            first
            | exact k1 (by omega)
            | exact k0 (by omega)
          · refine Gx_iconst ⟨by decide, by decide⟩ dX0_isSortLetter_30 ?_
            refine Gx_goto (tgt := 35) dX0_isSortLetter_31 (by decide) ?_
            refine Gx_ireturn dX0_isSortLetter_35 (Or.inr rfl) ?_
            first
            | exact k1 (by omega)
            | exact k0 (by omega)
theorem ct_X0_mayBegin {c : Int} (k1 : (0 < pKind c ∧ v 0 21 < 6) ∨ (c = 101 ∧ v 0 26 < 2) ∨ c = 106 ∨ c = 99 ∨ c = 109 → Q (0, 1) v (gHd K) t) (k0 : ¬ ((0 < pKind c ∧ v 0 21 < 6) ∨ (c = 101 ∧ v 0 26 < 2) ∨ c = 106 ∨ c = 99 ∨ c = 109) → Q (0, 0) v (gHd K) t) : Ctr Γ mX0_mayBegin [(2, 0), (0, c)] v (gHd K) t Q := by
  refine Ctr.ofG (ls := [(2, 0), (0, c)]) rfl rfl rfl rfl rfl ?_
  refine Gx_iload_n (i := 1) dX0_mayBegin_0 rfl rfl ?_
  refine cl_X0_251 dX0_mayBegin_1 rfl ⟨(Nat.le_of_ble_eq_true rfl), (Nat.le_of_ble_eq_true rfl)⟩ rfl ?_
  refine ct_X0_isSortLetter (fun hs => ?_) (fun hs => ?_)
  · refine Gx_if_eq (tgt := 16) dX0_mayBegin_4 (by decide) (fun hz => absurd hz (by decide)) (fun _ => ?_)
    refine Gx_aload_n (i := 0) dX0_mayBegin_7 rfl rfl ?_
    refine gf_X0_196_20 dX0_mayBegin_8 rfl rfl ?_
    refine Gx_bipush dX0_mayBegin_11 ⟨by decide, by decide⟩ ?_
    refine Gx_icmp_lt (tgt := 48) dX0_mayBegin_13 (by decide) (fun c13 => ?_) (fun c13 => ?_)
    · refine Gx_iconst ⟨by decide, by decide⟩ dX0_mayBegin_48 ?_
      refine Gx_goto (tgt := 53) dX0_mayBegin_49 (by decide) ?_
      refine Gx_ireturn dX0_mayBegin_53 (Or.inr rfl) ?_
      first
      | exact k1 (by omega)
      | exact k0 (by omega)
    · refine Gx_iload_n (i := 1) dX0_mayBegin_16 rfl rfl ?_
      refine Gx_bipush dX0_mayBegin_17 ⟨by decide, by decide⟩ ?_
      refine Gx_icmp_ne (tgt := 30) dX0_mayBegin_19 (by decide) (fun c19 => ?_) (fun c19 => ?_)
      · refine Gx_iload_n (i := 1) dX0_mayBegin_30 rfl rfl ?_
        refine Gx_bipush dX0_mayBegin_31 ⟨by decide, by decide⟩ ?_
        refine Gx_icmp_eq (tgt := 48) dX0_mayBegin_33 (by decide) (fun c33 => ?_) (fun c33 => ?_)
        · refine Gx_iconst ⟨by decide, by decide⟩ dX0_mayBegin_48 ?_
          refine Gx_goto (tgt := 53) dX0_mayBegin_49 (by decide) ?_
          refine Gx_ireturn dX0_mayBegin_53 (Or.inr rfl) ?_
          first
          | exact k1 (by omega)
          | exact k0 (by omega)
        · refine Gx_iload_n (i := 1) dX0_mayBegin_36 rfl rfl ?_
          refine Gx_bipush dX0_mayBegin_37 ⟨by decide, by decide⟩ ?_
          refine Gx_icmp_eq (tgt := 48) dX0_mayBegin_39 (by decide) (fun c39 => ?_) (fun c39 => ?_)
          · refine Gx_iconst ⟨by decide, by decide⟩ dX0_mayBegin_48 ?_
            refine Gx_goto (tgt := 53) dX0_mayBegin_49 (by decide) ?_
            refine Gx_ireturn dX0_mayBegin_53 (Or.inr rfl) ?_
            first
            | exact k1 (by omega)
            | exact k0 (by omega)
          · refine Gx_iload_n (i := 1) dX0_mayBegin_42 rfl rfl ?_
            refine Gx_bipush dX0_mayBegin_43 ⟨by decide, by decide⟩ ?_
            refine Gx_icmp_ne (tgt := 52) dX0_mayBegin_45 (by decide) (fun c45 => ?_) (fun c45 => ?_)
            · refine Gx_iconst ⟨by decide, by decide⟩ dX0_mayBegin_52 ?_
              refine Gx_ireturn dX0_mayBegin_53 (Or.inl rfl) ?_
              first
              | exact k1 (by omega)
              | exact k0 (by omega)
            · refine Gx_iconst ⟨by decide, by decide⟩ dX0_mayBegin_48 ?_
              refine Gx_goto (tgt := 53) dX0_mayBegin_49 (by decide) ?_
              refine Gx_ireturn dX0_mayBegin_53 (Or.inr rfl) ?_
              first
              | exact k1 (by omega)
              | exact k0 (by omega)
      · refine Gx_aload_n (i := 0) dX0_mayBegin_22 rfl rfl ?_
        refine gf_X0_223_20 dX0_mayBegin_23 rfl rfl ?_
        refine Gx_iconst ⟨by decide, by decide⟩ dX0_mayBegin_26 ?_
        refine Gx_icmp_lt (tgt := 48) dX0_mayBegin_27 (by decide) (fun c27 => ?_) (fun c27 => ?_)
        · refine Gx_iconst ⟨by decide, by decide⟩ dX0_mayBegin_48 ?_
          refine Gx_goto (tgt := 53) dX0_mayBegin_49 (by decide) ?_
          refine Gx_ireturn dX0_mayBegin_53 (Or.inr rfl) ?_
          first
          | exact k1 (by omega)
          | exact k0 (by omega)
        · refine Gx_iload_n (i := 1) dX0_mayBegin_30 rfl rfl ?_
          refine Gx_bipush dX0_mayBegin_31 ⟨by decide, by decide⟩ ?_
          refine Gx_icmp_eq (tgt := 48) dX0_mayBegin_33 (by decide) (fun c33 => ?_) (fun c33 => ?_)
          · refine Gx_iconst ⟨by decide, by decide⟩ dX0_mayBegin_48 ?_
            refine Gx_goto (tgt := 53) dX0_mayBegin_49 (by decide) ?_
            refine Gx_ireturn dX0_mayBegin_53 (Or.inr rfl) ?_
            first
            | exact k1 (by omega)
            | exact k0 (by omega)
          · refine Gx_iload_n (i := 1) dX0_mayBegin_36 rfl rfl ?_
            refine Gx_bipush dX0_mayBegin_37 ⟨by decide, by decide⟩ ?_
            refine Gx_icmp_eq (tgt := 48) dX0_mayBegin_39 (by decide) (fun c39 => ?_) (fun c39 => ?_)
            · refine Gx_iconst ⟨by decide, by decide⟩ dX0_mayBegin_48 ?_
              refine Gx_goto (tgt := 53) dX0_mayBegin_49 (by decide) ?_
              refine Gx_ireturn dX0_mayBegin_53 (Or.inr rfl) ?_
              first
              | exact k1 (by omega)
              | exact k0 (by omega)
            · refine Gx_iload_n (i := 1) dX0_mayBegin_42 rfl rfl ?_
              refine Gx_bipush dX0_mayBegin_43 ⟨by decide, by decide⟩ ?_
              refine Gx_icmp_ne (tgt := 52) dX0_mayBegin_45 (by decide) (fun c45 => ?_) (fun c45 => ?_)
              · refine Gx_iconst ⟨by decide, by decide⟩ dX0_mayBegin_52 ?_
                refine Gx_ireturn dX0_mayBegin_53 (Or.inl rfl) ?_
                first
                | exact k1 (by omega)
                | exact k0 (by omega)
              · refine Gx_iconst ⟨by decide, by decide⟩ dX0_mayBegin_48 ?_
                refine Gx_goto (tgt := 53) dX0_mayBegin_49 (by decide) ?_
                refine Gx_ireturn dX0_mayBegin_53 (Or.inr rfl) ?_
                first
                | exact k1 (by omega)
                | exact k0 (by omega)
  · refine Gx_if_eq (tgt := 16) dX0_mayBegin_4 (by decide) (fun _ => ?_) (fun hz => absurd hz (by decide))
    refine Gx_iload_n (i := 1) dX0_mayBegin_16 rfl rfl ?_
    refine Gx_bipush dX0_mayBegin_17 ⟨by decide, by decide⟩ ?_
    refine Gx_icmp_ne (tgt := 30) dX0_mayBegin_19 (by decide) (fun c19 => ?_) (fun c19 => ?_)
    · refine Gx_iload_n (i := 1) dX0_mayBegin_30 rfl rfl ?_
      refine Gx_bipush dX0_mayBegin_31 ⟨by decide, by decide⟩ ?_
      refine Gx_icmp_eq (tgt := 48) dX0_mayBegin_33 (by decide) (fun c33 => ?_) (fun c33 => ?_)
      · refine Gx_iconst ⟨by decide, by decide⟩ dX0_mayBegin_48 ?_
        refine Gx_goto (tgt := 53) dX0_mayBegin_49 (by decide) ?_
        refine Gx_ireturn dX0_mayBegin_53 (Or.inr rfl) ?_
        first
        | exact k1 (by omega)
        | exact k0 (by omega)
      · refine Gx_iload_n (i := 1) dX0_mayBegin_36 rfl rfl ?_
        refine Gx_bipush dX0_mayBegin_37 ⟨by decide, by decide⟩ ?_
        refine Gx_icmp_eq (tgt := 48) dX0_mayBegin_39 (by decide) (fun c39 => ?_) (fun c39 => ?_)
        · refine Gx_iconst ⟨by decide, by decide⟩ dX0_mayBegin_48 ?_
          refine Gx_goto (tgt := 53) dX0_mayBegin_49 (by decide) ?_
          refine Gx_ireturn dX0_mayBegin_53 (Or.inr rfl) ?_
          first
          | exact k1 (by omega)
          | exact k0 (by omega)
        · refine Gx_iload_n (i := 1) dX0_mayBegin_42 rfl rfl ?_
          refine Gx_bipush dX0_mayBegin_43 ⟨by decide, by decide⟩ ?_
          refine Gx_icmp_ne (tgt := 52) dX0_mayBegin_45 (by decide) (fun c45 => ?_) (fun c45 => ?_)
          · refine Gx_iconst ⟨by decide, by decide⟩ dX0_mayBegin_52 ?_
            refine Gx_ireturn dX0_mayBegin_53 (Or.inl rfl) ?_
            first
            | exact k1 (by omega)
            | exact k0 (by omega)
          · refine Gx_iconst ⟨by decide, by decide⟩ dX0_mayBegin_48 ?_
            refine Gx_goto (tgt := 53) dX0_mayBegin_49 (by decide) ?_
            refine Gx_ireturn dX0_mayBegin_53 (Or.inr rfl) ?_
            first
            | exact k1 (by omega)
            | exact k0 (by omega)
    · refine Gx_aload_n (i := 0) dX0_mayBegin_22 rfl rfl ?_
      refine gf_X0_223_20 dX0_mayBegin_23 rfl rfl ?_
      refine Gx_iconst ⟨by decide, by decide⟩ dX0_mayBegin_26 ?_
      refine Gx_icmp_lt (tgt := 48) dX0_mayBegin_27 (by decide) (fun c27 => ?_) (fun c27 => ?_)
      · refine Gx_iconst ⟨by decide, by decide⟩ dX0_mayBegin_48 ?_
        refine Gx_goto (tgt := 53) dX0_mayBegin_49 (by decide) ?_
        refine Gx_ireturn dX0_mayBegin_53 (Or.inr rfl) ?_
        first
        | exact k1 (by omega)
        | exact k0 (by omega)
      · refine Gx_iload_n (i := 1) dX0_mayBegin_30 rfl rfl ?_
        refine Gx_bipush dX0_mayBegin_31 ⟨by decide, by decide⟩ ?_
        refine Gx_icmp_eq (tgt := 48) dX0_mayBegin_33 (by decide) (fun c33 => ?_) (fun c33 => ?_)
        · refine Gx_iconst ⟨by decide, by decide⟩ dX0_mayBegin_48 ?_
          refine Gx_goto (tgt := 53) dX0_mayBegin_49 (by decide) ?_
          refine Gx_ireturn dX0_mayBegin_53 (Or.inr rfl) ?_
          first
          | exact k1 (by omega)
          | exact k0 (by omega)
        · refine Gx_iload_n (i := 1) dX0_mayBegin_36 rfl rfl ?_
          refine Gx_bipush dX0_mayBegin_37 ⟨by decide, by decide⟩ ?_
          refine Gx_icmp_eq (tgt := 48) dX0_mayBegin_39 (by decide) (fun c39 => ?_) (fun c39 => ?_)
          · refine Gx_iconst ⟨by decide, by decide⟩ dX0_mayBegin_48 ?_
            refine Gx_goto (tgt := 53) dX0_mayBegin_49 (by decide) ?_
            refine Gx_ireturn dX0_mayBegin_53 (Or.inr rfl) ?_
            first
            | exact k1 (by omega)
            | exact k0 (by omega)
          · refine Gx_iload_n (i := 1) dX0_mayBegin_42 rfl rfl ?_
            refine Gx_bipush dX0_mayBegin_43 ⟨by decide, by decide⟩ ?_
            refine Gx_icmp_ne (tgt := 52) dX0_mayBegin_45 (by decide) (fun c45 => ?_) (fun c45 => ?_)
            · refine Gx_iconst ⟨by decide, by decide⟩ dX0_mayBegin_52 ?_
              refine Gx_ireturn dX0_mayBegin_53 (Or.inl rfl) ?_
              first
              | exact k1 (by omega)
              | exact k0 (by omega)
            · refine Gx_iconst ⟨by decide, by decide⟩ dX0_mayBegin_48 ?_
              refine Gx_goto (tgt := 53) dX0_mayBegin_49 (by decide) ?_
              refine Gx_ireturn dX0_mayBegin_53 (Or.inr rfl) ?_
              first
              | exact k1 (by omega)
              | exact k0 (by omega)
end
