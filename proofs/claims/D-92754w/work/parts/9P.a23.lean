/-! AcornYears reads a calendar, a sort -/
section
variable {Γ : gC} {v : gM} {K : gH} {t : Nat} {Q : gQ}
set_option maxHeartbeats 1000000 in
theorem lp_X0_readsCalendar1 {q0 n : Int} {b : pB} {bc bs : Nat} {v0 : gM} (hT : aTx v0 (gHd K) b n) (hp : 0 ≤ q0 ∧ q0 ≤ 400) : ∀ (j : Nat) (q : Int), q0 ≤ q → q - q0 + j = 8 → Gx Γ mX0_readsCalendar 43 [(2, 0), (0, q0), (9, 0), (9, 0)] [] (gUp v0 0 18 (q + pCnt b j q)) (gHd K) t bc bs Q → Gx Γ mX0_readsCalendar 5 [(2, 0), (0, q0), (9, 0), (9, 0)] [] (gUp v0 0 18 q) (gHd K) t bc bs Q := by
  intro j
  induction j with
  | zero =>
    intro q h0 h1 k
    have hT1 : aTx (gUp v0 0 18 q) (gHd K) b n := aTx_up hT (by omega) (by omega)
    have e1 : gUp v0 0 18 q 0 18 = q := gUp_eq2 rfl rfl
    refine Gx_aload_n (i := 0) dX0_readsCalendar_5 rfl rfl ?_
    refine gf_X0_167_20 dX0_readsCalendar_6 rfl rfl ?_
    rw [e1]
    refine Gx_iload_n (i := 1) dX0_readsCalendar_9 rfl rfl ?_
    refine Gx_isub dX0_readsCalendar_10 ?_
    try simp (disch := omega) only [w32_id]
    refine Gx_bipush dX0_readsCalendar_11 ⟨by decide, by decide⟩ ?_
    refine Gx_icmp_ge (tgt := 43) dX0_readsCalendar_13 (by decide) (fun c13 => ?_) (fun c13 => ?_)
    · have e : q + pCnt b 0 q = q := by unfold pCnt; omega
      rw [e] at k
      exact k
    · exfalso
      omega
  | succ j ih =>
    intro q h0 h1 k
    have hT1 : aTx (gUp v0 0 18 q) (gHd K) b n := aTx_up hT (by omega) (by omega)
    have e1 : gUp v0 0 18 q 0 18 = q := gUp_eq2 rfl rfl
    refine Gx_aload_n (i := 0) dX0_readsCalendar_5 rfl rfl ?_
    refine gf_X0_167_20 dX0_readsCalendar_6 rfl rfl ?_
    rw [e1]
    refine Gx_iload_n (i := 1) dX0_readsCalendar_9 rfl rfl ?_
    refine Gx_isub dX0_readsCalendar_10 ?_
    try simp (disch := omega) only [w32_id]
    refine Gx_bipush dX0_readsCalendar_11 ⟨by decide, by decide⟩ ?_
    refine Gx_icmp_ge (tgt := 43) dX0_readsCalendar_13 (by decide) (fun c13 => ?_) (fun c13 => ?_)
    · first
      | (exfalso; omega)
      | (have e : q + pCnt b (j + 1) q = q := by
           unfold pCnt
           rw [if_neg (by omega)]
           omega
         rw [e] at k
         exact k)
    · refine Gx_aload_n (i := 0) dX0_readsCalendar_16 rfl rfl ?_
      refine cl_X0_173 dX0_readsCalendar_17 rfl rfl ⟨(Nat.le_of_ble_eq_true rfl), (Nat.le_of_ble_eq_true rfl)⟩ rfl ?_
      refine ct_X0_here hT1 (by omega) (fun d hl hd => ?_)
      rw [e1] at hl hd
      refine Gx_bipush dX0_readsCalendar_20 ⟨by decide, by decide⟩ ?_
      refine Gx_bipush dX0_readsCalendar_22 ⟨by decide, by decide⟩ ?_
      refine cl_X0_129 dX0_readsCalendar_24 rfl ⟨(Nat.le_of_ble_eq_true rfl), (Nat.le_of_ble_eq_true rfl)⟩ rfl ?_
      refine ct_X0_isIn (fun hi => ?_) (fun hi => ?_)
      · refine Gx_if_eq (tgt := 43) dX0_readsCalendar_27 (by decide) (fun hz => absurd hz (by decide)) (fun _ => ?_)
        refine Gx_aload_n (i := 0) dX0_readsCalendar_30 rfl rfl ?_
        refine Gx_dup (Nat.ne_of_beq_eq_false rfl) dX0_readsCalendar_31 ?_
        refine gf_X0_167_20 dX0_readsCalendar_32 rfl rfl ?_
        refine Gx_iconst ⟨by decide, by decide⟩ dX0_readsCalendar_35 ?_
        refine Gx_iadd dX0_readsCalendar_36 ?_
        try simp (disch := omega) only [w32_id]
        refine pf_X0_167_20 dX0_readsCalendar_37 rfl rfl ?_
        refine Gx_goto (tgt := 5) dX0_readsCalendar_40 (by decide) ?_
        have hd2 : 48 ≤ b q ∧ b q ≤ 50 := by omega
        have e : q + pCnt b (j + 1) q = q + 1 + pCnt b j (q + 1) := by
          show q + (if _ then _ else _) = _
          rw [if_pos hd2]
          omega
        rw [e] at k
        rw [e1]
        try simp (disch := omega) only [w32_id]
        rw [gUp_up]
        exact ih (q + 1) (by omega) (by omega) k
      · refine Gx_if_eq (tgt := 43) dX0_readsCalendar_27 (by decide) (fun _ => ?_) (fun hz => absurd hz (by decide))
        first
        | (exfalso; omega)
        | (have e : q + pCnt b (j + 1) q = q := by
             unfold pCnt
             rw [if_neg (by omega)]
             omega
           rw [e] at k
           exact k)
set_option maxHeartbeats 1000000 in
theorem lp_X0_readsCalendar2 {q0 n m : Int} {b : pB} {bc bs : Nat} {u : gM} {c : Int} (hc : 66 ≤ c) (hcc : gHd K c = (11, m)) (hm : m ≤ 8) (hT : aTx u (gHd K) b n) (hne : u 0 17 ≠ c) (hp : 0 ≤ q0 ∧ q0 ≤ 400) (hin : ∀ l, 0 ≤ l → l < m → 48 ≤ b (q0 + l) ∧ b (q0 + l) ≤ 50) (cont : ∀ v1, (∀ a k, a ≠ c → v1 a k = u a k) → (∀ l, 0 ≤ l → l < m → v1 c l = b (q0 + l) - 48) → Gx Γ mX0_readsCalendar 81 [(2, 0), (0, q0), (2, c), (0, m)] [] v1 (gHd K) t bc bs Q) : ∀ (j : Nat) (i : Int) (v : gM), 0 ≤ i → i + j = m → (∀ a k, a ≠ c → v a k = u a k) → (∀ l, 0 ≤ l → l < i → v c l = b (q0 + l) - 48) → Gx Γ mX0_readsCalendar 54 [(2, 0), (0, q0), (2, c), (0, i)] [] v (gHd K) t bc bs Q := by
  intro j
  induction j with
  | zero =>
    intro i v h0 h1 hF hV
    refine Gx_iload_n (i := 3) dX0_readsCalendar_54 rfl rfl ?_
    refine Gx_aload_n (i := 2) dX0_readsCalendar_55 rfl rfl ?_
    refine Gx_alen dX0_readsCalendar_56 hcc (by decide) (by decide) ?_
    refine Gx_icmp_ge (tgt := 81) dX0_readsCalendar_57 (by decide) (fun c57 => ?_) (fun c57 => ?_)
    · have e0 : i = m := by omega
      subst e0
      exact cont v hF hV
    · exfalso
      omega
  | succ j ih =>
    intro i v h0 h1 hF hV
    have e17 : v 0 17 = u 0 17 := hF 0 17 (by omega)
    obtain ⟨t1, t2, t3, t4⟩ := hT
    have hbi := hin i h0 (by omega)
    have hlt : q0 + i < n := by
      by_cases z : q0 + i < n
      · exact z
      · have := t4 (q0 + i) (by omega)
        rw [if_neg z] at this
        omega
    have ebi : v (v 0 17) (q0 + i) = b (q0 + i) := by
      rw [e17, hF _ _ hne, t4 _ (by omega), if_pos hlt]
    refine Gx_iload_n (i := 3) dX0_readsCalendar_54 rfl rfl ?_
    refine Gx_aload_n (i := 2) dX0_readsCalendar_55 rfl rfl ?_
    refine Gx_alen dX0_readsCalendar_56 hcc (by decide) (by decide) ?_
    refine Gx_icmp_ge (tgt := 81) dX0_readsCalendar_57 (by decide) (fun c57 => ?_) (fun c57 => ?_)
    · exfalso
      omega
    · refine Gx_aload_n (i := 2) dX0_readsCalendar_60 rfl rfl ?_
      refine Gx_iload_n (i := 3) dX0_readsCalendar_61 rfl rfl ?_
      refine Gx_aload_n (i := 0) dX0_readsCalendar_62 rfl rfl ?_
      refine gf_X0_170_20 dX0_readsCalendar_63 rfl rfl ?_
      refine Gx_iload_n (i := 1) dX0_readsCalendar_66 rfl rfl ?_
      refine Gx_iload_n (i := 3) dX0_readsCalendar_67 rfl rfl ?_
      refine Gx_iadd dX0_readsCalendar_68 ?_
      try simp (disch := omega) only [w32_id]
      refine Gx_baload dX0_readsCalendar_69 (by rw [e17]; exact t1) (by first | omega | (simp (disch := omega) only [w32_id]; omega)) ?_
      rw [ebi]
      refine Gx_bipush dX0_readsCalendar_70 ⟨by decide, by decide⟩ ?_
      refine Gx_isub dX0_readsCalendar_72 ?_
      try simp (disch := omega) only [w32_id]
      refine Gx_i2b dX0_readsCalendar_73 ?_
      rw [w8_id (by omega) (by omega)]
      refine Gx_bastore dX0_readsCalendar_74 hcc (by first | omega | (simp (disch := omega) only [w32_id]; omega)) (by first | omega | (simp (disch := omega) only [w32_id]; omega)) ?_
      refine Gx_iinc_3 dX0_readsCalendar_75 (Nat.le_of_ble_eq_true rfl) (Nat.ne_of_beq_eq_false rfl) ?_
      try simp (disch := omega) only [w32_id]
      refine Gx_goto (tgt := 54) dX0_readsCalendar_78 (by decide) ?_
      refine ih (i + 1) _ (by omega) (by omega) (fun a k hk => ?_) (fun l l0 l1 => ?_)
      · rw [gUp_ne2 (by omega)]
        exact hF a k hk
      · by_cases g : l = i
        · subst g
          rw [gUp_eq2 rfl rfl]
        · rw [gUp_ne2 (by omega)]
          exact hV l l0 (by omega)
set_option maxHeartbeats 2000000 in
theorem ct_X0_readsCalendar {b : pB} {n q0 : Int} (hT : aTx v (gHd K) b n) (hq : v 0 18 = q0) (hp : 0 ≤ q0 ∧ q0 ≤ 400) (k1 : ∀ v1, 0 < pCnt b 8 q0 → (∀ a j, a < (t : Int) → ¬ (a = 0 ∧ (j = 18 ∨ j = 22)) → v1 a j = v a j) → v1 0 18 = q0 + pCnt b 8 q0 → v1 0 22 = (t : Int) → (∀ l, 0 ≤ l → l < pCnt b 8 q0 → v1 t l = b (q0 + l) - 48) → Q (0, 1) v1 (gHd (gUpH K t (11, pCnt b 8 q0))) (t + 1)) (k0 : ∀ v1, pCnt b 8 q0 = 0 → (∀ a j, a < (t : Int) → ¬ (a = 0 ∧ (j = 18 ∨ j = 22)) → v1 a j = v a j) → v1 0 18 = q0 → Q (0, 0) v1 (gHd (gUpH K t (11, pCnt b 8 q0))) (t + 1)) : Ctr Γ mX0_readsCalendar [(2, 0)] v (gHd K) t Q := by
  refine Ctr.ofG (ls := [(2, 0), (9, 0), (9, 0), (9, 0)]) rfl rfl rfl rfl rfl ?_
  refine Gx_top (fun hK => ?_)
  have h66 := gHd_66 hK
  refine Gx_aload_n (i := 0) dX0_readsCalendar_0 rfl rfl ?_
  refine gf_X0_167_20 dX0_readsCalendar_1 rfl rfl ?_
  rw [hq]
  refine Gx_istore_n_1 dX0_readsCalendar_4 (Nat.le_of_ble_eq_true rfl) (Nat.ne_of_beq_eq_false rfl) ?_
  have e0 : v = gUp v 0 18 q0 := by
    funext z y
    by_cases hz : z = 0 ∧ y = 18
    · rw [gUp_eq2 (x := q0) hz.1 hz.2, hz.1, hz.2]
      exact hq
    · rw [gUp_ne2 (x := q0) hz]
  have cl := pCnt_le b 8 q0
  have goal : Gx Γ mX0_readsCalendar 5 [(2, 0), (0, q0), (9, 0), (9, 0)] [] (gUp v 0 18 q0) (gHd K) t 1 8 Q := by
    refine lp_X0_readsCalendar1 (v0 := v) hT hp 8 q0 (by omega) (by omega) ?_
    refine Gx_aload_n (i := 0) dX0_readsCalendar_43 rfl rfl ?_
    refine gf_X0_167_20 dX0_readsCalendar_44 rfl rfl ?_
    rw [show gUp v 0 18 (q0 + pCnt b 8 q0) 0 18 = q0 + pCnt b 8 q0 from rfl]
    refine Gx_iload_n (i := 1) dX0_readsCalendar_47 rfl rfl ?_
    refine Gx_isub dX0_readsCalendar_48 ?_
    try simp (disch := omega) only [w32_id]
    rw [show q0 + pCnt b 8 q0 - q0 = pCnt b 8 q0 by omega]
    refine Gx_newarr (k := 11) (bc' := 0) (bs' := 0) dX0_readsCalendar_49 ⟨by decide, by decide⟩ rfl q350 (by first | omega | (simp (disch := omega) only [w32_id]; omega)) (by decide) (by omega) ?_
    rw [gHd_up (by omega)]
    refine Gx_astore_n_2 dX0_readsCalendar_51 (Nat.le_of_ble_eq_true rfl) (Nat.ne_of_beq_eq_false rfl) ?_
    refine Gx_iconst ⟨by decide, by decide⟩ dX0_readsCalendar_52 ?_
    refine Gx_istore_n_3 dX0_readsCalendar_53 (Nat.le_of_ble_eq_true rfl) (Nat.ne_of_beq_eq_false rfl) ?_
    refine Gx_name (fun u eu => ?_)
    have uF : ∀ a k, a < (t : Int) → ¬ (a = 0 ∧ k = 18) → u a k = v a k := fun a k ha hk => by rw [eu, gNf_ne (by omega), gUp_ne2 hk]
    have u18 : u 0 18 = q0 + pCnt b 8 q0 := by rw [eu, gNf_ne (by omega), gUp_eq2 rfl rfl]
    have huT : aTx u (gHd (gUpH K t (11, pCnt b 8 q0))) b n := by rw [eu]; exact aTx_new hK (aTx_up hT (by omega) (by omega))
    have hlt := (gHd_lh hK hT.1 (by decide)).2
    refine lp_X0_readsCalendar2 (u := u) (c := t) (by omega) (gHd_at (by omega)) (by omega) huT (by rw [uF 0 17 (by omega) (by omega)]; omega) hp (fun l l0 l1 => pCnt_in 8 q0 l l0 l1) (fun v1 f1 g1 => ?_) (pCnt b 8 q0).toNat 0 u (by omega) (by omega) (fun a k _ => rfl) (fun l l0 l1 => absurd l1 (by omega))
    refine Gx_aload_n (i := 0) dX0_readsCalendar_81 rfl rfl ?_
    refine Gx_aload_n (i := 2) dX0_readsCalendar_82 rfl rfl ?_
    refine pf_X0_232_20 dX0_readsCalendar_83 rfl rfl ?_
    refine Gx_aload_n (i := 2) dX0_readsCalendar_86 rfl rfl ?_
    refine Gx_alen dX0_readsCalendar_87 (gHd_at (by omega)) (by decide) (by decide) ?_
    refine Gx_if_le (tgt := 95) dX0_readsCalendar_88 (by decide) (fun c88 => ?_) (fun c88 => ?_)
    · refine Gx_iconst ⟨by decide, by decide⟩ dX0_readsCalendar_95 ?_
      refine Gx_ireturn dX0_readsCalendar_96 (Or.inl rfl) ?_
      first
      | (refine k1 _ (by omega) (fun a j ha hn => ?_) ?_ ?_ (fun l l0 l1 => ?_)
         · rw [gUp_ne2 (by omega), f1 a j (by omega), uF a j ha (by omega)]
         · rw [gUp_ne2 (by omega), f1 0 18 (by omega), u18]
         · rw [gUp_eq2 rfl rfl]
         · rw [gUp_ne2 (by omega), g1 l l0 l1])
      | (refine k0 _ (by omega) (fun a j ha hn => ?_) ?_
         · rw [gUp_ne2 (by omega), f1 a j (by omega), uF a j ha (by omega)]
         · rw [gUp_ne2 (by omega), f1 0 18 (by omega), u18]
           omega)
    · refine Gx_iconst ⟨by decide, by decide⟩ dX0_readsCalendar_91 ?_
      refine Gx_goto (tgt := 96) dX0_readsCalendar_92 (by decide) ?_
      refine Gx_ireturn dX0_readsCalendar_96 (Or.inr rfl) ?_
      first
      | (refine k1 _ (by omega) (fun a j ha hn => ?_) ?_ ?_ (fun l l0 l1 => ?_)
         · rw [gUp_ne2 (by omega), f1 a j (by omega), uF a j ha (by omega)]
         · rw [gUp_ne2 (by omega), f1 0 18 (by omega), u18]
         · rw [gUp_eq2 rfl rfl]
         · rw [gUp_ne2 (by omega), g1 l l0 l1])
      | (refine k0 _ (by omega) (fun a j ha hn => ?_) ?_
         · rw [gUp_ne2 (by omega), f1 a j (by omega), uF a j ha (by omega)]
         · rw [gUp_ne2 (by omega), f1 0 18 (by omega), u18]
           omega)
  rw [← e0] at goal
  exact goal
theorem aSd_of {v : gM} {h : gH} {o a kd x4 x5 x6 a0 a1 a2 : Int} (h35 : v 0 35 < 0) (ho : 66 ≤ o) (hkd : 1 ≤ kd ∧ kd ≤ 5) (hk : (h o).1 = aCk kd) (ha : 66 ≤ a) (hah : h a = (11, 3)) (e0 : v o 0 = a) (e4 : kd ≠ 1 → v o 1 = x4) (e5 : kd ≠ 1 → v o 2 = x5) (z4 : kd = 1 → x4 = 0) (z5 : kd = 1 → x5 = 0) (e6 : kd = 4 ∨ kd = 5 → v o 3 = x6) (z6 : kd ≠ 4 → kd ≠ 5 → x6 = 0) (b0 : v a 0 = a0) (b1 : v a 1 = a1) (b2 : v a 2 = a2) : aSd v h o (fun k => if k = 0 then kd else if k = 1 then a0 else if k = 2 then a1 else if k = 3 then a2 else if k = 4 then x4 else if k = 5 then x5 else x6) := by
  have hc : aCk kd = if kd = 1 then 3 else if kd = 3 then 4 else if kd = 2 then 5 else if kd = 4 then 6 else 7 := rfl
  refine ⟨ho, ?_, by omega, by rw [e0]; exact hah, fun k k0 k1 => ?_⟩
  · rw [hk]
    unfold aCk
    split
    · omega
    · split
      · omega
      · split
        · omega
        · split <;> omega
  · unfold aS
    rw [hk, e0, if_neg (show ¬ 0 ≤ v 0 35 by omega)]
    rcases (by omega : k = 0 ∨ k = 1 ∨ k = 2 ∨ k = 3 ∨ k = 4 ∨ k = 5 ∨ k = 6) with z | z | z | z | z | z | z <;> subst z
    · exact aKd_ck hkd
    · exact b0
    · exact b1
    · exact b2
    · show (if aCk kd = 3 then 0 else v o 1) = x4
      by_cases h1 : kd = 1
      · rw [if_pos (by rw [h1]; rfl), z4 h1]
      · rw [if_neg (by rcases (by omega : kd = 2 ∨ kd = 3 ∨ kd = 4 ∨ kd = 5) with z | z | z | z <;> rw [z] <;> decide), e4 h1]
    · show (if aCk kd = 3 then 0 else v o 2) = x5
      by_cases h1 : kd = 1
      · rw [if_pos (by rw [h1]; rfl), z5 h1]
      · rw [if_neg (by rcases (by omega : kd = 2 ∨ kd = 3 ∨ kd = 4 ∨ kd = 5) with z | z | z | z <;> rw [z] <;> decide), e5 h1]
    · show (if aCk kd = 6 then v o 3 else if aCk kd = 7 then v o 3 else 0) = x6
      rcases (by omega : kd = 1 ∨ kd = 2 ∨ kd = 3 ∨ kd = 4 ∨ kd = 5) with z | z | z | z | z
      · rw [z6 (by omega) (by omega), z]; rfl
      · rw [z6 (by omega) (by omega), z]; rfl
      · rw [z6 (by omega) (by omega), z]; rfl
      · rw [← e6 (Or.inl z), z]; rfl
      · rw [← e6 (Or.inr z), z]; rfl

theorem rs_put {M : gI} {pc : Nat} {ls st : List gV} {bc bs : Nat} {kd : Int} {o i : Int} {Kk : gH} {tt : Nat} (d : decode M.2.1 pc = .ok (.aastore, 1)) (ho : 66 ≤ o) (hkd : 1 ≤ kd ∧ kd ≤ 5) (hi : 0 ≤ i ∧ i < 6) (k : Gx Γ M (pc + 1) ls st (gUp v 10 i o) (gHd (gUpH Kk o (aCk kd, 0))) tt bc bs Q) : Gx Γ M pc ls ((2, o) :: (0, i) :: (2, 10) :: st) v (gHd (gUpH Kk o (aCk kd, 0))) tt bc bs Q := by
  rcases (by omega : kd = 1 ∨ kd = 2 ∨ kd = 3 ∨ kd = 4 ∨ kd = 5) with z | z | z | z | z <;> subst z
  · exact Gx_aast17 (C := RX4) (T := TX4) (N := 1) d rfl hi (gHd_at ho) rfl rfl q1791 k
  · exact Gx_aast17 (C := RX6) (T := TX6) (N := 3) d rfl hi (gHd_at ho) rfl rfl q1793 k
  · exact Gx_aast17 (C := RX5) (T := TX5) (N := 3) d rfl hi (gHd_at ho) rfl rfl q1792 k
  · exact Gx_aast17 (C := RX7) (T := TX7) (N := 4) d rfl hi (gHd_at ho) rfl rfl q1794 k
  · exact Gx_aast17 (C := RX8) (T := TX8) (N := 4) d rfl hi (gHd_at ho) rfl rfl q1795 k

theorem gx_X0_readsSort75 {c n0 z : Int} {kd : Int} {bc bs : Nat} {u : gM} (h66 : 66 ≤ t) (hkd : 1 ≤ kd ∧ kd ≤ 5) (hn : u 0 21 = n0) (hn0 : 0 ≤ n0 ∧ n0 < 6) (k : Q (0, 1) (gUp (gUp u 10 n0 ((t + 1 : Nat) : Int)) 0 21 (n0 + 1)) (gHd (gUpH (gUpH K t (11, 3)) ((t + 1 : Nat) : Int) (aCk kd, 0))) (t + 2)) : Gx Γ mX0_readsSort 75 [(2, 0), (0, c), (2, z), (0, 3)] [(2, ((t + 1 : Nat) : Int))] u (gHd (gUpH (gUpH K t (11, 3)) ((t + 1 : Nat) : Int) (aCk kd, 0))) (t + 2) bc bs Q := by
  refine Gx_astore_n_3 dX0_readsSort_75 (Nat.le_of_ble_eq_true rfl) (Nat.ne_of_beq_eq_false rfl) ?_
  refine Gx_aload_n (i := 3) dX0_readsSort_76 rfl rfl ?_
  refine Gx_ifnonnull (tgt := 82) dX0_readsSort_77 (by decide) (fun c77 => ?_) (fun c77 => ?_)
  · refine Gx_aload_n (i := 0) dX0_readsSort_82 rfl rfl ?_
    refine gf_X0_59_20 dX0_readsSort_83 rfl rfl ?_
    refine Gx_aload_n (i := 0) dX0_readsSort_86 rfl rfl ?_
    refine gf_X0_196_20 dX0_readsSort_87 rfl rfl ?_
    rw [hn]
    refine Gx_aload_n (i := 3) dX0_readsSort_90 rfl rfl ?_
    refine rs_put dX0_readsSort_91 (by omega) hkd hn0 ?_
    refine Gx_aload_n (i := 0) dX0_readsSort_92 rfl rfl ?_
    refine Gx_dup (Nat.ne_of_beq_eq_false rfl) dX0_readsSort_93 ?_
    refine gf_X0_196_20 dX0_readsSort_94 rfl rfl ?_
    rw [gUp_ne2 (by omega), hn]
    refine Gx_iconst ⟨by decide, by decide⟩ dX0_readsSort_97 ?_
    refine Gx_iadd dX0_readsSort_98 ?_
    try simp (disch := omega) only [w32_id]
    refine pf_X0_196_20 dX0_readsSort_99 rfl rfl ?_
    refine Gx_iconst ⟨by decide, by decide⟩ dX0_readsSort_102 ?_
    refine Gx_ireturn dX0_readsSort_103 (Or.inr rfl) ?_
    exact k
  · exfalso
    omega
set_option maxHeartbeats 8000000 in
theorem ct_X0_readsSort {b : pB} {n q0 n0 c kd : Int} (hkk : pKind c = kd) (hT : aTx v (gHd K) b n) (hq : v 0 18 = q0) (hp : 0 ≤ q0 ∧ q0 ≤ 400) (h35 : v 0 35 < 0) (hkd : 1 ≤ kd ∧ kd ≤ 5) (hn : v 0 21 = n0) (hn0 : 0 ≤ n0 ∧ n0 < 6) (k1 : ∀ q f v1, pSort b kd q0 = .ok (q, f) → (∀ a j, a < (t : Int) → ¬ ((a = 0 ∧ (j = 18 ∨ j = 19 ∨ j = 21)) ∨ (a = 10 ∧ j = n0)) → v1 a j = v a j) → v1 0 18 = q → v1 0 21 = n0 + 1 → v1 10 n0 = (t : Int) + 1 → v1 ((t : Int) + 1) 0 = (t : Int) → aSd v1 (gHd (gUpH (gUpH K t (11, 3)) ((t + 1 : Nat) : Int) (aCk kd, 0))) ((t : Int) + 1) f → Q (0, 1) v1 (gHd (gUpH (gUpH K t (11, 3)) ((t + 1 : Nat) : Int) (aCk kd, 0))) (t + 2)) (k0 : ∀ q v1, pSort b kd q0 = .error q → (∀ a j, a < (t : Int) → ¬ ((a = 0 ∧ (j = 18 ∨ j = 19 ∨ j = 21)) ∨ (a = 10 ∧ j = n0)) → v1 a j = v a j) → v1 0 18 = q → Q (0, 0) v1 (gHd (gUpH K t (11, 3))) (t + 1)) : Ctr Γ mX0_readsSort [(2, 0), (0, c)] v (gHd K) t Q := by
  refine Ctr.ofG (ls := [(2, 0), (0, c), (9, 0), (9, 0)]) rfl rfl rfl rfl rfl ?_
  refine Gx_top (fun hK => ?_)
  have h66 := gHd_66 hK
  have hcc : (c = 84 ∧ kd = 1) ∨ (c = 86 ∧ kd = 2) ∨ (c = 87 ∧ kd = 3) ∨ (c = 78 ∧ kd = 4) ∨ (c = 79 ∧ kd = 5) := by unfold pKind at hkk; omega
  refine Gx_iconst ⟨by decide, by decide⟩ dX0_readsSort_0 ?_
  refine Gx_newarr (k := 11) (bc' := 2) (bs' := 7) dX0_readsSort_1 ⟨by decide, by decide⟩ rfl q350 (by first | omega | (simp (disch := omega) only [w32_id]; omega)) (by decide) (by decide) ?_
  rw [gHd_up (by omega)]
  refine Gx_astore_n_2 dX0_readsSort_3 (Nat.le_of_ble_eq_true rfl) (Nat.ne_of_beq_eq_false rfl) ?_
  refine Gx_iconst ⟨by decide, by decide⟩ dX0_readsSort_4 ?_
  refine Gx_istore_n_3 dX0_readsSort_5 (Nat.le_of_ble_eq_true rfl) (Nat.ne_of_beq_eq_false rfl) ?_
  refine Gx_name (fun vS eS => ?_)
  have hFS : ∀ a j, a < (t : Int) → vS a j = v a j := fun a j ha => by rw [eS, gNf_ne (by omega)]
  have hqS : vS 0 18 = q0 := by rw [hFS 0 18 (by omega)]; exact hq
  have hTS : aTx vS (gHd (gUpH K t (11, 3))) b n := by rw [eS]; exact aTx_new hK hT
  have n17 : v 0 17 < t := (gHd_lh hK hT.1 (by decide)).2
  refine Gx_iload_n (i := 3) dX0_readsSort_6 rfl rfl ?_
  refine Gx_iconst ⟨by decide, by decide⟩ dX0_readsSort_7 ?_
  refine Gx_icmp_ge (tgt := 38) dX0_readsSort_8 (by decide) (fun hz => absurd hz (by decide)) (fun _ => ?_)
  refine Gx_aload_n (i := 0) dX0_readsSort_11 rfl rfl ?_
  refine Gx_iconst ⟨by decide, by decide⟩ dX0_readsSort_12 ?_
  refine Gx_iconst ⟨by decide, by decide⟩ dX0_readsSort_13 ?_
  refine Gx_bipush dX0_readsSort_14 ⟨by decide, by decide⟩ ?_
  refine cl_X0_180 dX0_readsSort_16 rfl rfl ⟨(Nat.le_of_ble_eq_true rfl), (Nat.le_of_ble_eq_true rfl)⟩ rfl ?_
  refine ct_X0_readsNumber (q0 := q0) (f := 1) hTS hqS (by omega) rfl (by omega) (fun qB1 xB1 vB1 cB1 bB1 hFB1 hqB1 hxB1 hTB1 => ?_) (fun qB1 xB1 vB1 hzB1 cB1 bB1 hFB1 hqB1 hxB1 hTB1 => ?_)
  · refine Gx_if_ne (tgt := 24) dX0_readsSort_19 (by decide) (fun _ => ?_) (fun hz => absurd hz (by decide))
    refine Gx_aload_n (i := 2) dX0_readsSort_24 rfl rfl ?_
    refine Gx_iload_n (i := 3) dX0_readsSort_25 rfl rfl ?_
    refine Gx_aload_n (i := 0) dX0_readsSort_26 rfl rfl ?_
    refine gf_X0_177_20 dX0_readsSort_27 rfl rfl ?_
    refine Gx_i2b dX0_readsSort_30 ?_
    rw [hxB1, w8_id (by omega) (by omega)]
    refine Gx_bastore dX0_readsSort_31 (gHd_at (by omega)) (by first | omega | (simp (disch := omega) only [w32_id]; omega)) (by first | omega | (simp (disch := omega) only [w32_id]; omega)) ?_
    refine Gx_iinc_3 dX0_readsSort_32 (Nat.le_of_ble_eq_true rfl) (Nat.ne_of_beq_eq_false rfl) ?_
    rw [show w32 (0 + 1) = (1 : Int) from by decide]
    refine Gx_goto (tgt := 6) dX0_readsSort_35 (by decide) ?_
    refine Gx_name (fun vA1 eA1 => ?_)
    have hFA1 : ∀ a j, ¬ (a = (t : Int) ∧ j = 0) → vA1 a j = vB1 a j := by
      intro a j hn
      rw [eA1]
      simp (disch := omega) only [gUp_ne2, gUp_eq2]
    have hyA1 : vA1 t 0 = xB1 := by
      rw [eA1]
      simp (disch := omega) only [gUp_ne2, gUp_eq2]
    have hqA1 : vA1 0 18 = qB1 := by rw [hFA1 0 18 (by omega)]; exact hqB1
    have h17A1 : vA1 0 17 = v 0 17 := by simp (disch := omega) only [hFA1, hFB1,  hFS]
    have hTA1 : aTx vA1 (gHd (gUpH K t (11, 3))) b n := aTx_fr hTB1 (hFA1 0 17 (by omega)) (fun k => hFA1 _ k (by rw [show vB1 0 17 = v 0 17 from by simp (disch := omega) only [hFB1,  hFS]]; omega))
    refine Gx_iload_n (i := 3) dX0_readsSort_6 rfl rfl ?_
    refine Gx_iconst ⟨by decide, by decide⟩ dX0_readsSort_7 ?_
    refine Gx_icmp_ge (tgt := 38) dX0_readsSort_8 (by decide) (fun hz => absurd hz (by decide)) (fun _ => ?_)
    refine Gx_aload_n (i := 0) dX0_readsSort_11 rfl rfl ?_
    refine Gx_iconst ⟨by decide, by decide⟩ dX0_readsSort_12 ?_
    refine Gx_iconst ⟨by decide, by decide⟩ dX0_readsSort_13 ?_
    refine Gx_bipush dX0_readsSort_14 ⟨by decide, by decide⟩ ?_
    refine cl_X0_180 dX0_readsSort_16 rfl rfl ⟨(Nat.le_of_ble_eq_true rfl), (Nat.le_of_ble_eq_true rfl)⟩ rfl ?_
    refine ct_X0_readsNumber (q0 := qB1) (f := 1) hTA1 hqA1 (by omega) rfl (by omega) (fun qB2 xB2 vB2 cB2 bB2 hFB2 hqB2 hxB2 hTB2 => ?_) (fun qB2 xB2 vB2 hzB2 cB2 bB2 hFB2 hqB2 hxB2 hTB2 => ?_)
    · refine Gx_if_ne (tgt := 24) dX0_readsSort_19 (by decide) (fun _ => ?_) (fun hz => absurd hz (by decide))
      refine Gx_aload_n (i := 2) dX0_readsSort_24 rfl rfl ?_
      refine Gx_iload_n (i := 3) dX0_readsSort_25 rfl rfl ?_
      refine Gx_aload_n (i := 0) dX0_readsSort_26 rfl rfl ?_
      refine gf_X0_177_20 dX0_readsSort_27 rfl rfl ?_
      refine Gx_i2b dX0_readsSort_30 ?_
      rw [hxB2, w8_id (by omega) (by omega)]
      refine Gx_bastore dX0_readsSort_31 (gHd_at (by omega)) (by first | omega | (simp (disch := omega) only [w32_id]; omega)) (by first | omega | (simp (disch := omega) only [w32_id]; omega)) ?_
      refine Gx_iinc_3 dX0_readsSort_32 (Nat.le_of_ble_eq_true rfl) (Nat.ne_of_beq_eq_false rfl) ?_
      rw [show w32 (1 + 1) = (2 : Int) from by decide]
      refine Gx_goto (tgt := 6) dX0_readsSort_35 (by decide) ?_
      refine Gx_name (fun vA2 eA2 => ?_)
      have hFA2 : ∀ a j, ¬ (a = (t : Int) ∧ j = 1) → vA2 a j = vB2 a j := by
        intro a j hn
        rw [eA2]
        simp (disch := omega) only [gUp_ne2, gUp_eq2]
      have hyA2 : vA2 t 1 = xB2 := by
        rw [eA2]
        simp (disch := omega) only [gUp_ne2, gUp_eq2]
      have hqA2 : vA2 0 18 = qB2 := by rw [hFA2 0 18 (by omega)]; exact hqB2
      have h17A2 : vA2 0 17 = v 0 17 := by simp (disch := omega) only [hFA2, hFB2, hFA1, hFB1,  hFS]
      have hTA2 : aTx vA2 (gHd (gUpH K t (11, 3))) b n := aTx_fr hTB2 (hFA2 0 17 (by omega)) (fun k => hFA2 _ k (by rw [show vB2 0 17 = v 0 17 from by simp (disch := omega) only [hFB2, hFA1, hFB1,  hFS]]; omega))
      refine Gx_iload_n (i := 3) dX0_readsSort_6 rfl rfl ?_
      refine Gx_iconst ⟨by decide, by decide⟩ dX0_readsSort_7 ?_
      refine Gx_icmp_ge (tgt := 38) dX0_readsSort_8 (by decide) (fun hz => absurd hz (by decide)) (fun _ => ?_)
      refine Gx_aload_n (i := 0) dX0_readsSort_11 rfl rfl ?_
      refine Gx_iconst ⟨by decide, by decide⟩ dX0_readsSort_12 ?_
      refine Gx_iconst ⟨by decide, by decide⟩ dX0_readsSort_13 ?_
      refine Gx_bipush dX0_readsSort_14 ⟨by decide, by decide⟩ ?_
      refine cl_X0_180 dX0_readsSort_16 rfl rfl ⟨(Nat.le_of_ble_eq_true rfl), (Nat.le_of_ble_eq_true rfl)⟩ rfl ?_
      refine ct_X0_readsNumber (q0 := qB2) (f := 1) hTA2 hqA2 (by omega) rfl (by omega) (fun qB3 xB3 vB3 cB3 bB3 hFB3 hqB3 hxB3 hTB3 => ?_) (fun qB3 xB3 vB3 hzB3 cB3 bB3 hFB3 hqB3 hxB3 hTB3 => ?_)
      · refine Gx_if_ne (tgt := 24) dX0_readsSort_19 (by decide) (fun _ => ?_) (fun hz => absurd hz (by decide))
        refine Gx_aload_n (i := 2) dX0_readsSort_24 rfl rfl ?_
        refine Gx_iload_n (i := 3) dX0_readsSort_25 rfl rfl ?_
        refine Gx_aload_n (i := 0) dX0_readsSort_26 rfl rfl ?_
        refine gf_X0_177_20 dX0_readsSort_27 rfl rfl ?_
        refine Gx_i2b dX0_readsSort_30 ?_
        rw [hxB3, w8_id (by omega) (by omega)]
        refine Gx_bastore dX0_readsSort_31 (gHd_at (by omega)) (by first | omega | (simp (disch := omega) only [w32_id]; omega)) (by first | omega | (simp (disch := omega) only [w32_id]; omega)) ?_
        refine Gx_iinc_3 dX0_readsSort_32 (Nat.le_of_ble_eq_true rfl) (Nat.ne_of_beq_eq_false rfl) ?_
        rw [show w32 (2 + 1) = (3 : Int) from by decide]
        refine Gx_goto (tgt := 6) dX0_readsSort_35 (by decide) ?_
        refine Gx_name (fun vA3 eA3 => ?_)
        have hFA3 : ∀ a j, ¬ (a = (t : Int) ∧ j = 2) → vA3 a j = vB3 a j := by
          intro a j hn
          rw [eA3]
          simp (disch := omega) only [gUp_ne2, gUp_eq2]
        have hyA3 : vA3 t 2 = xB3 := by
          rw [eA3]
          simp (disch := omega) only [gUp_ne2, gUp_eq2]
        have hqA3 : vA3 0 18 = qB3 := by rw [hFA3 0 18 (by omega)]; exact hqB3
        have h17A3 : vA3 0 17 = v 0 17 := by simp (disch := omega) only [hFA3, hFB3, hFA2, hFB2, hFA1, hFB1,  hFS]
        have hTA3 : aTx vA3 (gHd (gUpH K t (11, 3))) b n := aTx_fr hTB3 (hFA3 0 17 (by omega)) (fun k => hFA3 _ k (by rw [show vB3 0 17 = v 0 17 from by simp (disch := omega) only [hFB3, hFA2, hFB2, hFA1, hFB1,  hFS]]; omega))
        refine Gx_iload_n (i := 3) dX0_readsSort_6 rfl rfl ?_
        refine Gx_iconst ⟨by decide, by decide⟩ dX0_readsSort_7 ?_
        refine Gx_icmp_ge (tgt := 38) dX0_readsSort_8 (by decide) (fun _ => ?_) (fun hz => absurd hz (by decide))
        refine Gx_iload_n (i := 1) dX0_readsSort_38 rfl rfl ?_
        refine Gx_bipush dX0_readsSort_39 ⟨by decide, by decide⟩ ?_
        refine Gx_icmp_ne (tgt := 55) dX0_readsSort_41 (by decide) (fun c41 => ?_) (fun c41 => ?_)
        · refine Gx_iload_n (i := 1) dX0_readsSort_55 rfl rfl ?_
          refine Gx_bipush dX0_readsSort_56 ⟨by decide, by decide⟩ ?_
          refine Gx_icmp_ne (tgt := 69) dX0_readsSort_58 (by decide) (fun c58 => ?_) (fun c58 => ?_)
          · refine Gx_aload_n (i := 0) dX0_readsSort_69 rfl rfl ?_
            refine Gx_iload_n (i := 1) dX0_readsSort_70 rfl rfl ?_
            refine Gx_aload_n (i := 2) dX0_readsSort_71 rfl rfl ?_
            refine cl_X0_192 (bc' := 0) (bs' := 0) dX0_readsSort_72 rfl rfl ⟨(Nat.le_of_ble_eq_true rfl), (Nat.le_of_ble_eq_true rfl)⟩ rfl (by first | omega | decide) (by first | omega | decide) ?_
            refine ct_X0_readsSaver (b := b) (n := n) (q0 := qB3) (kd := kd) (by omega) hTA3 hqA3 (by omega) (by omega) (fun q x4 x5 x6 vU hm fU qU u0 u4 u5 u6 z6 => ?_) (fun q vU hm fU qU => ?_)
            · have hne1 : ¬ kd = 1 := by omega
              refine gx_X0_readsSort75 (u := vU) (kd := kd) h66 hkd (by rw [fU 0 21 (by omega) (by omega)]; simp (disch := omega) only [hFA3, hFB3, hFA2, hFB2, hFA1, hFB1, hFS]; exact hn) hn0 ?_
              refine k1 q (fun k => if k = 0 then kd else if k = 1 then xB1 else if k = 2 then xB2 else if k = 3 then xB3 else if k = 4 then x4 else if k = 5 then x5 else x6) _ ?_ ?_ ?_ ?_ ?_ ?_ ?_
              · simp [pSort, Bind.bind, Except.bind, Pure.pure, Except.pure, *]
              · intro a j ha hn9
                rw [gUp_ne2 (by omega), gUp_ne2 (by omega)]
                rw [fU a j (by omega) (by omega)]
                simp (disch := omega) only [hFA3, hFB3, hFA2, hFB2, hFA1, hFB1, hFS]
              · rw [gUp_ne2 (by omega), gUp_ne2 (by omega)]
                exact qU
              · rw [gUp_eq2 rfl rfl]
              · rw [gUp_ne2 (by omega), gUp_eq2 rfl rfl]
                omega
              · rw [gUp_ne2 (by omega), gUp_ne2 (by omega), show (t : Int) + 1 = ((t + 1 : Nat) : Int) by omega]
                exact u0
              · refine aSd_of (a := t) (x4 := x4) (x5 := x5) (x6 := x6) (a0 := xB1) (a1 := xB2) (a2 := xB3) ?_ (by omega) hkd ?_ (by omega) ?_ ?_ ?_ ?_ ?_ ?_ ?_ ?_ ?_ ?_ ?_
                · rw [gUp_ne2 (by omega), gUp_ne2 (by omega)]
                  rw [fU 0 35 (by omega) (by omega)]
                  simp (disch := omega) only [hFA3, hFB3, hFA2, hFB2, hFA1, hFB1, hFS]
                  exact h35
                · show (gHd _ ((t + 1 : Nat) : Int)).1 = aCk kd
                  rw [gHd_at (by omega)]
                · rw [gHd_ne (by omega), gHd_at (by omega)]
                · rw [gUp_ne2 (by omega), gUp_ne2 (by omega)]
                  exact u0
                · intro _
                  rw [gUp_ne2 (by omega), gUp_ne2 (by omega)]
                  exact u4
                · intro _
                  rw [gUp_ne2 (by omega), gUp_ne2 (by omega)]
                  exact u5
                · intro z; omega
                · intro z; omega
                · intro z
                  rw [gUp_ne2 (by omega), gUp_ne2 (by omega)]
                  exact u6 z
                · exact z6
                · rw [gUp_ne2 (by omega), gUp_ne2 (by omega)]
                  rw [fU _ _ (by omega) (by omega)]
                  simp (disch := omega) only [hFA3, hFB3, hFA2, hFB2, hyA1]
                · rw [gUp_ne2 (by omega), gUp_ne2 (by omega)]
                  rw [fU _ _ (by omega) (by omega)]
                  simp (disch := omega) only [hFA3, hFB3, hyA2]
                · rw [gUp_ne2 (by omega), gUp_ne2 (by omega)]
                  rw [fU _ _ (by omega) (by omega)]
                  exact hyA3
            · have hne1 : ¬ kd = 1 := by omega
              refine Gx_astore_n_3 dX0_readsSort_75 (Nat.le_of_ble_eq_true rfl) (Nat.ne_of_beq_eq_false rfl) ?_
              refine Gx_aload_n (i := 3) dX0_readsSort_76 rfl rfl ?_
              refine Gx_ifnonnull (tgt := 82) dX0_readsSort_77 (by decide) (fun c77 => ?_) (fun c77 => ?_)
              · exfalso
                omega
              · refine Gx_iconst ⟨by decide, by decide⟩ dX0_readsSort_80 ?_
                refine Gx_ireturn dX0_readsSort_81 (Or.inl rfl) ?_
                refine k0 q _ ?_ ?_ ?_
                · simp [pSort, Bind.bind, Except.bind, Pure.pure, Except.pure, *]
                · intro a j ha hn9
                  rw [fU a j (by omega) (by omega)]
                  simp (disch := omega) only [hFA3, hFB3, hFA2, hFB2, hFA1, hFB1, hFS]
                · exact qU
          · refine Gx_aload_n (i := 0) dX0_readsSort_61 rfl rfl ?_
            refine Gx_aload_n (i := 2) dX0_readsSort_62 rfl rfl ?_
            refine cl_X0_188 (bc' := 0) (bs' := 0) dX0_readsSort_63 rfl rfl ⟨(Nat.le_of_ble_eq_true rfl), (Nat.le_of_ble_eq_true rfl)⟩ rfl (by first | omega | decide) (by first | omega | decide) ?_
            refine ct_X0_readsWarm (b := b) (n := n) (q0 := qB3) (by omega) hTA3 hqA3 (by omega) (fun q x4 x5 x6 vU hm fU qU u0 u4 u5 u6 z6 => ?_) (fun q vU hm fU qU => ?_)
            · refine Gx_goto (tgt := 75) dX0_readsSort_66 (by decide) ?_
              have hkd3 : kd = 3 := by omega
              have hck : (aCk 3, (0 : Int)) = (aCk kd, 0) := by rw [hkd3]
              rw [← hkd3] at hm
              rw [hck]
              have hne1 : ¬ kd = 1 := by omega
              refine gx_X0_readsSort75 (u := vU) (kd := kd) h66 hkd (by rw [fU 0 21 (by omega) (by omega)]; simp (disch := omega) only [hFA3, hFB3, hFA2, hFB2, hFA1, hFB1, hFS]; exact hn) hn0 ?_
              refine k1 q (fun k => if k = 0 then kd else if k = 1 then xB1 else if k = 2 then xB2 else if k = 3 then xB3 else if k = 4 then x4 else if k = 5 then x5 else x6) _ ?_ ?_ ?_ ?_ ?_ ?_ ?_
              · clear hkd3 hck u6 z6
                simp [pSort, Bind.bind, Except.bind, Pure.pure, Except.pure, *]
              · intro a j ha hn9
                rw [gUp_ne2 (by omega), gUp_ne2 (by omega)]
                rw [fU a j (by omega) (by omega)]
                simp (disch := omega) only [hFA3, hFB3, hFA2, hFB2, hFA1, hFB1, hFS]
              · rw [gUp_ne2 (by omega), gUp_ne2 (by omega)]
                exact qU
              · rw [gUp_eq2 rfl rfl]
              · rw [gUp_ne2 (by omega), gUp_eq2 rfl rfl]
                omega
              · rw [gUp_ne2 (by omega), gUp_ne2 (by omega), show (t : Int) + 1 = ((t + 1 : Nat) : Int) by omega]
                exact u0
              · refine aSd_of (a := t) (x4 := x4) (x5 := x5) (x6 := x6) (a0 := xB1) (a1 := xB2) (a2 := xB3) ?_ (by omega) hkd ?_ (by omega) ?_ ?_ ?_ ?_ ?_ ?_ ?_ ?_ ?_ ?_ ?_
                · rw [gUp_ne2 (by omega), gUp_ne2 (by omega)]
                  rw [fU 0 35 (by omega) (by omega)]
                  simp (disch := omega) only [hFA3, hFB3, hFA2, hFB2, hFA1, hFB1, hFS]
                  exact h35
                · show (gHd _ ((t + 1 : Nat) : Int)).1 = aCk kd
                  rw [gHd_at (by omega)]
                · rw [gHd_ne (by omega), gHd_at (by omega)]
                · rw [gUp_ne2 (by omega), gUp_ne2 (by omega)]
                  exact u0
                · intro _
                  rw [gUp_ne2 (by omega), gUp_ne2 (by omega)]
                  exact u4
                · intro _
                  rw [gUp_ne2 (by omega), gUp_ne2 (by omega)]
                  exact u5
                · intro z; omega
                · intro z; omega
                · intro z; omega
                · intro _ _; exact z6 (by decide) (by decide)
                · rw [gUp_ne2 (by omega), gUp_ne2 (by omega)]
                  rw [fU _ _ (by omega) (by omega)]
                  simp (disch := omega) only [hFA3, hFB3, hFA2, hFB2, hyA1]
                · rw [gUp_ne2 (by omega), gUp_ne2 (by omega)]
                  rw [fU _ _ (by omega) (by omega)]
                  simp (disch := omega) only [hFA3, hFB3, hyA2]
                · rw [gUp_ne2 (by omega), gUp_ne2 (by omega)]
                  rw [fU _ _ (by omega) (by omega)]
                  exact hyA3
            · rw [← (show kd = 3 by omega)] at hm
              have hne1 : ¬ kd = 1 := by omega
              refine Gx_goto (tgt := 75) dX0_readsSort_66 (by decide) ?_
              refine Gx_astore_n_3 dX0_readsSort_75 (Nat.le_of_ble_eq_true rfl) (Nat.ne_of_beq_eq_false rfl) ?_
              refine Gx_aload_n (i := 3) dX0_readsSort_76 rfl rfl ?_
              refine Gx_ifnonnull (tgt := 82) dX0_readsSort_77 (by decide) (fun c77 => ?_) (fun c77 => ?_)
              · exfalso
                omega
              · refine Gx_iconst ⟨by decide, by decide⟩ dX0_readsSort_80 ?_
                refine Gx_ireturn dX0_readsSort_81 (Or.inl rfl) ?_
                refine k0 q _ ?_ ?_ ?_
                · simp [pSort, Bind.bind, Except.bind, Pure.pure, Except.pure, *]
                · intro a j ha hn9
                  rw [fU a j (by omega) (by omega)]
                  simp (disch := omega) only [hFA3, hFB3, hFA2, hFB2, hFA1, hFB1, hFS]
                · exact qU
        · refine Gx_new (k := 3) (C := RX4) (T := TX4) (N := 1) (bc' := 0) (bs' := 0) dX0_readsSort_44 rfl (by decide) rfl in_X4 tyX4_ok (by decide) q603 q604 q121 (by decide) (by decide) ?_
          rw [gHd_up (by omega)]
          refine Gx_dup (Nat.ne_of_beq_eq_false rfl) dX0_readsSort_47 ?_
          refine Gx_aload_n (i := 2) dX0_readsSort_48 rfl rfl ?_
          refine cl_X0_185_3 dX0_readsSort_49 rfl (gHd_at (by omega)) ⟨(Nat.le_of_ble_eq_true rfl), (Nat.le_of_ble_eq_true rfl)⟩ rfl ?_
          refine ct_X4_init_3 (gHd_at (by omega)) ?_
          refine Gx_goto (tgt := 75) dX0_readsSort_52 (by decide) ?_
          have hkd1 : kd = 1 := by omega
          refine Gx_name (fun vU eU => ?_)
          have uF : ∀ a j, a < ((t + 1 : Nat) : Int) → vU a j = vA3 a j := fun a j ha => by rw [eU, gUp_ne2 (by omega), gNf_ne (by omega)]
          have u0 : vU ((t + 1 : Nat) : Int) 0 = t := by rw [eU, gUp_eq2 rfl rfl]
          have hck : ((3 : Nat), (0 : Int)) = (aCk kd, 0) := by rw [hkd1]; rfl
          rw [hck]
          refine gx_X0_readsSort75 (u := vU) (kd := kd) h66 hkd (by rw [uF 0 21 (by omega)]; simp (disch := omega) only [hFA3, hFB3, hFA2, hFB2, hFA1, hFB1, hFS]; exact hn) hn0 ?_
          refine k1 qB3 (fun k => if k = 0 then kd else if k = 1 then xB1 else if k = 2 then xB2 else if k = 3 then xB3 else if k = 4 then 0 else if k = 5 then 0 else 0) _ ?_ ?_ ?_ ?_ ?_ ?_ ?_
          · simp [pSort, Bind.bind, Except.bind, Pure.pure, Except.pure, *]
          · intro a j ha hn9
            rw [gUp_ne2 (by omega), gUp_ne2 (by omega)]
            rw [uF a j (by omega)]
            simp (disch := omega) only [hFA3, hFB3, hFA2, hFB2, hFA1, hFB1, hFS]
          · rw [gUp_ne2 (by omega), gUp_ne2 (by omega)]
            rw [uF 0 18 (by omega)]
            exact hqA3
          · rw [gUp_eq2 rfl rfl]
          · rw [gUp_ne2 (by omega), gUp_eq2 rfl rfl]
            omega
          · rw [gUp_ne2 (by omega), gUp_ne2 (by omega), show (t : Int) + 1 = ((t + 1 : Nat) : Int) by omega]
            exact u0
          · refine aSd_of (a := t) (x4 := 0) (x5 := 0) (x6 := 0) (a0 := xB1) (a1 := xB2) (a2 := xB3) ?_ (by omega) hkd ?_ (by omega) ?_ ?_ ?_ ?_ ?_ ?_ ?_ ?_ ?_ ?_ ?_
            · rw [gUp_ne2 (by omega), gUp_ne2 (by omega)]
              rw [uF 0 35 (by omega)]
              simp (disch := omega) only [hFA3, hFB3, hFA2, hFB2, hFA1, hFB1, hFS]
              exact h35
            · show (gHd _ ((t + 1 : Nat) : Int)).1 = aCk kd
              rw [gHd_at (by omega)]
            · rw [gHd_ne (by omega), gHd_at (by omega)]
            · rw [gUp_ne2 (by omega), gUp_ne2 (by omega)]
              exact u0
            · intro z; omega
            · intro z; omega
            · intro _; rfl
            · intro _; rfl
            · intro z; omega
            · intro _ _; rfl
            · rw [gUp_ne2 (by omega), gUp_ne2 (by omega)]
              rw [uF _ _ (by omega)]
              simp (disch := omega) only [hFA3, hFB3, hFA2, hFB2, hyA1]
            · rw [gUp_ne2 (by omega), gUp_ne2 (by omega)]
              rw [uF _ _ (by omega)]
              simp (disch := omega) only [hFA3, hFB3, hyA2]
            · rw [gUp_ne2 (by omega), gUp_ne2 (by omega)]
              rw [uF _ _ (by omega)]
              exact hyA3
      · refine Gx_if_ne (tgt := 24) dX0_readsSort_19 (by decide) (fun hz => absurd hz (by decide)) (fun _ => ?_)
        refine Gx_iconst ⟨by decide, by decide⟩ dX0_readsSort_22 ?_
        refine Gx_ireturn dX0_readsSort_23 (Or.inl rfl) ?_
        first
          | (refine k0 qB3 _ ?_ ?_ ?_
             · simp [pSort, Bind.bind, Except.bind, Pure.pure, Except.pure, *]; done
             · intro a j ha hn; simp (disch := omega) only [hFB1, hqB1, hxB1, hFB2, hqB2, hxB2, hFB3, hqB3, hxB3, hFA2, hFA1, hFS]; done
             · exact hqB3)
          | (refine k0 qB2 _ ?_ ?_ ?_
             · simp [pSort, Bind.bind, Except.bind, Pure.pure, Except.pure, *]; done
             · intro a j ha hn; simp (disch := omega) only [hFB1, hqB1, hxB1, hFB2, hqB2, hxB2, hFB3, hqB3, hxB3, hFA1, hFS]; done
             · exact hqB2)
          | (refine k0 qB1 _ ?_ ?_ ?_
             · simp [pSort, Bind.bind, Except.bind, Pure.pure, Except.pure, *]; done
             · intro a j ha hn; simp (disch := omega) only [hFB1, hqB1, hxB1, hFB2, hqB2, hxB2, hFB3, hqB3, hxB3, hFS]; done
             · exact hqB1)
    · refine Gx_if_ne (tgt := 24) dX0_readsSort_19 (by decide) (fun hz => absurd hz (by decide)) (fun _ => ?_)
      refine Gx_iconst ⟨by decide, by decide⟩ dX0_readsSort_22 ?_
      refine Gx_ireturn dX0_readsSort_23 (Or.inl rfl) ?_
      first
        | (refine k0 qB3 _ ?_ ?_ ?_
           · simp [pSort, Bind.bind, Except.bind, Pure.pure, Except.pure, *]; done
           · intro a j ha hn; simp (disch := omega) only [hFB1, hqB1, hxB1, hFB2, hqB2, hxB2, hFA2, hFA1, hFS]; done
           · exact hqB3)
        | (refine k0 qB2 _ ?_ ?_ ?_
           · simp [pSort, Bind.bind, Except.bind, Pure.pure, Except.pure, *]; done
           · intro a j ha hn; simp (disch := omega) only [hFB1, hqB1, hxB1, hFB2, hqB2, hxB2, hFA1, hFS]; done
           · exact hqB2)
        | (refine k0 qB1 _ ?_ ?_ ?_
           · simp [pSort, Bind.bind, Except.bind, Pure.pure, Except.pure, *]; done
           · intro a j ha hn; simp (disch := omega) only [hFB1, hqB1, hxB1, hFB2, hqB2, hxB2, hFS]; done
           · exact hqB1)
  · refine Gx_if_ne (tgt := 24) dX0_readsSort_19 (by decide) (fun hz => absurd hz (by decide)) (fun _ => ?_)
    refine Gx_iconst ⟨by decide, by decide⟩ dX0_readsSort_22 ?_
    refine Gx_ireturn dX0_readsSort_23 (Or.inl rfl) ?_
    first
      | (refine k0 qB3 _ ?_ ?_ ?_
         · simp [pSort, Bind.bind, Except.bind, Pure.pure, Except.pure, *]; done
         · intro a j ha hn; simp (disch := omega) only [hFB1, hqB1, hxB1, hFA2, hFA1, hFS]; done
         · exact hqB3)
      | (refine k0 qB2 _ ?_ ?_ ?_
         · simp [pSort, Bind.bind, Except.bind, Pure.pure, Except.pure, *]; done
         · intro a j ha hn; simp (disch := omega) only [hFB1, hqB1, hxB1, hFA1, hFS]; done
         · exact hqB2)
      | (refine k0 qB1 _ ?_ ?_ ?_
         · simp [pSort, Bind.bind, Except.bind, Pure.pure, Except.pure, *]; done
         · intro a j ha hn; simp (disch := omega) only [hFB1, hqB1, hxB1, hFS]; done
         · exact hqB1)
end
