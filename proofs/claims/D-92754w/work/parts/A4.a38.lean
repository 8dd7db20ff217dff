/-! AcornYears: hope, plan -/
section
variable {Γ : gC} {v : gM} {K : gH} {t : Nat} {Q : gQ}
theorem pw12_6 : ∀ n : Nat, n ≤ 6 → (1 : Int) ≤ 12 ^ n ∧ (12 : Int) ^ n ≤ 2985984 := by decide
theorem pow3_n : ∀ n : Nat, n ≤ 6 → ((3 ^ n : Nat) : Int) = (3 : Int) ^ n := by decide

set_option maxHeartbeats 1000000 in
theorem lp_X0_hope0 {n : Int} {bc bs : Nat} (hn : n ≤ 6) (cont : Gx Γ mX0_hope 41 [(2, 0), (0, n), (0, 3 ^ n.toNat), (1, 12 ^ n.toNat), (9, 0), (0, n), (9, 0), (9, 0), (9, 0), (9, 0), (9, 0), (9, 0), (9, 0), (9, 0)] [] v (gHd K) t bc bs Q) : ∀ (j : Nat) (k : Int), 0 ≤ k → k + j = n → Gx Γ mX0_hope 19 [(2, 0), (0, n), (0, 3 ^ k.toNat), (1, 12 ^ k.toNat), (9, 0), (0, k), (9, 0), (9, 0), (9, 0), (9, 0), (9, 0), (9, 0), (9, 0), (9, 0)] [] v (gHd K) t bc bs Q := by
  intro j
  induction j with
  | zero =>
    intro k h0 h1
    have p3 := pow3_6 k.toNat (by omega)
    have p12 := pw12_6 k.toNat (by omega)
    refine Gx_iload dX0_hope_19 rfl ?_
    refine Gx_iload_n (i := 1) dX0_hope_21 rfl rfl ?_
    refine Gx_icmp_ge (tgt := 41) dX0_hope_22 (by decide) (fun c22 => ?_) (fun c22 => ?_)
    · have e0 : k = n := by omega
      subst e0
      exact cont
    · exfalso
      omega
  | succ j ih =>
    intro k h0 h1
    have p3 := pow3_6 k.toNat (by omega)
    have p12 := pw12_6 k.toNat (by omega)
    refine Gx_iload dX0_hope_19 rfl ?_
    refine Gx_iload_n (i := 1) dX0_hope_21 rfl rfl ?_
    refine Gx_icmp_ge (tgt := 41) dX0_hope_22 (by decide) (fun c22 => ?_) (fun c22 => ?_)
    · exfalso
      omega
    · refine Gx_iload_n (i := 2) dX0_hope_25 rfl rfl ?_
      refine Gx_iconst ⟨by decide, by decide⟩ dX0_hope_26 ?_
      refine Gx_imul dX0_hope_27 ?_
      try simp (disch := omega) only [w32_id]
      refine Gx_istore_n_2 dX0_hope_28 (Nat.le_of_ble_eq_true rfl) (Nat.ne_of_beq_eq_false rfl) ?_
      refine Gx_lload_n (i := 3) dX0_hope_29 rfl rfl ?_
      refine Gx_ldc2 (n := 12) dX0_hope_30 rfl q1113 (by decide) ?_
      refine Gx_lmul dX0_hope_33 ?_
      try simp (disch := omega) only [w64_id]
      refine Gx_lstore_n_3 dX0_hope_34 (Nat.le_of_ble_eq_true rfl) (Nat.ne_of_beq_eq_false rfl) ?_
      refine Gx_iinc_5 dX0_hope_35 (Nat.le_of_ble_eq_true rfl) (Nat.ne_of_beq_eq_false rfl) ?_
      try simp (disch := omega) only [w32_id]
      refine Gx_goto (tgt := 19) dX0_hope_38 (by decide) ?_
      have hi := ih (k + 1) (by omega) (by omega)
      rw [show (k + 1).toNat = k.toNat + 1 by omega, Int.pow_succ, Int.pow_succ] at hi
      exact hi
set_option maxHeartbeats 4000000 in
theorem lp_X0_hope1 {n sm c : Int} {bc bs : Nat} {v0 : gM} (hH : aHy v0 (gHd K)) (hch : yCh (aN v0 (gHd K) 17)) (hn : 1 ≤ n ∧ n ≤ 6) (hc : 0 ≤ c ∧ c ≤ 1000) (cont : ∀ v1, aScr v0 v1 → Gx Γ mX0_hope 136 [(2, 0), (0, n), (0, 3 ^ n.toNat), (1, 12 ^ n.toNat), (9, 0), (1, sm), (9, 0), (0, c), (1, (hSt (aN v0 (gHd K) 17) c n.toNat).2.1), (9, 0), (1, (hSt (aN v0 (gHd K) 17) c n.toNat).2.2.1), (9, 0), (0, (hSt (aN v0 (gHd K) 17) c n.toNat).1), (0, n)] [] v1 (gHd K) t bc bs Q) : ∀ (j : Nat) (k : Int) (v : gM), 0 ≤ k → k + j = n → aScr v0 v → aN v (gHd K) 23 = (hSt (aN v0 (gHd K) 17) c k.toNat).2.2.2 → Gx Γ mX0_hope 77 [(2, 0), (0, n), (0, 3 ^ n.toNat), (1, 12 ^ n.toNat), (9, 0), (1, sm), (9, 0), (0, c), (1, (hSt (aN v0 (gHd K) 17) c k.toNat).2.1), (9, 0), (1, (hSt (aN v0 (gHd K) 17) c k.toNat).2.2.1), (9, 0), (0, (hSt (aN v0 (gHd K) 17) c k.toNat).1), (0, k)] [] v (gHd K) t bc bs Q := by
  intro j
  induction j with
  | zero =>
    intro k v h0 h1 hS hN
    refine Gx_iload dX0_hope_77 rfl ?_
    refine Gx_iload_n (i := 1) dX0_hope_79 rfl rfl ?_
    refine Gx_icmp_ge (tgt := 136) dX0_hope_80 (by decide) (fun c80 => ?_) (fun c80 => ?_)
    · have e0 : k = n := by omega
      subst e0
      exact cont v hS
    · exfalso
      omega
  | succ j ih =>
    intro k v h0 h1 hS hN
    have hH0 := hH
    obtain ⟨g1, g2, g3, g4, g5, g6⟩ := hH
    obtain ⟨s1, s2, s3, s4, s5, s6, s7⟩ := hSt_le g2 hch hc.1 k.toNat
    have p12 := pw12_6 k.toNat (by omega)
    have hd : 0 ≤ (hSt (aN v0 (gHd K) 17) c k.toNat).1 % 3 ∧ (hSt (aN v0 (gHd K) 17) c k.toNat).1 % 3 ≤ 2 := by omega
    have hcc := hch _ hd.1 hd.2
    have hdl := ySd_le (h := 0) (pg := 0) hd (yOK_tr s5) s5.2.2.2.2.1 s5.2.2.2.2.2.1 s5.2.2.2.2.2.2.1
    have hy0 := g2.2.2.2.2.2.2.2.2.2
    rw [aN_c31] at hy0
    have hyy : v 23 2 = v0 17 2 + k := by
      have z := congrFun (congrFun hN 38) 31
      rw [s7] at z
      have z2 : v 23 2 = v0 17 2 + (k.toNat : Int) := z
      omega
    have e5 : v 5 ((hSt (aN v0 (gHd K) 17) c k.toNat).1 % 3) = (aN v0 (gHd K) 17) 55 ((hSt (aN v0 (gHd K) 17) c k.toNat).1 % 3) := by
      rw [hS 5 _ (by omega)]
      exact (if_pos hd).symm
    have hhf : aHf v = 0 := by
      unfold aHf
      rw [hS 0 36 (by omega), if_neg (by omega)]
    refine Gx_iload dX0_hope_77 rfl ?_
    refine Gx_iload_n (i := 1) dX0_hope_79 rfl rfl ?_
    refine Gx_icmp_ge (tgt := 136) dX0_hope_80 (by decide) (fun c80 => ?_) (fun c80 => ?_)
    · exfalso
      omega
    · refine Gx_lload dX0_hope_83 rfl ?_
      refine Gx_aload_n (i := 0) dX0_hope_85 rfl rfl ?_
      refine gf_X0_44_20 dX0_hope_86 rfl rfl ?_
      refine Gx_iload dX0_hope_89 rfl ?_
      refine Gx_iconst ⟨by decide, by decide⟩ dX0_hope_91 ?_
      refine Gx_irem dX0_hope_92 (by first | omega | (simp (disch := omega) only [w32_id]; omega)) ?_
      rw [Int.tmod_eq_emod_of_nonneg (by omega)]
      refine Gx_iaload dX0_hope_93 rfl (by first | omega | (simp (disch := omega) only [w32_id]; omega)) ?_
      rw [e5]
      have ml := mul_le_of s3.1 s3.2 hcc.1 hcc.2
      refine Gx_i2l dX0_hope_94 ?_
      refine Gx_lmul dX0_hope_95 ?_
      rw [w64_id (by omega) (by omega)]
      refine Gx_lstore_8 dX0_hope_96 (Nat.le_of_ble_eq_true rfl) (Nat.ne_of_beq_eq_false rfl) ?_
      refine Gx_aload_n (i := 0) dX0_hope_98 rfl rfl ?_
      refine Gx_aload_n (i := 0) dX0_hope_99 rfl rfl ?_
      refine gf_X0_90_20 dX0_hope_100 rfl rfl ?_
      refine Gx_iload dX0_hope_103 rfl ?_
      refine Gx_iconst ⟨by decide, by decide⟩ dX0_hope_105 ?_
      refine Gx_irem dX0_hope_106 (by first | omega | (simp (disch := omega) only [w32_id]; omega)) ?_
      rw [Int.tmod_eq_emod_of_nonneg (by omega)]
      refine Gx_iconst ⟨by decide, by decide⟩ dX0_hope_107 ?_
      refine cl_X0_402 dX0_hope_108 rfl rfl ⟨(Nat.le_of_ble_eq_true rfl), (Nat.le_of_ble_eq_true rfl)⟩ rfl ?_
      refine ct_X0_pass (Or.inr rfl) hd (aScr_W g1 hS) (by rw [hN]; exact s5) (by omega) (by rw [hS 0 35 (by omega)]; exact g4) (aScr_63 g1 hS g5) (fun vP hps => ?_)
      have e7 : vP 23 7 = ySd (hSt (aN v0 (gHd K) 17) c k.toNat).2.2.2 ((hSt (aN v0 (gHd K) 17) c k.toNat).1 % 3) 0 0 := by
        have := hps.2.2.1
        rw [hN, hhf] at this
        exact this
      refine Gx_lload dX0_hope_111 rfl ?_
      refine Gx_aload_n (i := 0) dX0_hope_113 rfl rfl ?_
      refine gf_X0_90_20 dX0_hope_114 rfl rfl ?_
      refine gf_X0_399_21 dX0_hope_117 rfl rfl ?_
      rw [e7]
      refine Gx_i2l dX0_hope_120 ?_
      refine Gx_ladd dX0_hope_121 ?_
      rw [w64_id (by omega) (by omega)]
      refine Gx_lstore_10 dX0_hope_122 (Nat.le_of_ble_eq_true rfl) (Nat.ne_of_beq_eq_false rfl) ?_
      refine Gx_iload dX0_hope_124 rfl ?_
      refine Gx_iconst ⟨by decide, by decide⟩ dX0_hope_126 ?_
      refine Gx_idiv dX0_hope_127 (by first | omega | (simp (disch := omega) only [w32_id]; omega)) ?_
      rw [Int.tdiv_eq_ediv_of_nonneg (by omega)]
      try simp (disch := omega) only [w32_id]
      refine Gx_istore_12 dX0_hope_128 (Nat.le_of_ble_eq_true rfl) (Nat.ne_of_beq_eq_false rfl) ?_
      refine Gx_iinc_13 dX0_hope_130 (Nat.le_of_ble_eq_true rfl) (Nat.ne_of_beq_eq_false rfl) ?_
      try simp (disch := omega) only [w32_id]
      refine Gx_goto (tgt := 77) dX0_hope_133 (by decide) ?_
      have hi := ih (k + 1) vP (by omega) (by omega) (aScr_t hS (oPs_scr hps)) (by
        rw [hps.1, hN, hhf, show (k + 1).toNat = k.toNat + 1 by omega]
        rfl)
      rw [show (k + 1).toNat = k.toNat + 1 by omega] at hi
      have x1 : (hSt (aN v0 (gHd K) 17) c (k.toNat + 1)).1 = (hSt (aN v0 (gHd K) 17) c k.toNat).1 / 3 := rfl
      have x2 : (hSt (aN v0 (gHd K) 17) c (k.toNat + 1)).2.1 = (hSt (aN v0 (gHd K) 17) c k.toNat).2.1 * (aN v0 (gHd K) 17) 55 ((hSt (aN v0 (gHd K) 17) c k.toNat).1 % 3) := by
        rw [← s6]
        rfl
      have x3 : (hSt (aN v0 (gHd K) 17) c (k.toNat + 1)).2.2.1 = (hSt (aN v0 (gHd K) 17) c k.toNat).2.2.1 + ySd (hSt (aN v0 (gHd K) 17) c k.toNat).2.2.2 ((hSt (aN v0 (gHd K) 17) c k.toNat).1 % 3) 0 0 := rfl
      rw [x1, x2, x3] at hi
      exact hi
theorem hSum_lea {u : gM} {n : Nat} (hu : yOK u) (hc : yCh u) (hn : n ≤ 6) : ∀ c : Nat, 0 ≤ hSum u n c ∧ hSum u n c ≤ 30000000000 * c
  | 0 => ⟨Int.le_refl _, by show (0 : Int) ≤ _; omega⟩
  | c + 1 => by
    obtain ⟨h1, h2⟩ := hSum_lea hu hc hn c
    obtain ⟨s1, s2, s3, s4, s5, s6, s7⟩ := hSt_le hu hc (c := (c : Int)) (by omega) n
    have p12 := pw12_6 n hn
    have ml := mul_le_of s3.1 (Int.le_trans s3.2 p12.2) s4.1 (show (hSt u c n).2.2.1 ≤ 8640 by omega)
    unfold hSum
    omega

set_option maxHeartbeats 4000000 in
theorem lp_X0_hope2 {n : Int} {bc bs : Nat} {v0 : gM} (hH : aHy v0 (gHd K)) (hch : yCh (aN v0 (gHd K) 17)) (hn : 1 ≤ n ∧ n ≤ 6) (k1 : ∀ v1, aScr v0 v1 → Q (0, 1) (tFrac v1 (hSum (aN v0 (gHd K) 17) n.toNat (3 ^ n.toNat)) (12 ^ n.toNat)) (gHd K) t) : ∀ (j : Nat) (c : Int) (v : gM) (z8 z9 z10 z11 z12 z13 : gV), 0 ≤ c → c + j = 3 ^ n.toNat → aScr v0 v → Gx Γ mX0_hope 47 [(2, 0), (0, n), (0, 3 ^ n.toNat), (1, 12 ^ n.toNat), (9, 0), (1, hSum (aN v0 (gHd K) 17) n.toNat c.toNat), (9, 0), (0, c), z8, z9, z10, z11, z12, z13] [] v (gHd K) t bc bs Q := by
  intro j
  induction j with
  | zero =>
    intro c v z8 z9 z10 z11 z12 z13 h0 h1 hS
    have p3 := pow3_6 n.toNat (by omega)
    have p12 := pw12_6 n.toNat (by omega)
    have p3n := pow3_n n.toNat (by omega)
    have hH0 := hH
    obtain ⟨g1, g2, g3, g4, g5, g6⟩ := hH
    refine Gx_iload dX0_hope_47 rfl ?_
    refine Gx_iload_n (i := 2) dX0_hope_49 rfl rfl ?_
    refine Gx_icmp_ge (tgt := 152) dX0_hope_50 (by decide) (fun c50 => ?_) (fun c50 => ?_)
    · refine Gx_aload_n (i := 0) dX0_hope_152 rfl rfl ?_
      refine Gx_lload dX0_hope_153 rfl ?_
      refine Gx_lload_n (i := 3) dX0_hope_155 rfl rfl ?_
      refine Gx_iconst ⟨by decide, by decide⟩ dX0_hope_156 ?_
      refine cl_X0_484 dX0_hope_157 rfl rfl ⟨(Nat.le_of_ble_eq_true rfl), (Nat.le_of_ble_eq_true rfl)⟩ rfl ?_
      refine ct_X0_tell (by omega) ?_
      refine Gx_ireturn dX0_hope_160 trivial ?_
      have e0 : c.toNat = 3 ^ n.toNat := by omega
      rw [e0]
      exact k1 v hS
    · exfalso
      omega
  | succ j ih =>
    intro c v z8 z9 z10 z11 z12 z13 h0 h1 hS
    have p3 := pow3_6 n.toNat (by omega)
    have p12 := pw12_6 n.toNat (by omega)
    have p3n := pow3_n n.toNat (by omega)
    have hH0 := hH
    obtain ⟨g1, g2, g3, g4, g5, g6⟩ := hH
    refine Gx_iload dX0_hope_47 rfl ?_
    refine Gx_iload_n (i := 2) dX0_hope_49 rfl rfl ?_
    refine Gx_icmp_ge (tgt := 152) dX0_hope_50 (by decide) (fun c50 => ?_) (fun c50 => ?_)
    · exfalso
      omega
    · refine Gx_aload_n (i := 0) dX0_hope_53 rfl rfl ?_
      refine gf_X0_90_20 dX0_hope_54 rfl rfl ?_
      refine Gx_aload_n (i := 0) dX0_hope_57 rfl rfl ?_
      refine gf_X0_86_20 dX0_hope_58 rfl rfl ?_
      refine cl_X0_429 dX0_hope_61 rfl rfl ⟨(Nat.le_of_ble_eq_true rfl), (Nat.le_of_ble_eq_true rfl)⟩ rfl ?_
      refine ct_X1_comesTo (fun v2 hct => ?_)
      have n1 := aScr_N g1 hS
      have n2 : aN v2 (gHd K) 23 = (aN v0 (gHd K) 17) := by rw [(oCt_N (aScr_W g1 hS) (by rw [n1]; exact g2) hct).1, n1]
      have s2 := aScr_t hS (oCt_scr hct)
      refine Gx_lconst1 dX0_hope_64 ?_
      refine Gx_lstore_8 dX0_hope_65 (Nat.le_of_ble_eq_true rfl) (Nat.ne_of_beq_eq_false rfl) ?_
      refine Gx_lconst0 dX0_hope_67 ?_
      refine Gx_lstore_10 dX0_hope_68 (Nat.le_of_ble_eq_true rfl) (Nat.ne_of_beq_eq_false rfl) ?_
      refine Gx_iload dX0_hope_70 rfl ?_
      refine Gx_istore_12 dX0_hope_72 (Nat.le_of_ble_eq_true rfl) (Nat.ne_of_beq_eq_false rfl) ?_
      refine Gx_iconst ⟨by decide, by decide⟩ dX0_hope_74 ?_
      refine Gx_istore_13 dX0_hope_75 (Nat.le_of_ble_eq_true rfl) (Nat.ne_of_beq_eq_false rfl) ?_
      have hb := hSum_lea g2 hch (n := n.toNat) (by omega) c.toNat
      have hi1 := lp_X0_hope1 (Γ := Γ) (bc := bc) (bs := bs) (t := t) (Q := Q) (sm := hSum (aN v0 (gHd K) 17) n.toNat c.toNat) hH0 hch hn (c := c) (by omega) (fun v3 s3 => ?_) n.toNat 0 v2 (by omega) (by omega) s2 n2
      · exact hi1
      · obtain ⟨q1, q2, q3, q4, q5, q6, q7⟩ := hSt_le g2 hch (c := c) (by omega) n.toNat
        have ml := mul_le_of q3.1 (Int.le_trans q3.2 p12.2) q4.1 (show (hSt (aN v0 (gHd K) 17) c n.toNat).2.2.1 ≤ 8640 by omega)
        refine Gx_lload dX0_hope_136 rfl ?_
        refine Gx_lload dX0_hope_138 rfl ?_
        refine Gx_lload dX0_hope_140 rfl ?_
        refine Gx_lmul dX0_hope_142 ?_
        rw [w64_id (x := _ * _) (by omega) (by omega)]
        refine Gx_ladd dX0_hope_143 ?_
        rw [w64_id (by omega) (by omega)]
        refine Gx_lstore_5 dX0_hope_144 (Nat.le_of_ble_eq_true rfl) (Nat.ne_of_beq_eq_false rfl) ?_
        refine Gx_iinc_7 dX0_hope_146 (Nat.le_of_ble_eq_true rfl) (Nat.ne_of_beq_eq_false rfl) ?_
        try simp (disch := omega) only [w32_id]
        refine Gx_goto (tgt := 47) dX0_hope_149 (by decide) ?_
        have es : hSum (aN v0 (gHd K) 17) n.toNat (c + 1).toNat = hSum (aN v0 (gHd K) 17) n.toNat c.toNat + (hSt (aN v0 (gHd K) 17) c n.toNat).2.1 * (hSt (aN v0 (gHd K) 17) c n.toNat).2.2.1 := by
          rw [show (c + 1).toNat = c.toNat + 1 by omega]
          show _ + (hSt (aN v0 (gHd K) 17) (c.toNat : Int) n.toNat).2.1 * (hSt (aN v0 (gHd K) 17) (c.toNat : Int) n.toNat).2.2.1 = _
          rw [show (c.toNat : Int) = c by omega]
        rw [← es]
        exact ih (c + 1) v3 _ _ _ _ _ _ (by omega) (by omega) s3
set_option maxHeartbeats 1000000 in
theorem ct_X0_hope {n : Int} (hH : aHy v (gHd K)) (hch : yCh (aN v (gHd K) 17)) (kB : ¬ (1 ≤ n ∧ n ≤ 6) → Q (0, -1) v (gHd K) t) (k1 : (1 ≤ n ∧ n ≤ 6) → ∀ v1, aScr v v1 → Q (0, 1) (tFrac v1 (hSum (aN v (gHd K) 17) n.toNat (3 ^ n.toNat)) (12 ^ n.toNat)) (gHd K) t) : Ctr Γ mX0_hope [(2, 0), (0, n)] v (gHd K) t Q := by
  refine Ctr.ofG (ls := [(2, 0), (0, n), (9, 0), (9, 0), (9, 0), (9, 0), (9, 0), (9, 0), (9, 0), (9, 0), (9, 0), (9, 0), (9, 0), (9, 0)]) rfl rfl rfl rfl rfl ?_
  refine Gx_iload_n (i := 1) dX0_hope_0 rfl rfl ?_
  refine Gx_iconst ⟨by decide, by decide⟩ dX0_hope_1 ?_
  refine Gx_bipush dX0_hope_2 ⟨by decide, by decide⟩ ?_
  refine cl_X0_129 dX0_hope_4 rfl ⟨(Nat.le_of_ble_eq_true rfl), (Nat.le_of_ble_eq_true rfl)⟩ rfl ?_
  refine ct_X0_isIn (fun hn => ?_) (fun hn => ?_)
  · refine Gx_if_ne (tgt := 12) dX0_hope_7 (by decide) (fun _ => ?_) (fun hz => absurd hz (by decide))
    refine Gx_iconst ⟨by decide, by decide⟩ dX0_hope_12 ?_
    refine Gx_istore_n_2 dX0_hope_13 (Nat.le_of_ble_eq_true rfl) (Nat.ne_of_beq_eq_false rfl) ?_
    refine Gx_lconst1 dX0_hope_14 ?_
    refine Gx_lstore_n_3 dX0_hope_15 (Nat.le_of_ble_eq_true rfl) (Nat.ne_of_beq_eq_false rfl) ?_
    refine Gx_iconst ⟨by decide, by decide⟩ dX0_hope_16 ?_
    refine Gx_istore_5 dX0_hope_17 (Nat.le_of_ble_eq_true rfl) (Nat.ne_of_beq_eq_false rfl) ?_
    refine lp_X0_hope0 hn.2 ?_ n.toNat 0 (by omega) (by omega)
    refine Gx_lconst0 dX0_hope_41 ?_
    refine Gx_lstore_5 dX0_hope_42 (Nat.le_of_ble_eq_true rfl) (Nat.ne_of_beq_eq_false rfl) ?_
    refine Gx_iconst ⟨by decide, by decide⟩ dX0_hope_44 ?_
    refine Gx_istore_7 dX0_hope_45 (Nat.le_of_ble_eq_true rfl) (Nat.ne_of_beq_eq_false rfl) ?_
    have p3 := pow3_6 n.toNat (by omega)
    exact lp_X0_hope2 (v0 := v) hH hch hn (k1 hn) (3 ^ n.toNat : Int).toNat 0 v _ _ _ _ _ _ (by omega) (by omega) (aScr_r _)
  · refine Gx_if_ne (tgt := 12) dX0_hope_7 (by decide) (fun hz => absurd hz (by decide)) (fun _ => ?_)
    refine Gx_iconst ⟨by decide, by decide⟩ dX0_hope_10 ?_
    refine Gx_ireturn dX0_hope_11 trivial ?_
    exact kB hn
set_option maxHeartbeats 4000000 in
theorem lp_X0_plan1 {n q be ta c : Int} {bc bs : Nat} {v0 : gM} (hH : aHy v0 (gHd K)) (hn : 1 ≤ n ∧ n ≤ 10) (cont : ∀ v1, aScr v0 v1 → Gx Γ mX0_plan 139 [(2, 0), (0, n), (0, q), (0, be), (0, ta), (0, c), (0, (pSt (aN v0 (gHd K) 17) c n.toNat).1), (0, (pSt (aN v0 (gHd K) 17) c n.toNat).2.1), (0, n)] [] v1 (gHd K) t bc bs Q) : ∀ (j : Nat) (k : Int) (v : gM), 0 ≤ k → k + j = n → aScr v0 v → aN v (gHd K) 23 = (pSt (aN v0 (gHd K) 17) c k.toNat).2.2 → Gx Γ mX0_plan 61 [(2, 0), (0, n), (0, q), (0, be), (0, ta), (0, c), (0, (pSt (aN v0 (gHd K) 17) c k.toNat).1), (0, (pSt (aN v0 (gHd K) 17) c k.toNat).2.1), (0, k)] [] v (gHd K) t bc bs Q := by
  intro j
  induction j with
  | zero =>
    intro k v h0 h1 hS hN
    refine Gx_iload dX0_plan_61 rfl ?_
    refine Gx_iload_n (i := 1) dX0_plan_63 rfl rfl ?_
    refine Gx_icmp_ge (tgt := 139) dX0_plan_64 (by decide) (fun c64 => ?_) (fun c64 => ?_)
    · have e0 : k = n := by omega
      subst e0
      exact cont v hS
    · exfalso
      omega
  | succ j ih =>
    intro k v h0 h1 hS hN
    have hH0 := hH
    obtain ⟨g1, g2, g3, g4, g5, g6⟩ := hH
    obtain ⟨s1, s2, s3, s4⟩ := pSt_le (c := c) g2 k.toNat
    have hm := yMay_le s3
    have ha := yAc_le (h := 0) hm (yOK_tr s3)
    have hd := ySd_le (h := 0) (pg := if gHas c k = true then 1 else 0) hm (yOK_tr s3) s3.2.2.2.2.1 s3.2.2.2.2.2.1 s3.2.2.2.2.2.2.1
    have hy0 := g2.2.2.2.2.2.2.2.2.2
    rw [aN_c31] at hy0
    have hyy : v 23 2 = v0 17 2 + k := by
      have z := congrFun (congrFun hN 38) 31
      rw [s4] at z
      have z2 : v 23 2 = v0 17 2 + (k.toNat : Int) := z
      omega
    have hW := aScr_W g1 hS
    have hov : yOK (aN v (gHd K) 23) := by rw [hN]; exact s3
    have hc28 := hov.2.2.2.2.2.2.2.1
    rw [aN_c28] at hc28
    have hhf : aHf v = 0 := by
      unfold aHf
      rw [hS 0 36 (by omega), if_neg (by omega)]
    have ek : (k + 1).toNat = k.toNat + 1 := by omega
    have kk9 : (k.toNat : Int) = k := by omega
    have x1 : (pSt (aN v0 (gHd K) 17) c (k.toNat + 1)).1 = (pSt (aN v0 (gHd K) 17) c k.toNat).1 + (if gHas c k = true then yAc (pSt (aN v0 (gHd K) 17) c k.toNat).2.2 (yMay (pSt (aN v0 (gHd K) 17) c k.toNat).2.2) 0 else 0) := by
      show _ + (if gHas c (k.toNat : Int) = true then _ else _) = _
      rw [kk9]
    have x2 : (pSt (aN v0 (gHd K) 17) c (k.toNat + 1)).2.1 = (pSt (aN v0 (gHd K) 17) c k.toNat).2.1 + ySd (pSt (aN v0 (gHd K) 17) c k.toNat).2.2 (yMay (pSt (aN v0 (gHd K) 17) c k.toNat).2.2) 0 (if gHas c k = true then 1 else 0) := by
      show _ + ySd _ _ 0 (if gHas c (k.toNat : Int) = true then _ else _) = _
      rw [kk9]
    have x3 : (pSt (aN v0 (gHd K) 17) c (k.toNat + 1)).2.2 = yNx (pSt (aN v0 (gHd K) 17) c k.toNat).2.2 (yMay (pSt (aN v0 (gHd K) 17) c k.toNat).2.2) 0 (if gHas c k = true then 1 else 0) := by
      show yNx _ _ 0 (if gHas c (k.toNat : Int) = true then _ else _) = _
      rw [kk9]
    refine Gx_iload dX0_plan_61 rfl ?_
    refine Gx_iload_n (i := 1) dX0_plan_63 rfl rfl ?_
    refine Gx_icmp_ge (tgt := 139) dX0_plan_64 (by decide) (fun c64 => ?_) (fun c64 => ?_)
    · exfalso
      omega
    · refine Gx_aload_n (i := 0) dX0_plan_67 rfl rfl ?_
      refine Gx_aload_n (i := 0) dX0_plan_68 rfl rfl ?_
      refine gf_X0_90_20 dX0_plan_69 rfl rfl ?_
      refine Gx_aload_n (i := 0) dX0_plan_72 rfl rfl ?_
      refine Gx_aload_n (i := 0) dX0_plan_73 rfl rfl ?_
      refine gf_X0_90_20 dX0_plan_74 rfl rfl ?_
      refine gf_X0_279_21 dX0_plan_77 rfl rfl ?_
      refine Gx_iconst ⟨by decide, by decide⟩ dX0_plan_80 ?_
      refine Gx_iadd dX0_plan_81 ?_
      try simp (disch := omega) only [w32_id]
      refine cl_X0_409 dX0_plan_82 rfl rfl ⟨(Nat.le_of_ble_eq_true rfl), (Nat.le_of_ble_eq_true rfl)⟩ rfl ?_
      refine ct_X0_mayOf (n := (gHd K (v 0 8)).2) (pairEq hW.2.2.1.2) (by omega) (by omega) ?_
      rw [show v 23 2 + 1 - 1 = v 23 2 by omega, ← aN_may hov]
      refine Gx_iload dX0_plan_85 rfl ?_
      refine Gx_iload dX0_plan_87 rfl ?_
      refine cl_X0_345 dX0_plan_89 rfl ⟨(Nat.le_of_ble_eq_true rfl), (Nat.le_of_ble_eq_true rfl)⟩ rfl ?_
      refine ct_X0_hasV (by omega) ?_
      refine cl_X0_402 dX0_plan_92 rfl rfl ⟨(Nat.le_of_ble_eq_true rfl), (Nat.le_of_ble_eq_true rfl)⟩ rfl ?_
      refine ct_X0_pass (Or.inr rfl) (yMay_le hov) hW hov (by omega) (by rw [hS 0 35 (by omega)]; exact g4) (aScr_63 g1 hS g5) (fun vP hps => ?_)
      have e6 : vP 23 6 = yAc (pSt (aN v0 (gHd K) 17) c k.toNat).2.2 (yMay (pSt (aN v0 (gHd K) 17) c k.toNat).2.2) 0 := by
        have := hps.2.1
        rw [hN, hhf] at this
        exact this
      have e7 : vP 23 7 = ySd (pSt (aN v0 (gHd K) 17) c k.toNat).2.2 (yMay (pSt (aN v0 (gHd K) 17) c k.toNat).2.2) 0 (if gHas c k = true then 1 else 0) := by
        have := hps.2.2.1
        rw [hN, hhf] at this
        exact this
      refine Gx_iload dX0_plan_95 rfl ?_
      refine Gx_iload dX0_plan_97 rfl ?_
      refine Gx_iload dX0_plan_99 rfl ?_
      refine cl_X0_345 dX0_plan_101 rfl ⟨(Nat.le_of_ble_eq_true rfl), (Nat.le_of_ble_eq_true rfl)⟩ rfl ?_
      refine ct_X0_has (by omega) (fun hh => ?_) (fun hh => ?_)
      · refine Gx_if_eq (tgt := 117) dX0_plan_104 (by decide) (fun hz => absurd hz (by decide)) (fun _ => ?_)
        refine Gx_aload_n (i := 0) dX0_plan_107 rfl rfl ?_
        refine gf_X0_90_20 dX0_plan_108 rfl rfl ?_
        refine gf_X0_374_21 dX0_plan_111 rfl rfl ?_
        rw [e6]
        refine Gx_goto (tgt := 118) dX0_plan_114 (by decide) ?_
        refine Gx_iadd dX0_plan_118 ?_
        try simp (disch := omega) only [w32_id]
        refine Gx_istore_6 dX0_plan_119 (Nat.le_of_ble_eq_true rfl) (Nat.ne_of_beq_eq_false rfl) ?_
        refine Gx_iload dX0_plan_121 rfl ?_
        refine Gx_aload_n (i := 0) dX0_plan_123 rfl rfl ?_
        refine gf_X0_90_20 dX0_plan_124 rfl rfl ?_
        refine gf_X0_399_21 dX0_plan_127 rfl rfl ?_
        rw [e7]
        refine Gx_iadd dX0_plan_130 ?_
        try simp (disch := omega) only [w32_id]
        refine Gx_istore_7 dX0_plan_131 (Nat.le_of_ble_eq_true rfl) (Nat.ne_of_beq_eq_false rfl) ?_
        refine Gx_iinc_8 dX0_plan_133 (Nat.le_of_ble_eq_true rfl) (Nat.ne_of_beq_eq_false rfl) ?_
        try simp (disch := omega) only [w32_id]
        refine Gx_goto (tgt := 61) dX0_plan_136 (by decide) ?_
        have hi := ih (k + 1) vP (by omega) (by omega) (aScr_t hS (oPs_scr hps)) (by rw [hps.1, hN, hhf, ek, x3])
        rw [ek, x1, x2] at hi
        first
        | (rw [if_pos hh] at hi; rw [if_pos hh]; exact hi)
        | (rw [if_neg (by rw [hh]; decide), Int.add_zero] at hi; rw [if_neg (by rw [hh]; decide)]; exact hi)
        | (rw [if_pos hh] at hi; exact hi)
        | (rw [if_neg (by rw [hh]; decide)] at hi; exact hi)
      · refine Gx_if_eq (tgt := 117) dX0_plan_104 (by decide) (fun _ => ?_) (fun hz => absurd hz (by decide))
        refine Gx_iconst ⟨by decide, by decide⟩ dX0_plan_117 ?_
        refine Gx_iadd dX0_plan_118 ?_
        try simp (disch := omega) only [w32_id]
        refine Gx_istore_6 dX0_plan_119 (Nat.le_of_ble_eq_true rfl) (Nat.ne_of_beq_eq_false rfl) ?_
        refine Gx_iload dX0_plan_121 rfl ?_
        refine Gx_aload_n (i := 0) dX0_plan_123 rfl rfl ?_
        refine gf_X0_90_20 dX0_plan_124 rfl rfl ?_
        refine gf_X0_399_21 dX0_plan_127 rfl rfl ?_
        rw [e7]
        refine Gx_iadd dX0_plan_130 ?_
        try simp (disch := omega) only [w32_id]
        refine Gx_istore_7 dX0_plan_131 (Nat.le_of_ble_eq_true rfl) (Nat.ne_of_beq_eq_false rfl) ?_
        refine Gx_iinc_8 dX0_plan_133 (Nat.le_of_ble_eq_true rfl) (Nat.ne_of_beq_eq_false rfl) ?_
        try simp (disch := omega) only [w32_id]
        refine Gx_goto (tgt := 61) dX0_plan_136 (by decide) ?_
        have hi := ih (k + 1) vP (by omega) (by omega) (aScr_t hS (oPs_scr hps)) (by rw [hps.1, hN, hhf, ek, x3])
        rw [ek, x1, x2] at hi
        first
        | (rw [if_pos hh] at hi; rw [if_pos hh]; exact hi)
        | (rw [if_neg (by rw [hh]; decide), Int.add_zero] at hi; rw [if_neg (by rw [hh]; decide)]; exact hi)
        | (rw [if_pos hh] at hi; exact hi)
        | (rw [if_neg (by rw [hh]; decide)] at hi; exact hi)
set_option maxHeartbeats 4000000 in
theorem lp_X0_plan2 {n q : Int} {bc bs : Nat} {v0 : gM} (hH : aHy v0 (gHd K)) (hn : 1 ≤ n ∧ n ≤ 10) (hq : 0 ≤ q ∧ q ≤ 9999) (k9 : (pBest (aN v0 (gHd K) 17) n.toNat q (2 ^ n.toNat)).1 = -9 → ∀ v1, aScr v0 v1 → Q (0, -9) v1 (gHd K) t) (k1 : (pBest (aN v0 (gHd K) 17) n.toNat q (2 ^ n.toNat)).1 ≠ -9 → ∀ v1, aScr v0 v1 → Q (0, (pBest (aN v0 (gHd K) 17) n.toNat q (2 ^ n.toNat)).2) (gUp v1 0 2 (pBest (aN v0 (gHd K) 17) n.toNat q (2 ^ n.toNat)).1) (gHd K) t) : ∀ (j : Nat) (c : Int) (v : gM) (z6 z7 z8 : gV), 0 ≤ c → c + j = 2 ^ n.toNat → aScr v0 v → Gx Γ mX0_plan 33 [(2, 0), (0, n), (0, q), (0, (pBest (aN v0 (gHd K) 17) n.toNat q c.toNat).1), (0, (if (pBest (aN v0 (gHd K) 17) n.toNat q c.toNat).1 = -9 then -9 else (pBest (aN v0 (gHd K) 17) n.toNat q c.toNat).2)), (0, c), z6, z7, z8] [] v (gHd K) t bc bs Q := by
  intro j
  induction j with
  | zero =>
    intro c v z6 z7 z8 h0 h1 hS
    have hsl := shl_le (n := n) (by omega) (by omega)
    have p2n : ((2 ^ n.toNat : Nat) : Int) = (2 : Int) ^ n.toNat := by rw [Int.natCast_pow]; rfl
    have hH0 := hH
    obtain ⟨g1, g2, g3, g4, g5, g6⟩ := hH
    have hbl := pBest_le (u := (aN v0 (gHd K) 17)) (n := n.toNat) (q := q) c.toNat
    refine Gx_iload dX0_plan_33 rfl ?_
    refine Gx_iconst ⟨by decide, by decide⟩ dX0_plan_35 ?_
    refine Gx_iload_n (i := 1) dX0_plan_36 rfl rfl ?_
    refine Gx_ishl dX0_plan_37 ?_
    rw [hsl.1]
    refine Gx_icmp_ge (tgt := 165) dX0_plan_38 (by decide) (fun c38 => ?_) (fun c38 => ?_)
    · refine Gx_iload_n (i := 3) dX0_plan_165 rfl rfl ?_
      refine Gx_bipush dX0_plan_166 ⟨by decide, by decide⟩ ?_
      refine Gx_icmp_ne (tgt := 176) dX0_plan_168 (by decide) (fun c168 => ?_) (fun c168 => ?_)
      · refine Gx_aload_n (i := 0) dX0_plan_176 rfl rfl ?_
        refine Gx_iload_n (i := 3) dX0_plan_177 rfl rfl ?_
        refine Gx_iload dX0_plan_178 rfl ?_
        refine cl_X0_147 dX0_plan_180 rfl rfl ⟨(Nat.le_of_ble_eq_true rfl), (Nat.le_of_ble_eq_true rfl)⟩ rfl ?_
        refine ct_X0_ask ?_
        refine Gx_ireturn dX0_plan_183 trivial ?_
        have e0 : c.toNat = 2 ^ n.toNat := by omega
        rw [← e0] at k9 k1
        first
        | exact k9 (by omega) v hS
        | (rw [if_neg (by omega)]
           exact k1 (by omega) v hS)
      · refine Gx_bipush dX0_plan_171 ⟨by decide, by decide⟩ ?_
        refine Gx_goto (tgt := 183) dX0_plan_173 (by decide) ?_
        refine Gx_ireturn dX0_plan_183 trivial ?_
        have e0 : c.toNat = 2 ^ n.toNat := by omega
        rw [← e0] at k9 k1
        first
        | exact k9 (by omega) v hS
        | (rw [if_neg (by omega)]
           exact k1 (by omega) v hS)
    · exfalso
      omega
  | succ j ih =>
    intro c v z6 z7 z8 h0 h1 hS
    have hsl := shl_le (n := n) (by omega) (by omega)
    have p2n : ((2 ^ n.toNat : Nat) : Int) = (2 : Int) ^ n.toNat := by rw [Int.natCast_pow]; rfl
    have hH0 := hH
    obtain ⟨g1, g2, g3, g4, g5, g6⟩ := hH
    have hbl := pBest_le (u := (aN v0 (gHd K) 17)) (n := n.toNat) (q := q) c.toNat
    refine Gx_iload dX0_plan_33 rfl ?_
    refine Gx_iconst ⟨by decide, by decide⟩ dX0_plan_35 ?_
    refine Gx_iload_n (i := 1) dX0_plan_36 rfl rfl ?_
    refine Gx_ishl dX0_plan_37 ?_
    rw [hsl.1]
    refine Gx_icmp_ge (tgt := 165) dX0_plan_38 (by decide) (fun c38 => ?_) (fun c38 => ?_)
    · exfalso
      omega
    · refine Gx_aload_n (i := 0) dX0_plan_41 rfl rfl ?_
      refine gf_X0_90_20 dX0_plan_42 rfl rfl ?_
      refine Gx_aload_n (i := 0) dX0_plan_45 rfl rfl ?_
      refine gf_X0_86_20 dX0_plan_46 rfl rfl ?_
      refine cl_X0_429 dX0_plan_49 rfl rfl ⟨(Nat.le_of_ble_eq_true rfl), (Nat.le_of_ble_eq_true rfl)⟩ rfl ?_
      refine ct_X1_comesTo (fun v2 hct => ?_)
      have n1 := aScr_N g1 hS
      have n2 : aN v2 (gHd K) 23 = (aN v0 (gHd K) 17) := by rw [(oCt_N (aScr_W g1 hS) (by rw [n1]; exact g2) hct).1, n1]
      have s2 := aScr_t hS (oCt_scr hct)
      refine Gx_iconst ⟨by decide, by decide⟩ dX0_plan_52 ?_
      refine Gx_istore_6 dX0_plan_53 (Nat.le_of_ble_eq_true rfl) (Nat.ne_of_beq_eq_false rfl) ?_
      refine Gx_iconst ⟨by decide, by decide⟩ dX0_plan_55 ?_
      refine Gx_istore_7 dX0_plan_56 (Nat.le_of_ble_eq_true rfl) (Nat.ne_of_beq_eq_false rfl) ?_
      refine Gx_iconst ⟨by decide, by decide⟩ dX0_plan_58 ?_
      refine Gx_istore_8 dX0_plan_59 (Nat.le_of_ble_eq_true rfl) (Nat.ne_of_beq_eq_false rfl) ?_
      refine lp_X0_plan1 (c := c) hH0 hn (fun v3 s3 => ?_) n.toNat 0 v2 (by omega) (by omega) s2 n2
      obtain ⟨q1, q2, q3, q4⟩ := pSt_le (c := c) g2 n.toNat
      have ec : (c.toNat : Int) = c := by omega
      have es : (pBest (aN v0 (gHd K) 17) n.toNat q (c + 1).toNat) = if q ≤ (pSt (aN v0 (gHd K) 17) c n.toNat).2.1 ∧ ((pBest (aN v0 (gHd K) 17) n.toNat q c.toNat).1 = -9 ∨ (pBest (aN v0 (gHd K) 17) n.toNat q c.toNat).2 < (pSt (aN v0 (gHd K) 17) c n.toNat).1) then (c, (pSt (aN v0 (gHd K) 17) c n.toNat).1) else (pBest (aN v0 (gHd K) 17) n.toNat q c.toNat) := by
        rw [show (c + 1).toNat = c.toNat + 1 by omega]
        show (if q ≤ (pSt (aN v0 (gHd K) 17) (c.toNat : Int) n.toNat).2.1 ∧ _ then ((c.toNat : Int), (pSt (aN v0 (gHd K) 17) (c.toNat : Int) n.toNat).1) else _) = _
        rw [ec]
      have hta : ((pBest (aN v0 (gHd K) 17) n.toNat q c.toNat).1 = -9 ∧ (if (pBest (aN v0 (gHd K) 17) n.toNat q c.toNat).1 = -9 then -9 else (pBest (aN v0 (gHd K) 17) n.toNat q c.toNat).2) = -9) ∨ ((pBest (aN v0 (gHd K) 17) n.toNat q c.toNat).1 ≠ -9 ∧ (if (pBest (aN v0 (gHd K) 17) n.toNat q c.toNat).1 = -9 then -9 else (pBest (aN v0 (gHd K) 17) n.toNat q c.toNat).2) = (pBest (aN v0 (gHd K) 17) n.toNat q c.toNat).2) := by
        by_cases z : (pBest (aN v0 (gHd K) 17) n.toNat q c.toNat).1 = -9
        · exact Or.inl ⟨z, if_pos z⟩
        · exact Or.inr ⟨z, if_neg z⟩
      refine Gx_iload dX0_plan_139 rfl ?_
      refine Gx_iload_n (i := 2) dX0_plan_141 rfl rfl ?_
      refine Gx_icmp_lt (tgt := 159) dX0_plan_142 (by decide) (fun c142 => ?_) (fun c142 => ?_)
      · refine Gx_iinc_5 dX0_plan_159 (Nat.le_of_ble_eq_true rfl) (Nat.ne_of_beq_eq_false rfl) ?_
        try simp (disch := omega) only [w32_id]
        refine Gx_goto (tgt := 33) dX0_plan_162 (by decide) ?_
        have hi := fun z6 z7 z8 => ih (c + 1) v3 z6 z7 z8 (by omega) (by omega) s3
        rw [es] at hi
        first
        | (rw [if_pos (by omega)] at hi
           dsimp only at hi
           rw [if_neg (by omega)] at hi
           exact hi _ _ _)
        | (rw [if_neg (by omega)] at hi
           exact hi _ _ _)
      · refine Gx_iload dX0_plan_145 rfl ?_
        refine Gx_iload dX0_plan_147 rfl ?_
        refine Gx_icmp_le (tgt := 159) dX0_plan_149 (by decide) (fun c149 => ?_) (fun c149 => ?_)
        · refine Gx_iinc_5 dX0_plan_159 (Nat.le_of_ble_eq_true rfl) (Nat.ne_of_beq_eq_false rfl) ?_
          try simp (disch := omega) only [w32_id]
          refine Gx_goto (tgt := 33) dX0_plan_162 (by decide) ?_
          have hi := fun z6 z7 z8 => ih (c + 1) v3 z6 z7 z8 (by omega) (by omega) s3
          rw [es] at hi
          first
          | (rw [if_pos (by omega)] at hi
             dsimp only at hi
             rw [if_neg (by omega)] at hi
             exact hi _ _ _)
          | (rw [if_neg (by omega)] at hi
             exact hi _ _ _)
        · refine Gx_iload dX0_plan_152 rfl ?_
          refine Gx_istore_n_3 dX0_plan_154 (Nat.le_of_ble_eq_true rfl) (Nat.ne_of_beq_eq_false rfl) ?_
          refine Gx_iload dX0_plan_155 rfl ?_
          refine Gx_istore_4 dX0_plan_157 (Nat.le_of_ble_eq_true rfl) (Nat.ne_of_beq_eq_false rfl) ?_
          refine Gx_iinc_5 dX0_plan_159 (Nat.le_of_ble_eq_true rfl) (Nat.ne_of_beq_eq_false rfl) ?_
          try simp (disch := omega) only [w32_id]
          refine Gx_goto (tgt := 33) dX0_plan_162 (by decide) ?_
          have hi := fun z6 z7 z8 => ih (c + 1) v3 z6 z7 z8 (by omega) (by omega) s3
          rw [es] at hi
          first
          | (rw [if_pos (by omega)] at hi
             dsimp only at hi
             rw [if_neg (by omega)] at hi
             exact hi _ _ _)
          | (rw [if_neg (by omega)] at hi
             exact hi _ _ _)
set_option maxHeartbeats 1000000 in
theorem ct_X0_plan {n q : Int} (hH : aHy v (gHd K)) (kB : ¬ ((1 ≤ n ∧ n ≤ 10) ∧ 0 ≤ q ∧ q ≤ 9999) → Q (0, -1) v (gHd K) t) (k9 : (1 ≤ n ∧ n ≤ 10) → (0 ≤ q ∧ q ≤ 9999) → (pBest (aN v (gHd K) 17) n.toNat q (2 ^ n.toNat)).1 = -9 → ∀ v1, aScr v v1 → Q (0, -9) v1 (gHd K) t) (k1 : (1 ≤ n ∧ n ≤ 10) → (0 ≤ q ∧ q ≤ 9999) → (pBest (aN v (gHd K) 17) n.toNat q (2 ^ n.toNat)).1 ≠ -9 → ∀ v1, aScr v v1 → Q (0, (pBest (aN v (gHd K) 17) n.toNat q (2 ^ n.toNat)).2) (gUp v1 0 2 (pBest (aN v (gHd K) 17) n.toNat q (2 ^ n.toNat)).1) (gHd K) t) : Ctr Γ mX0_plan [(2, 0), (0, n), (0, q)] v (gHd K) t Q := by
  refine Ctr.ofG (ls := [(2, 0), (0, n), (0, q), (9, 0), (9, 0), (9, 0), (9, 0), (9, 0), (9, 0)]) rfl rfl rfl rfl rfl ?_
  refine Gx_iload_n (i := 1) dX0_plan_0 rfl rfl ?_
  refine Gx_iconst ⟨by decide, by decide⟩ dX0_plan_1 ?_
  refine Gx_bipush dX0_plan_2 ⟨by decide, by decide⟩ ?_
  refine cl_X0_129 dX0_plan_4 rfl ⟨(Nat.le_of_ble_eq_true rfl), (Nat.le_of_ble_eq_true rfl)⟩ rfl ?_
  refine ct_X0_isIn (fun hn => ?_) (fun hn => ?_)
  · refine Gx_if_eq (tgt := 21) dX0_plan_7 (by decide) (fun hz => absurd hz (by decide)) (fun _ => ?_)
    refine Gx_iload_n (i := 2) dX0_plan_10 rfl rfl ?_
    refine Gx_iconst ⟨by decide, by decide⟩ dX0_plan_11 ?_
    refine Gx_sipush dX0_plan_12 ⟨by decide, by decide⟩ ?_
    refine cl_X0_129 dX0_plan_15 rfl ⟨(Nat.le_of_ble_eq_true rfl), (Nat.le_of_ble_eq_true rfl)⟩ rfl ?_
    refine ct_X0_isIn (fun hq => ?_) (fun hq => ?_)
    · refine Gx_if_ne (tgt := 23) dX0_plan_18 (by decide) (fun _ => ?_) (fun hz => absurd hz (by decide))
      refine Gx_bipush dX0_plan_23 ⟨by decide, by decide⟩ ?_
      refine Gx_istore_n_3 dX0_plan_25 (Nat.le_of_ble_eq_true rfl) (Nat.ne_of_beq_eq_false rfl) ?_
      refine Gx_bipush dX0_plan_26 ⟨by decide, by decide⟩ ?_
      refine Gx_istore_4 dX0_plan_28 (Nat.le_of_ble_eq_true rfl) (Nat.ne_of_beq_eq_false rfl) ?_
      refine Gx_iconst ⟨by decide, by decide⟩ dX0_plan_30 ?_
      refine Gx_istore_5 dX0_plan_31 (Nat.le_of_ble_eq_true rfl) (Nat.ne_of_beq_eq_false rfl) ?_
      have hsl := shl_le (n := n) (by omega) (by omega)
      exact lp_X0_plan2 (v0 := v) hH hn hq (k9 hn hq) (k1 hn hq) (2 ^ n.toNat : Int).toNat 0 v _ _ _ (by omega) (by omega) (aScr_r _)
    · refine Gx_if_ne (tgt := 23) dX0_plan_18 (by decide) (fun hz => absurd hz (by decide)) (fun _ => ?_)
      refine Gx_iconst ⟨by decide, by decide⟩ dX0_plan_21 ?_
      refine Gx_ireturn dX0_plan_22 trivial ?_
      exact kB (by omega)
  · refine Gx_if_eq (tgt := 21) dX0_plan_7 (by decide) (fun _ => ?_) (fun hz => absurd hz (by decide))
    refine Gx_iconst ⟨by decide, by decide⟩ dX0_plan_21 ?_
    refine Gx_ireturn dX0_plan_22 trivial ?_
    exact kB (by omega)
end
