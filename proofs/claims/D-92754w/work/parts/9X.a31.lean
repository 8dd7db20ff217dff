/-! AcornYears: goRound -/
section
variable {Γ : gC} {v : gM} {K : gH} {t : Nat} {Q : gQ}
set_option maxHeartbeats 1000000 in
theorem lp_X0_goRound1 {m : Int} {bc bs : Nat} {v0 vS : gM} (hW0 : aWf v0 (gHd K)) (hu : yOK (aN v0 (gHd K) 17)) (h36 : v0 0 36 < 0) (h35 : v0 0 35 ≤ 99) (h63 : a63 v0 (gHd K)) (hy : v0 17 2 ≤ 9999) (hm : 0 ≤ m ∧ m ≤ 2000) (hm41 : vS 0 41 = m) (cont : ∀ v1, aScr v0 v1 → aN v1 (gHd K) 23 = yIt (aN v0 (gHd K) 17) m.toNat → (∀ a j, ¬ (23 ≤ a ∧ a ≤ 30) → v1 a j = vS a j) → Gx Γ mX0_goRound 44 [(2, 0), (0, m)] [] v1 (gHd K) t bc bs Q) : ∀ (j : Nat) (k : Int) (v : gM), 0 ≤ k → k + j = m → aScr v0 v → aN v (gHd K) 23 = yIt (aN v0 (gHd K) 17) k.toNat → (∀ a j, ¬ (23 ≤ a ∧ a ≤ 30) → v a j = vS a j) → Gx Γ mX0_goRound 26 [(2, 0), (0, k)] [] v (gHd K) t bc bs Q := by
  intro j
  induction j with
  | zero =>
    intro k v h0 h1 hS hN hF
    have e41 : v 0 41 = m := by rw [hF 0 41 (by omega)]; exact hm41
    refine Gx_iload_n (i := 1) dX0_goRound_26 rfl rfl ?_
    refine Gx_aload_n (i := 0) dX0_goRound_27 rfl rfl ?_
    refine gf_X0_439_20 dX0_goRound_28 rfl rfl ?_
    refine Gx_icmp_ge (tgt := 44) dX0_goRound_31 (by decide) (fun c31 => ?_) (fun c31 => ?_)
    · have e0 : k = m := by omega
      subst e0
      exact cont v hS hN hF
    · exfalso
      omega
  | succ j ih =>
    intro k v h0 h1 hS hN hF
    have e41 : v 0 41 = m := by rw [hF 0 41 (by omega)]; exact hm41
    have hy0 := hu.2.2.2.2.2.2.2.2.2
    rw [aN_c31] at hy0
    have hW := aScr_W hW0 hS
    have hhf : aHf v = 0 := by
      unfold aHf
      rw [hS 0 36 (by omega), if_neg (by omega)]
    have hyy : v 23 2 = v0 17 2 + k := by
      have z := congrFun (congrFun hN 38) 31
      rw [yIt_y] at z
      have z2 : v 23 2 = v0 17 2 + (k.toNat : Int) := z
      omega
    refine Gx_iload_n (i := 1) dX0_goRound_26 rfl rfl ?_
    refine Gx_aload_n (i := 0) dX0_goRound_27 rfl rfl ?_
    refine gf_X0_439_20 dX0_goRound_28 rfl rfl ?_
    refine Gx_icmp_ge (tgt := 44) dX0_goRound_31 (by decide) (fun c31 => ?_) (fun c31 => ?_)
    · exfalso
      omega
    · refine Gx_aload_n (i := 0) dX0_goRound_34 rfl rfl ?_
      refine cl_X0_445 dX0_goRound_35 rfl rfl ⟨(Nat.le_of_ble_eq_true rfl), (Nat.le_of_ble_eq_true rfl)⟩ rfl ?_
      refine ct_X0_passTrial hW (by rw [hN]; exact yOK_it hu _) (by omega) (by rw [hS 0 35 (by omega)]; exact h35) (aScr_63 hW0 hS h63) (fun vP hps => ?_)
      refine Gx_iinc_1 dX0_goRound_38 (Nat.le_of_ble_eq_true rfl) (Nat.ne_of_beq_eq_false rfl) ?_
      try simp (disch := omega) only [w32_id]
      refine Gx_goto (tgt := 26) dX0_goRound_41 (by decide) ?_
      refine ih (k + 1) vP (by omega) (by omega) (aScr_t hS (oPs_scr hps)) ?_ (fun a j hn => by rw [hps.2.2.2.2.2 a j (by omega)]; exact hF a j hn)
      rw [hps.1, hN, hhf, show (k + 1).toNat = k.toNat + 1 by omega]
      rfl
set_option maxHeartbeats 4000000 in
theorem lp_X0_goRound2 {l : Int} {m : Nat} {bc bs : Nat} {v0 u : gM} (hW0 : aWf v0 (gHd K)) (hu : yOK (aN v0 (gHd K) 17)) (h36 : v0 0 36 < 0) (h35 : v0 0 35 ≤ 99) (h63 : a63 v0 (gHd K)) (hy : v0 17 2 ≤ 9999) (hu2 : yOK u) (eu : u = yIt (aN v0 (gHd K) 17) m) (hm : m ≤ 2000) (hl : 0 ≤ l ∧ l ≤ 2000) (cont : ∀ v1, aScr v0 v1 → aSu v1 u l.toNat → v1 0 41 = m → v1 0 42 = l → v1 0 44 = 0 → Gx Γ mX0_goRound 69 [(2, 0), (0, l)] [] v1 (gHd K) t bc bs Q) : ∀ (j : Nat) (k : Int) (v : gM), 0 ≤ k → k + j = l → aScr v0 v → aN v (gHd K) 23 = yIt u k.toNat → aSu v u k.toNat → v 0 41 = m → v 0 42 = l → v 0 44 = 0 → Gx Γ mX0_goRound 46 [(2, 0), (0, k)] [] v (gHd K) t bc bs Q := by
  intro j
  induction j with
  | zero =>
    intro k v h0 h1 hS hN hA e41 e42 e44
    refine Gx_iload_n (i := 1) dX0_goRound_46 rfl rfl ?_
    refine Gx_aload_n (i := 0) dX0_goRound_47 rfl rfl ?_
    refine gf_X0_442_20 dX0_goRound_48 rfl rfl ?_
    refine Gx_icmp_ge (tgt := 69) dX0_goRound_51 (by decide) (fun c51 => ?_) (fun c51 => ?_)
    · have e0 : k = l := by omega
      subst e0
      exact cont v hS hA e41 e42 e44
    · exfalso
      omega
  | succ j ih =>
    intro k v h0 h1 hS hN hA e41 e42 e44
    have hy0 := hu.2.2.2.2.2.2.2.2.2
    rw [aN_c31] at hy0
    have hW := aScr_W hW0 hS
    have hhf : aHf v = 0 := by
      unfold aHf
      rw [hS 0 36 (by omega), if_neg (by omega)]
    have hz := yOK_it hu2 k.toNat
    have u31 : u 38 31 = v0 17 2 + m := by
      rw [eu, yIt_y]
      rfl
    have u33 : u 38 33 = v0 0 32 := by
      rw [eu, (yIt_o (by omega) m).1]
      rfl
    have u22 : u 38 22 = v0 0 12 := by
      rw [eu, (yIt_o (by omega) m).1]
      rfl
    have z33 : yIt u k.toNat 38 33 = u 38 33 := (yIt_o (by omega) k.toNat).1
    have z22 : yIt u k.toNat 38 22 = u 38 22 := (yIt_o (by omega) k.toNat).1
    have b33 := hu2.2.2.1
    have b22 := hu2.2.2.2.2.1.1
    have hyy : v 23 2 = v0 17 2 + m + k := by
      have z := congrFun (congrFun hN 38) 31
      rw [yIt_y] at z
      have z2 : v 23 2 = u 38 31 + (k.toNat : Int) := z
      omega
    have hkn : (k.toNat : Int) = k := by omega
    obtain ⟨s45, s46, s47, s48, s43, s3, s35, s36⟩ := hA
    have tA := yTot_le (F := yA1) (u := u) (B := 1440) (fun q => yA1_le (yOK_it hu2 q)) k.toNat
    have tD := yTot_le (F := yD1) (u := u) (B := 1440) (fun q => yD1_le (yOK_it hu2 q)) k.toNat
    have tP := yTot_le (F := yP1) (u := u) (B := 552) (fun q => yP1_le (yOK_it hu2 q)) k.toNat
    have tN := yTot_le (F := yN1) (u := u) (B := 24) (fun q => by
      have z := yN1_le (yOK_it hu2 q)
      rw [(yIt_o (by omega) q).1] at z
      omega) k.toNat
    refine Gx_iload_n (i := 1) dX0_goRound_46 rfl rfl ?_
    refine Gx_aload_n (i := 0) dX0_goRound_47 rfl rfl ?_
    refine gf_X0_442_20 dX0_goRound_48 rfl rfl ?_
    refine Gx_icmp_ge (tgt := 69) dX0_goRound_51 (by decide) (fun c51 => ?_) (fun c51 => ?_)
    · exfalso
      omega
    · refine Gx_aload_n (i := 0) dX0_goRound_54 rfl rfl ?_
      refine cl_X0_445 dX0_goRound_55 rfl rfl ⟨(Nat.le_of_ble_eq_true rfl), (Nat.le_of_ble_eq_true rfl)⟩ rfl ?_
      refine ct_X0_passTrial hW (by rw [hN]; exact yOK_it hu2 _) (by omega) (by rw [hS 0 35 (by omega)]; exact h35) (aScr_63 hW0 hS h63) (fun vP hps => ?_)
      refine Gx_aload_n (i := 0) dX0_goRound_58 rfl rfl ?_
      refine Gx_iload_n (i := 1) dX0_goRound_59 rfl rfl ?_
      refine cl_X0_474 dX0_goRound_60 rfl rfl ⟨(Nat.le_of_ble_eq_true rfl), (Nat.le_of_ble_eq_true rfl)⟩ rfl ?_
      have hF := hps.2.2.2.2.2
      have hS1 := aScr_t hS (oPs_scr hps)
      obtain ⟨p1, p2, p3, p4, p5, -⟩ := hps
      rw [hN, hhf] at p1 p2 p3 p4 p5
      have l32 : vP 0 32 = u 38 33 := by rw [hF 0 32 (by omega), hS 0 32 (by omega), u33]
      have l12 : vP 0 12 = u 38 22 := by rw [hF 0 12 (by omega), hS 0 12 (by omega), u22]
      have v32 : v 0 32 = u 38 33 := by rw [hS 0 32 (by omega), u33]
      have v12 : v 0 12 = u 38 22 := by rw [hS 0 12 (by omega), u22]
      have z1 := yA1_le hz
      have z2 := yD1_le hz
      refine ct_X0_countYear (k := k) (Ac := yA1 (yIt u k.toNat)) (D := yD1 (yIt u k.toNat)) (B := yB (yIt u k.toNat) (yMay (yIt u k.toNat))) (S := ySv (yIt u k.toNat) (yMay (yIt u k.toNat)) 0 0) (G := yGv (yIt u k.toNat) (yMay (yIt u k.toNat)) 0) (by omega) ⟨p2, z1⟩ ⟨p3, z2⟩ (fun i i0 i1 => (p4 i i0 (by omega)).1) (fun i i0 i1 => ⟨(p4 i i0 (by omega)).2, yGv_le (yMay_le hz) (yOK_tr hz) i0 (by omega)⟩) (fun i i0 i1 => ?_) (by omega) (by omega) (by omega) (fun e e0 e1 => p5 e e0 (by omega)) (fun e e0 e1 => ?_) ?_ (fun vC hcy => ?_)
      · rw [hF 33 i (by omega), hF 34 i (by omega), (s3 i i0 (by omega)).1, (s3 i i0 (by omega)).2]
        have t1 := yTot_le (F := yT1 i) (u := u) (B := 60) (fun q => yT1_le (yOK_it hu2 q) (by rw [(yIt_o (by omega) q).1]; omega)) k.toNat
        have t2 := yTot_le (F := yG1 i) (u := u) (B := 86400) (fun q => yG1_le (yOK_it hu2 q) (by rw [(yIt_o (by omega) q).1]; omega)) k.toNat
        omega
      · rw [hF 35 e (by omega), s35 e e0 (by omega)]
        have t1 := yTot_le (F := yS1 e) (u := u) (B := 1) (fun q => yS1_le) k.toNat
        omega
      · rw [hF 0 45 (by omega), hF 0 46 (by omega), hF 0 47 (by omega), hF 0 48 (by omega)]
        omega
      refine Gx_iinc_1 dX0_goRound_63 (Nat.le_of_ble_eq_true rfl) (Nat.ne_of_beq_eq_false rfl) ?_
      try simp (disch := omega) only [w32_id]
      refine Gx_goto (tgt := 46) dX0_goRound_66 (by decide) ?_
      obtain ⟨c1, c2, c3, c4, c5, c6, c7, c8, c9, c10, c11, c12⟩ := hcy
      rw [l32] at c4 c6 c7
      rw [l12] at c5
      have en : yCnt (yB (yIt u k.toNat) (yMay (yIt u k.toNat))) (u 38 33).toNat = yN1 (yIt u k.toNat) := by
        unfold yN1
        rw [z33]
      rw [en] at c6 c7
      have ek : (k + 1).toNat = k.toNat + 1 := by omega
      refine ih (k + 1) vC (by omega) (by omega) (aScr_t hS1 c1) ?_ ⟨?_, ?_, ?_, ?_, ?_, fun i i0 i1 => ⟨?_, ?_⟩, fun e e0 e1 => ?_, fun q q0 q1 => ?_⟩ ?_ ?_ ?_
      · have e1 : aN vC (gHd K) 23 = aN vP (gHd K) 23 := by
          funext a q
          by_cases g1 : a = 38 ∧ q = 31
          · rw [g1.1, g1.2]
            exact c3 23 2 (by omega) (by omega)
          · by_cases g6 : a = 56
            · subst g6
              show (if 0 ≤ q ∧ q < vC 0 12 then vC 25 q else 0) = (if 0 ≤ q ∧ q < vP 0 12 then vP 25 q else 0)
              rw [c1 0 12 (by omega), c3 25 q (by omega) (by omega)]
            · by_cases g8 : a = 58
              · subst g8
                show (if 0 ≤ q ∧ q < vC 0 32 then vC 24 q else 0) = (if 0 ≤ q ∧ q < vP 0 32 then vP 24 q else 0)
                rw [c1 0 32 (by omega), c3 24 q (by omega) (by omega)]
              · exact aN_congr (aScr_W hW0 hS1) (aScr_f c1) a q (by omega)
        rw [e1, p1, ek]
        rfl
      · rw [c6, hF 0 45 (by omega), s45, ek]
        rfl
      · rw [c7, hF 0 46 (by omega), s46, ek]
        rfl
      · rw [c8, hF 0 47 (by omega), s47, ek]
        rfl
      · rw [c9, hF 0 48 (by omega), s48, ek]
        rfl
      · rw [c12, hF 0 43 (by omega), s43, ek]
        rfl
      · rw [(c4 i i0 i1).1, hF 33 i (by omega), (s3 i i0 i1).1, ek]
        show _ = yTot (yT1 i) u k.toNat + yT1 i (yIt u k.toNat)
        unfold yT1
        rw [if_neg (by omega)]
      · rw [(c4 i i0 i1).2, hF 34 i (by omega), (s3 i i0 i1).2, ek]
        show _ = yTot (yG1 i) u k.toNat + yG1 i (yIt u k.toNat)
        have eG : yG1 i (yIt u k.toNat) = if yA1 (yIt u k.toNat) = 0 then 0 else (yD1 (yIt u k.toNat) * yGv (yIt u k.toNat) (yMay (yIt u k.toNat)) 0 i).tdiv (yA1 (yIt u k.toNat)) := by
          have eT : yT1 i (yIt u k.toNat) = yGv (yIt u k.toNat) (yMay (yIt u k.toNat)) 0 i := by
            unfold yT1
            rw [if_neg (by omega)]
          unfold yG1
          rw [if_neg (show ¬ i < 0 by omega), eT]
        rw [eG]
      · rw [c5 e e0 e1, hF 35 e (by omega), s35 e e0 e1, ek]
        show _ = yTot (yS1 e) u k.toNat + yS1 e (yIt u k.toNat)
        have eS : yS1 e (yIt u k.toNat) = if ySv (yIt u k.toNat) (yMay (yIt u k.toNat)) 0 0 e = true then 1 else 0 := by
          unfold yS1
          rw [if_neg (by omega)]
        rw [eS]
      · by_cases g : q = k
        · rw [g, c11]
        · rw [c10 q g, hF 36 q (by omega)]
          exact s36 q q0 (by omega)
      · rw [c2 41 (by omega) (by omega) (by omega), hF 0 41 (by omega)]
        exact e41
      · rw [c2 42 (by omega) (by omega) (by omega), hF 0 42 (by omega)]
        exact e42
      · rw [c2 44 (by omega) (by omega) (by omega), hF 0 44 (by omega)]
        exact e44
set_option maxHeartbeats 1000000 in
theorem lp_X0_goRound3 {l : Int} {bc bs : Nat} {v0 u : gM} (hu2 : yOK u) (hl : 0 ≤ l ∧ l ≤ 2000) (e42 : v0 0 42 = l) (e43 : v0 0 43 = (yMax u l.toNat)) (s36 : ∀ k, 0 ≤ k → k < l → v0 36 k = yA1 (yIt u k.toNat)) (cont : ∀ v1, (∀ a j, ¬ (a = 0 ∧ j = 44) → v1 a j = v0 a j) → v1 0 44 = yTot (yM1 (yMax u l.toNat)) u l.toNat → Q (0, 1) v1 (gHd K) t) : ∀ (j : Nat) (k : Int) (v : gM), 0 ≤ k → k + j = l → (∀ a j, ¬ (a = 0 ∧ j = 44) → v a j = v0 a j) → v 0 44 = yTot (yM1 (yMax u l.toNat)) u k.toNat → Gx Γ mX0_goRound 71 [(2, 0), (0, k)] [] v (gHd K) t bc bs Q := by
  intro j
  induction j with
  | zero =>
    intro k v h0 h1 hF hM
    have q42 : v 0 42 = l := by rw [hF 0 42 (by omega)]; exact e42
    refine Gx_iload_n (i := 1) dX0_goRound_71 rfl rfl ?_
    refine Gx_aload_n (i := 0) dX0_goRound_72 rfl rfl ?_
    refine gf_X0_442_20 dX0_goRound_73 rfl rfl ?_
    refine Gx_icmp_ge (tgt := 123) dX0_goRound_76 (by decide) (fun c76 => ?_) (fun c76 => ?_)
    · refine Gx_iconst ⟨by decide, by decide⟩ dX0_goRound_123 ?_
      refine Gx_ireturn dX0_goRound_124 (Or.inr rfl) ?_
      have e0 : k = l := by omega
      subst e0
      exact cont v hF hM
    · exfalso
      omega
  | succ j ih =>
    intro k v h0 h1 hF hM
    have q42 : v 0 42 = l := by rw [hF 0 42 (by omega)]; exact e42
    have q43 : v 0 43 = (yMax u l.toNat) := by rw [hF 0 43 (by omega)]; exact e43
    have q36 : v 36 k = yA1 (yIt u k.toNat) := by rw [hF 36 k (by omega)]; exact s36 k h0 (by omega)
    have z1 := yA1_le (yOK_it hu2 k.toNat)
    have tM := yTot_le (F := yM1 (yMax u l.toNat)) (u := u) (B := 1) (fun q => yM1_le) k.toNat
    have ek : (k + 1).toNat = k.toNat + 1 := by omega
    have es : yTot (yM1 (yMax u l.toNat)) u (k + 1).toNat = yTot (yM1 (yMax u l.toNat)) u k.toNat + (if 0 < yA1 (yIt u k.toNat) ∧ (yMax u l.toNat) ≤ 2 * yA1 (yIt u k.toNat) then 1 else 0) := by
      rw [ek]
      rfl
    refine Gx_iload_n (i := 1) dX0_goRound_71 rfl rfl ?_
    refine Gx_aload_n (i := 0) dX0_goRound_72 rfl rfl ?_
    refine gf_X0_442_20 dX0_goRound_73 rfl rfl ?_
    refine Gx_icmp_ge (tgt := 123) dX0_goRound_76 (by decide) (fun c76 => ?_) (fun c76 => ?_)
    · refine Gx_iconst ⟨by decide, by decide⟩ dX0_goRound_123 ?_
      refine Gx_ireturn dX0_goRound_124 (Or.inr rfl) ?_
      exfalso
      omega
    · refine Gx_aload_n (i := 0) dX0_goRound_79 rfl rfl ?_
      refine Gx_dup (Nat.ne_of_beq_eq_false rfl) dX0_goRound_80 ?_
      refine gf_X0_451_20 dX0_goRound_81 rfl rfl ?_
      rw [hM]
      refine Gx_aload_n (i := 0) dX0_goRound_84 rfl rfl ?_
      refine gf_X0_123_20 dX0_goRound_85 rfl rfl ?_
      refine Gx_iload_n (i := 1) dX0_goRound_88 rfl rfl ?_
      refine Gx_iaload dX0_goRound_89 rfl (by first | omega | (simp (disch := omega) only [w32_id]; omega)) ?_
      rw [q36]
      refine Gx_if_le (tgt := 112) dX0_goRound_90 (by decide) (fun c90 => ?_) (fun c90 => ?_)
      · refine Gx_iconst ⟨by decide, by decide⟩ dX0_goRound_112 ?_
        refine Gx_iadd dX0_goRound_113 ?_
        try simp (disch := omega) only [w32_id]
        refine pf_X0_451_20 dX0_goRound_114 rfl rfl ?_
        refine Gx_iinc_1 dX0_goRound_117 (Nat.le_of_ble_eq_true rfl) (Nat.ne_of_beq_eq_false rfl) ?_
        try simp (disch := omega) only [w32_id]
        refine Gx_goto (tgt := 71) dX0_goRound_120 (by decide) ?_
        refine ih (k + 1) _ (by omega) (by omega) (fun a j hn => by rw [gUp_ne2 hn]; exact hF a j hn) ?_
        rw [gUp_eq2 rfl rfl, es]
        first
        | rw [if_pos (by omega)]
        | rw [if_neg (by omega)]
      · refine Gx_iconst ⟨by decide, by decide⟩ dX0_goRound_93 ?_
        refine Gx_aload_n (i := 0) dX0_goRound_94 rfl rfl ?_
        refine gf_X0_123_20 dX0_goRound_95 rfl rfl ?_
        refine Gx_iload_n (i := 1) dX0_goRound_98 rfl rfl ?_
        refine Gx_iaload dX0_goRound_99 rfl (by first | omega | (simp (disch := omega) only [w32_id]; omega)) ?_
        rw [q36]
        refine Gx_imul dX0_goRound_100 ?_
        try simp (disch := omega) only [w32_id]
        refine Gx_aload_n (i := 0) dX0_goRound_101 rfl rfl ?_
        refine gf_X0_448_20 dX0_goRound_102 rfl rfl ?_
        rw [q43]
        refine Gx_icmp_lt (tgt := 112) dX0_goRound_105 (by decide) (fun c105 => ?_) (fun c105 => ?_)
        · refine Gx_iconst ⟨by decide, by decide⟩ dX0_goRound_112 ?_
          refine Gx_iadd dX0_goRound_113 ?_
          try simp (disch := omega) only [w32_id]
          refine pf_X0_451_20 dX0_goRound_114 rfl rfl ?_
          refine Gx_iinc_1 dX0_goRound_117 (Nat.le_of_ble_eq_true rfl) (Nat.ne_of_beq_eq_false rfl) ?_
          try simp (disch := omega) only [w32_id]
          refine Gx_goto (tgt := 71) dX0_goRound_120 (by decide) ?_
          refine ih (k + 1) _ (by omega) (by omega) (fun a j hn => by rw [gUp_ne2 hn]; exact hF a j hn) ?_
          rw [gUp_eq2 rfl rfl, es]
          first
          | rw [if_pos (by omega)]
          | rw [if_neg (by omega)]
        · refine Gx_iconst ⟨by decide, by decide⟩ dX0_goRound_108 ?_
          refine Gx_goto (tgt := 113) dX0_goRound_109 (by decide) ?_
          refine Gx_iadd dX0_goRound_113 ?_
          try simp (disch := omega) only [w32_id]
          refine pf_X0_451_20 dX0_goRound_114 rfl rfl ?_
          refine Gx_iinc_1 dX0_goRound_117 (Nat.le_of_ble_eq_true rfl) (Nat.ne_of_beq_eq_false rfl) ?_
          try simp (disch := omega) only [w32_id]
          refine Gx_goto (tgt := 71) dX0_goRound_120 (by decide) ?_
          refine ih (k + 1) _ (by omega) (by omega) (fun a j hn => by rw [gUp_ne2 hn]; exact hF a j hn) ?_
          rw [gUp_eq2 rfl rfl, es]
          first
          | rw [if_pos (by omega)]
          | rw [if_neg (by omega)]
set_option maxHeartbeats 4000000 in
theorem ct_X0_goRound  (hW : aWf v (gHd K)) (hu : yOK (aN v (gHd K) 17)) (h36 : v 0 36 < 0) (h35 : v 0 35 ≤ 99) (h63 : a63 v (gHd K)) (hy : v 17 2 ≤ 9999) (k1 : ∀ (v1 : gM) (m l : Nat), oHas (aN v (gHd K) 17) m l → aScr v v1 → v1 0 41 = m → v1 0 42 = l → aSu v1 (yIt (aN v (gHd K) 17) m) l → v1 0 44 = yTot (yM1 (yMax (yIt (aN v (gHd K) 17) m) l)) (yIt (aN v (gHd K) 17) m) l → Q (0, 1) v1 (gHd K) t) (k0 : oNo (aN v (gHd K) 17) → ∀ v1, aScr v v1 → Q (0, 0) v1 (gHd K) t) : Ctr Γ mX0_goRound [(2, 0)] v (gHd K) t Q := by
  refine Ctr.ofG (ls := [(2, 0), (9, 0)]) rfl rfl rfl rfl rfl ?_
  refine Gx_aload_n (i := 0) dX0_goRound_0 rfl rfl ?_
  refine cl_X0_468 dX0_goRound_1 rfl rfl ⟨(Nat.le_of_ble_eq_true rfl), (Nat.le_of_ble_eq_true rfl)⟩ rfl ?_
  refine ct_X0_setRing hW hu h36 h35 h63 hy (fun v1 m l hml s1 e1 e2 => ?_) (fun hno v1 s1 => ?_)
  · refine Gx_if_ne (tgt := 9) dX0_goRound_4 (by decide) (fun _ => ?_) (fun hz => absurd hz (by decide))
    refine Gx_aload_n (i := 0) dX0_goRound_9 rfl rfl ?_
    refine cl_X0_471 dX0_goRound_10 rfl rfl ⟨(Nat.le_of_ble_eq_true rfl), (Nat.le_of_ble_eq_true rfl)⟩ rfl ?_
    refine ct_X0_wipeRing (fun v2 s2 x41 x42 x44 x0 => ?_)
    refine Gx_aload_n (i := 0) dX0_goRound_13 rfl rfl ?_
    refine gf_X0_90_20 dX0_goRound_14 rfl rfl ?_
    refine Gx_aload_n (i := 0) dX0_goRound_17 rfl rfl ?_
    refine gf_X0_86_20 dX0_goRound_18 rfl rfl ?_
    refine cl_X0_429 dX0_goRound_21 rfl rfl ⟨(Nat.le_of_ble_eq_true rfl), (Nat.le_of_ble_eq_true rfl)⟩ rfl ?_
    refine ct_X1_comesTo (fun v3 hct => ?_)
    have hml2 := hml.2
    have s2' := aScr_t s1 s2
    have hW2 := aScr_W hW s2'
    have n2 : aN v2 (gHd K) 17 = aN v (gHd K) 17 := aScr_N hW s2'
    have n3 : aN v3 (gHd K) 23 = aN v (gHd K) 17 := by rw [(oCt_N hW2 (by rw [n2]; exact hu) hct).1, n2]
    have s3 := aScr_t s2' (oCt_scr hct)
    have m41 : v3 0 41 = (m : Int) := by rw [hct.1 0 41 (by omega), x41]; exact e1
    have m42 : v3 0 42 = (l : Int) := by rw [hct.1 0 42 (by omega), x42]; exact e2
    have m44 : v3 0 44 = 0 := by rw [hct.1 0 44 (by omega)]; exact x44
    have m0 : ∀ u, yOK u → aSu v3 u 0 := fun u hu => by
      obtain ⟨b1, b2, b3, b4, b5, b6, b7, b8⟩ := x0 u hu
      exact ⟨by rw [hct.1 0 45 (by omega)]; exact b1, by rw [hct.1 0 46 (by omega)]; exact b2, by rw [hct.1 0 47 (by omega)]; exact b3, by rw [hct.1 0 48 (by omega)]; exact b4, by rw [hct.1 0 43 (by omega)]; exact b5, fun i i0 i1 => by rw [hct.1 33 i (by omega), hct.1 34 i (by omega)]; exact b6 i i0 i1, fun e e0 e1 => by rw [hct.1 35 e (by omega)]; exact b7 e e0 e1, fun q q0 q1 => absurd q1 (by omega)⟩
    refine Gx_iconst ⟨by decide, by decide⟩ dX0_goRound_24 ?_
    refine Gx_istore_n_1 dX0_goRound_25 (Nat.le_of_ble_eq_true rfl) (Nat.ne_of_beq_eq_false rfl) ?_
    refine lp_X0_goRound1 (v0 := v) (vS := v3) (m := (m : Int)) hW hu h36 h35 h63 hy (by omega) m41 (fun v4 s4 n4 f4 => ?_) m 0 v3 (by omega) (by omega) s3 n3 (fun _ _ _ => rfl)
    refine Gx_iconst ⟨by decide, by decide⟩ dX0_goRound_44 ?_
    refine Gx_istore_n_1 dX0_goRound_45 (Nat.le_of_ble_eq_true rfl) (Nat.ne_of_beq_eq_false rfl) ?_
    have hu2 := yOK_it hu m
    refine lp_X0_goRound2 (v0 := v) (u := yIt (aN v (gHd K) 17) m) (l := (l : Int)) hW hu h36 h35 h63 hy hu2 rfl (by omega) (by omega) (fun v5 s5 a5 e41 e42 e44 => ?_) l 0 v4 (by omega) (by omega) s4 n4 ?_ (by rw [f4 0 41 (by omega)]; exact m41) (by rw [f4 0 42 (by omega)]; exact m42) (by rw [f4 0 44 (by omega)]; exact m44)
    · refine Gx_iconst ⟨by decide, by decide⟩ dX0_goRound_69 ?_
      refine Gx_istore_n_1 dX0_goRound_70 (Nat.le_of_ble_eq_true rfl) (Nat.ne_of_beq_eq_false rfl) ?_
      refine lp_X0_goRound3 (v0 := v5) (u := yIt (aN v (gHd K) 17) m) (l := (l : Int)) hu2 (by omega) e42 a5.2.2.2.2.1 a5.2.2.2.2.2.2.2 (fun v6 f6 e6 => ?_) l 0 v5 (by omega) (by omega) (fun _ _ _ => rfl) e44
      refine k1 v6 m l hml (fun a q hq => by rw [f6 a q (by omega)]; exact s5 a q hq) (by rw [f6 0 41 (by omega)]; exact e41) (by rw [f6 0 42 (by omega)]; exact e42) ?_ e6
      obtain ⟨b1, b2, b3, b4, b5, b6, b7, b8⟩ := a5
      exact ⟨by rw [f6 0 45 (by omega)]; exact b1, by rw [f6 0 46 (by omega)]; exact b2, by rw [f6 0 47 (by omega)]; exact b3, by rw [f6 0 48 (by omega)]; exact b4, by rw [f6 0 43 (by omega)]; exact b5, fun i i0 i1 => by rw [f6 33 i (by omega), f6 34 i (by omega)]; exact b6 i i0 i1, fun e e0 e1 => by rw [f6 35 e (by omega)]; exact b7 e e0 e1, fun q q0 q1 => by rw [f6 36 q (by omega)]; exact b8 q q0 q1⟩
    · obtain ⟨b1, b2, b3, b4, b5, b6, b7, b8⟩ := m0 _ hu2
      exact ⟨by rw [f4 0 45 (by omega)]; exact b1, by rw [f4 0 46 (by omega)]; exact b2, by rw [f4 0 47 (by omega)]; exact b3, by rw [f4 0 48 (by omega)]; exact b4, by rw [f4 0 43 (by omega)]; exact b5, fun i i0 i1 => by rw [f4 33 i (by omega), f4 34 i (by omega)]; exact b6 i i0 i1, fun e e0 e1 => by rw [f4 35 e (by omega)]; exact b7 e e0 e1, fun q q0 q1 => absurd q1 (by omega)⟩
  · refine Gx_if_ne (tgt := 9) dX0_goRound_4 (by decide) (fun hz => absurd hz (by decide)) (fun _ => ?_)
    refine Gx_iconst ⟨by decide, by decide⟩ dX0_goRound_7 ?_
    refine Gx_ireturn dX0_goRound_8 (Or.inl rfl) ?_
    exact k0 hno v1 s1
end
