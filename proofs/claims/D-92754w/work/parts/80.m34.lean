/-! AcornYearsModel: run, laySums -/
section
variable {Γ : gC} {v : gM} {K : gH} {t : Nat} {Q : gQ}
def oRun (v v1 : gM) (n : Nat) : Prop := mN v1 = yIt (mN v) n ∧ (∀ k, 0 ≤ k → k < v 38 33 → v1 59 k = yTm (mN v) (v 59) n k ∧ v1 60 k = yLb (mN v) (v 60) n k) ∧ oFy v v1
theorem oRun_s {v v1 v2 : gM} {n : Nat} (hok : yOK v) (h : oRun v v1 n) (h3 : oYr v1 v2 (yMay (mN v1)) 0 0) : oRun v v2 (n + 1) := by
  obtain ⟨hm, hB, hF⟩ := h
  refine ⟨?_, fun k k0 k1 => ?_, oFy_yr hF hok.2.2.2.2.1.1.2 h3⟩
  · rw [h3.1, hm]
    rfl
  · have g := h3.2.2.2.2.2.2.2.1 k k0 (by rw [hF 38 33 (by omega)]; exact k1)
    have e31 : v1 38 31 = yIt (mN v) n 38 31 := by rw [← hm, mN_c (by omega)]
    rw [hm, (hB k k0 k1).1, (hB k k0 k1).2, e31] at g
    exact g

set_option maxHeartbeats 1000000 in
theorem lp_X2_run {n : Int} {bc bs : Nat} {v0 : gM} (hok : yOK v0) (hn : 0 ≤ n ∧ n ≤ 200) (hy : v0 38 31 + n ≤ 9999) (cont : ∀ v1, oRun v0 v1 n.toNat → Gx Γ mX2_run 71 [(2, 38), (0, n), (0, yTot yD1 (mN v0) n.toNat), (0, yTot yA1 (mN v0) n.toNat), (0, n)] [] v1 (gHd K) t bc bs Q) : ∀ (j : Nat) (x : Int) (v : gM), 0 ≤ x → x + j = n → oRun v0 v x.toNat → Gx Γ mX2_run 35 [(2, 38), (0, n), (0, yTot yD1 (mN v0) x.toNat), (0, yTot yA1 (mN v0) x.toNat), (0, x)] [] v (gHd K) t bc bs Q := by
  intro j
  induction j with
  | zero =>
    intro x v h0 h1 hR
    have hoN := yOK_it (yOK_N hok) x.toNat
    have hm := hR.1
    have hov : yOK v := yOK_m (yOK_N hok) hm
    have hyy := yYr_m hm
    have hy0 := mN_c (v := v0) (k := 31) (by omega)
    have bD := yTot_le (F := yD1) (u := mN v0) (B := 1440) (fun k => yD1_le (yOK_it (yOK_N hok) k)) x.toNat
    have bA := yTot_le (F := yA1) (u := mN v0) (B := 1440) (fun k => yA1_le (yOK_it (yOK_N hok) k)) x.toNat
    have bd := yD1_le hoN
    have ba := yA1_le hoN
    refine Gx_iload dX2_run_35 rfl ?_
    refine Gx_iload_n (i := 1) dX2_run_37 rfl rfl ?_
    refine Gx_icmp_ge (tgt := 71) dX2_run_38 (by decide) (fun c38 => ?_) (fun c38 => ?_)
    · have e0 : x = n := by omega
      rw [e0] at hR ⊢
      exact cont v hR
    · exfalso
      omega
  | succ j ih =>
    intro x v h0 h1 hR
    have hoN := yOK_it (yOK_N hok) x.toNat
    have hm := hR.1
    have hov : yOK v := yOK_m (yOK_N hok) hm
    have hyy := yYr_m hm
    have hy0 := mN_c (v := v0) (k := 31) (by omega)
    have bD := yTot_le (F := yD1) (u := mN v0) (B := 1440) (fun k => yD1_le (yOK_it (yOK_N hok) k)) x.toNat
    have bA := yTot_le (F := yA1) (u := mN v0) (B := 1440) (fun k => yA1_le (yOK_it (yOK_N hok) k)) x.toNat
    have bd := yD1_le hoN
    have ba := yA1_le hoN
    refine Gx_iload dX2_run_35 rfl ?_
    refine Gx_iload_n (i := 1) dX2_run_37 rfl rfl ?_
    refine Gx_icmp_ge (tgt := 71) dX2_run_38 (by decide) (fun c38 => ?_) (fun c38 => ?_)
    · exfalso
      omega
    · refine Gx_aload_n (i := 0) dX2_run_41 rfl rfl ?_
      refine Gx_aload_n (i := 0) dX2_run_42 rfl rfl ?_
      refine cl_X2_273 dX2_run_43 rfl rfl ⟨(Nat.le_of_ble_eq_true rfl), (Nat.le_of_ble_eq_true rfl)⟩ rfl ?_
      refine ct_X2_mayY hov ?_
      refine Gx_iconst ⟨by decide, by decide⟩ dX2_run_46 ?_
      refine Gx_iconst ⟨by decide, by decide⟩ dX2_run_47 ?_
      refine cl_X2_269 dX2_run_48 rfl rfl ⟨(Nat.le_of_ble_eq_true rfl), (Nat.le_of_ble_eq_true rfl)⟩ rfl ?_
      refine ct_X2_passY (yMay_le (yOK_N hov)) hov (by omega) (fun v3 h3 => ?_)
      have d39 : v3 38 39 = yD1 (yIt (mN v0) x.toNat) := by rw [h3.2.2.1, hm]; rfl
      have d38 : v3 38 38 = yA1 (yIt (mN v0) x.toNat) := by rw [h3.2.1, hm]; rfl
      refine Gx_iload_n (i := 2) dX2_run_51 rfl rfl ?_
      refine Gx_aload_n (i := 0) dX2_run_52 rfl rfl ?_
      refine gf_X2_266_22 dX2_run_53 rfl rfl ?_
      rw [d39]
      refine Gx_iadd dX2_run_56 ?_
      try simp (disch := omega) only [w32_id]
      refine Gx_istore_n_2 dX2_run_57 (Nat.le_of_ble_eq_true rfl) (Nat.ne_of_beq_eq_false rfl) ?_
      refine Gx_iload_n (i := 3) dX2_run_58 rfl rfl ?_
      refine Gx_aload_n (i := 0) dX2_run_59 rfl rfl ?_
      refine gf_X2_251_22 dX2_run_60 rfl rfl ?_
      rw [d38]
      refine Gx_iadd dX2_run_63 ?_
      try simp (disch := omega) only [w32_id]
      refine Gx_istore_n_3 dX2_run_64 (Nat.le_of_ble_eq_true rfl) (Nat.ne_of_beq_eq_false rfl) ?_
      refine Gx_iinc_4 dX2_run_65 (Nat.le_of_ble_eq_true rfl) (Nat.ne_of_beq_eq_false rfl) ?_
      try simp (disch := omega) only [w32_id]
      refine Gx_goto (tgt := 35) dX2_run_68 (by decide) ?_
      have hi := ih (x + 1) v3 (by omega) (by omega) (by rw [show (x + 1).toNat = x.toNat + 1 by omega]; exact oRun_s hok hR h3)
      rw [show (x + 1).toNat = x.toNat + 1 by omega] at hi
      exact hi
set_option maxHeartbeats 1000000 in
theorem ct_X2_run {n : Int} (hok : yOK v) (hy : v 38 31 ≤ 9999) (kB : ¬ (0 ≤ n ∧ n ≤ 200) → Q (0, -1) v (gHd K) t) (kS : 0 ≤ n ∧ n ≤ 200 → 9999 < v 38 31 + n → Q (0, -4) v (gHd K) t) (kY : 0 ≤ n ∧ n ≤ 200 → v 38 31 + n ≤ 9999 → ∀ v1, oRun v v1 n.toNat → Q (0, yTot yD1 (mN v) n.toNat) (gUp v1 38 2 (yTot yA1 (mN v) n.toNat)) (gHd K) t) : Ctr Γ mX2_run [(2, 38), (0, n)] v (gHd K) t Q := by
  refine Ctr.ofG (ls := [(2, 38), (0, n), (9, 0), (9, 0), (9, 0)]) rfl rfl rfl rfl rfl ?_
  have hy0 := hok.2.2.2.2.2.2.2.2.2
  refine Gx_iload_n (i := 1) dX2_run_0 rfl rfl ?_
  refine Gx_iconst ⟨by decide, by decide⟩ dX2_run_1 ?_
  refine Gx_sipush dX2_run_2 ⟨by decide, by decide⟩ ?_
  refine cl_X2_104 dX2_run_5 rfl ⟨(Nat.le_of_ble_eq_true rfl), (Nat.le_of_ble_eq_true rfl)⟩ rfl ?_
  refine ct_X2_in (fun hn => ?_) (fun hn => ?_)
  · refine Gx_if_ne (tgt := 13) dX2_run_8 (by decide) (fun _ => ?_) (fun hz => absurd hz (by decide))
    refine Gx_aload_n (i := 0) dX2_run_13 rfl rfl ?_
    refine gf_X2_206_22 dX2_run_14 rfl rfl ?_
    refine Gx_iload_n (i := 1) dX2_run_17 rfl rfl ?_
    refine Gx_iadd dX2_run_18 ?_
    try simp (disch := omega) only [w32_id]
    refine Gx_sipush dX2_run_19 ⟨by decide, by decide⟩ ?_
    refine Gx_icmp_le (tgt := 28) dX2_run_22 (by decide) (fun c22 => ?_) (fun c22 => ?_)
    · refine Gx_iconst ⟨by decide, by decide⟩ dX2_run_28 ?_
      refine Gx_istore_n_2 dX2_run_29 (Nat.le_of_ble_eq_true rfl) (Nat.ne_of_beq_eq_false rfl) ?_
      refine Gx_iconst ⟨by decide, by decide⟩ dX2_run_30 ?_
      refine Gx_istore_n_3 dX2_run_31 (Nat.le_of_ble_eq_true rfl) (Nat.ne_of_beq_eq_false rfl) ?_
      refine Gx_iconst ⟨by decide, by decide⟩ dX2_run_32 ?_
      refine Gx_istore_4 dX2_run_33 (Nat.le_of_ble_eq_true rfl) (Nat.ne_of_beq_eq_false rfl) ?_
      refine lp_X2_run hok hn (by omega) (fun v1 hR => ?_) n.toNat 0 v (by omega) (by omega) ⟨rfl, fun k _ _ => ⟨rfl, rfl⟩, fun a k _ => rfl⟩
      refine Gx_aload_n (i := 0) dX2_run_71 rfl rfl ?_
      refine Gx_iload_n (i := 3) dX2_run_72 rfl rfl ?_
      refine Gx_iload_n (i := 2) dX2_run_73 rfl rfl ?_
      refine cl_X2_126 dX2_run_74 rfl rfl ⟨(Nat.le_of_ble_eq_true rfl), (Nat.le_of_ble_eq_true rfl)⟩ rfl ?_
      refine ct_X2_tells ?_
      refine Gx_ireturn dX2_run_77 trivial ?_
      exact kY hn (by omega) v1 hR
    · refine Gx_bipush dX2_run_25 ⟨by decide, by decide⟩ ?_
      refine Gx_ireturn dX2_run_27 trivial ?_
      exact kS hn (by omega)
  · refine Gx_if_ne (tgt := 13) dX2_run_8 (by decide) (fun hz => absurd hz (by decide)) (fun _ => ?_)
    refine Gx_iconst ⟨by decide, by decide⟩ dX2_run_11 ?_
    refine Gx_ireturn dX2_run_12 trivial ?_
    exact kB hn
def oSm (v u : gM) (tr ea : Int) (n : Nat) : Prop := v 38 48 = yTot yA1 u n ∧ v 38 49 = yMax u n ∧ v 38 50 = yTot yD1 u n ∧ v 38 51 = yTot yN1 u n ∧ v 38 52 = yTot yO1 u n ∧ v 38 53 = yTot yP1 u n ∧ v 38 54 = yTot (yT1 tr) u n ∧ v 38 55 = yTot (yG1 tr) u n ∧ v 38 56 = yTot (yS1 ea) u n
theorem gain_eq {A D G : Int} (hD : 0 ≤ D ∧ D ≤ 1440) (hG : 0 ≤ G ∧ G ≤ 60) (hA : 0 ≤ A) : (if A = 0 then 0 else w32 ((w32 (D * G)).tdiv A)) = if A = 0 then 0 else (D * G).tdiv A := by
  have h4 := mul_le_of hD.1 hD.2 hG.1 hG.2
  rw [w32_id (x := D * G) (by omega) (by omega)]
  split
  · rfl
  · have h5 := Int.ediv_nonneg h4.1 hA
    have h6 := Int.ediv_le_self A h4.1
    rw [Int.tdiv_eq_ediv_of_nonneg h4.1]
    exact w32_id (x := D * G / A) (by omega) (by omega)
theorem ct_X2_gainZ {z : gM} {i : Int} (hz : yOK z) (h33 : i < z 38 33) (hi : 0 ≤ i ∧ i < 24) (h38 : v 38 38 = yA1 z) (h39 : v 38 39 = yD1 z) (h61 : v 61 i = yT1 i z) (k : Q (0, yG1 i z) v (gHd K) t) : Ctr Γ mX2_gainOf [(2, 38), (0, i)] v (gHd K) t Q := by
  refine ct_X2_gainOf hi ?_
  rw [h38, h39, h61, gain_eq (yD1_le hz) (yT1_le hz h33) (yA1_le hz).1]
  unfold yG1 at k
  rw [if_neg (by omega)] at k
  exact k

set_option maxHeartbeats 8000000 in
theorem lp_X2_sums {tr ea : Int} {l : Nat} {bc bs : Nat} {v0 u : gM} (hok : yOK v0) (hu : yOK u) (hl : l ≤ 2000) (hy : u 38 31 ≤ 12000) (e33 : u 38 33 = v0 38 33) (e22 : u 38 22 = v0 38 22) (htr : tr < v0 38 33) (hea : ea < v0 38 22) (cont : ∀ v1, oTrip v0 v1 → v1 38 47 = l → oSm v1 u tr ea l → Gx Γ mX2_laySums 266 [(2, 38), (0, tr), (0, ea), (0, (l : Int))] [] v1 (gHd K) t bc bs Q) : ∀ (j : Nat) (x : Int) (v : gM), 0 ≤ x → x + j = l → oTrip v0 v → mN v = yIt u x.toNat → v 38 47 = l → oSm v u tr ea x.toNat → Gx Γ mX2_laySums 56 [(2, 38), (0, tr), (0, ea), (0, x)] [] v (gHd K) t bc bs Q := by
  intro j
  induction j with
  | zero =>
    intro x v h0 h1 hT hm h47 hSm
    have hoN := yOK_it hu x.toNat
    have hov : yOK v := yOK_m hu hm
    have hyy := yYr_m hm
    have cs := oTrip_cs hok hT
    have q33 := oTrip_33 hT
    have q22 := oTrip_22 hT
    have z33 := (yIt_o (u := u) (a := 38) (j := 33) (by omega) x.toNat).1
    have z22 := (yIt_o (u := u) (a := 38) (j := 22) (by omega) x.toNat).1
    obtain ⟨s48, s49, s50, s51, s52, s53, s54, s55, s56⟩ := hSm
    have bA := yTot_le (F := yA1) (u := u) (B := 1440) (fun k => yA1_le (yOK_it hu k)) x.toNat
    have bD := yTot_le (F := yD1) (u := u) (B := 1440) (fun k => yD1_le (yOK_it hu k)) x.toNat
    have bN := yTot_le (F := yN1) (u := u) (B := 24) (fun k => by have h1 := yN1_le (yOK_it hu k); have h2 := (yOK_it hu k).2.2.1; omega) x.toNat
    have bO := yTot_le (F := yO1) (u := u) (B := 552) (fun k => yO1_le (yOK_it hu k)) x.toNat
    have bP := yTot_le (F := yP1) (u := u) (B := 552) (fun k => yP1_le (yOK_it hu k)) x.toNat
    have bT := yTot_le (F := yT1 tr) (u := u) (B := 60) (fun k => yT1_le (yOK_it hu k) (by rw [(yIt_o (u := u) (a := 38) (j := 33) (by omega) k).1]; omega)) x.toNat
    have bG := yTot_le (F := yG1 tr) (u := u) (B := 86400) (fun k => yG1_le (yOK_it hu k) (by rw [(yIt_o (u := u) (a := 38) (j := 33) (by omega) k).1]; omega)) x.toNat
    have bS := yTot_le (F := yS1 ea) (u := u) (B := 1) (fun k => yS1_le) x.toNat
    have bM := yMax_le hu x.toNat
    have a1 := yA1_le hoN
    have a2 := yD1_le hoN
    have a3 := yN1_le hoN
    have a4 := yO1_le hoN
    have a5 := yP1_le hoN
    have a6 := yT1_le (i := tr) hoN (by omega)
    have a7 := yG1_le (i := tr) hoN (by omega)
    have a8 := yS1_le (u := yIt u x.toNat) (e := ea)
    refine Gx_iload_n (i := 3) dX2_laySums_56 rfl rfl ?_
    refine Gx_aload_n (i := 0) dX2_laySums_57 rfl rfl ?_
    refine gf_X2_302_22 dX2_laySums_58 rfl rfl ?_
    rw [h47]
    refine Gx_icmp_ge (tgt := 266) dX2_laySums_61 (by decide) (fun c61 => ?_) (fun c61 => ?_)
    · have e0 : x = l := by omega
      rw [e0]
      refine cont v hT h47 ?_
      rw [show x.toNat = l by omega] at s48 s49 s50 s51 s52 s53 s54 s55 s56
      exact ⟨s48, s49, s50, s51, s52, s53, s54, s55, s56⟩
    · exfalso
      omega
  | succ j ih =>
    intro x v h0 h1 hT hm h47 hSm
    have hoN := yOK_it hu x.toNat
    have hov : yOK v := yOK_m hu hm
    have hyy := yYr_m hm
    have cs := oTrip_cs hok hT
    have q33 := oTrip_33 hT
    have q22 := oTrip_22 hT
    have z33 := (yIt_o (u := u) (a := 38) (j := 33) (by omega) x.toNat).1
    have z22 := (yIt_o (u := u) (a := 38) (j := 22) (by omega) x.toNat).1
    obtain ⟨s48, s49, s50, s51, s52, s53, s54, s55, s56⟩ := hSm
    have bA := yTot_le (F := yA1) (u := u) (B := 1440) (fun k => yA1_le (yOK_it hu k)) x.toNat
    have bD := yTot_le (F := yD1) (u := u) (B := 1440) (fun k => yD1_le (yOK_it hu k)) x.toNat
    have bN := yTot_le (F := yN1) (u := u) (B := 24) (fun k => by have h1 := yN1_le (yOK_it hu k); have h2 := (yOK_it hu k).2.2.1; omega) x.toNat
    have bO := yTot_le (F := yO1) (u := u) (B := 552) (fun k => yO1_le (yOK_it hu k)) x.toNat
    have bP := yTot_le (F := yP1) (u := u) (B := 552) (fun k => yP1_le (yOK_it hu k)) x.toNat
    have bT := yTot_le (F := yT1 tr) (u := u) (B := 60) (fun k => yT1_le (yOK_it hu k) (by rw [(yIt_o (u := u) (a := 38) (j := 33) (by omega) k).1]; omega)) x.toNat
    have bG := yTot_le (F := yG1 tr) (u := u) (B := 86400) (fun k => yG1_le (yOK_it hu k) (by rw [(yIt_o (u := u) (a := 38) (j := 33) (by omega) k).1]; omega)) x.toNat
    have bS := yTot_le (F := yS1 ea) (u := u) (B := 1) (fun k => yS1_le) x.toNat
    have bM := yMax_le hu x.toNat
    have a1 := yA1_le hoN
    have a2 := yD1_le hoN
    have a3 := yN1_le hoN
    have a4 := yO1_le hoN
    have a5 := yP1_le hoN
    have a6 := yT1_le (i := tr) hoN (by omega)
    have a7 := yG1_le (i := tr) hoN (by omega)
    have a8 := yS1_le (u := yIt u x.toNat) (e := ea)
    refine Gx_iload_n (i := 3) dX2_laySums_56 rfl rfl ?_
    refine Gx_aload_n (i := 0) dX2_laySums_57 rfl rfl ?_
    refine gf_X2_302_22 dX2_laySums_58 rfl rfl ?_
    try simp (disch := omega) only [gUp_ne2, gUp_eq2]
    rw [h47]
    refine Gx_icmp_ge (tgt := 266) dX2_laySums_61 (by decide) (fun c61 => ?_) (fun c61 => ?_)
    · exfalso
      omega
    · refine Gx_aload_n (i := 0) dX2_laySums_64 rfl rfl ?_
      refine Gx_aload_n (i := 0) dX2_laySums_65 rfl rfl ?_
      refine cl_X2_273 dX2_laySums_66 rfl rfl ⟨(Nat.le_of_ble_eq_true rfl), (Nat.le_of_ble_eq_true rfl)⟩ rfl ?_
      refine ct_X2_mayY hov ?_
      refine Gx_iconst ⟨by decide, by decide⟩ dX2_laySums_69 ?_
      refine Gx_iconst ⟨by decide, by decide⟩ dX2_laySums_70 ?_
      refine cl_X2_269 dX2_laySums_71 rfl rfl ⟨(Nat.le_of_ble_eq_true rfl), (Nat.le_of_ble_eq_true rfl)⟩ rfl ?_
      refine ct_X2_passY (yMay_le (yOK_N hov)) hov (by omega) (fun v3 h3 => ?_)
      have hT3 := oTrip_yr hT (by omega) h3
      have hm3 : mN v3 = yIt u (x + 1).toNat := by
        rw [h3.1, hm, show (x + 1).toNat = x.toNat + 1 by omega]
        rfl
      have hF3 := fun (a k : Int) (hk : ¬ ((a = 38 ∧ (k = 31 ∨ k = 38 ∨ k = 39 ∨ k = 40 ∨ k = 41)) ∨ (56 ≤ a ∧ a ≤ 62))) => h3.2.2.2.2.2.2.2.2 a k (by omega)
      have d38 : v3 38 38 = yA1 (yIt u x.toNat) := by rw [h3.2.1, hm]; rfl
      have d39 : v3 38 39 = yD1 (yIt u x.toNat) := by rw [h3.2.2.1, hm]; rfl
      have d40 : v3 38 40 = yN1 (yIt u x.toNat) := by
        rw [h3.2.2.2.1, hm]
        unfold yN1
        rw [z33, q33, e33]
      have d33 : v 38 33 = yIt u x.toNat 38 33 := by omega
      have d61 : ∀ k, 0 ≤ k → k < v0 38 33 → v3 61 k = yT1 k (yIt u x.toNat) := by
        intro k k0 k1
        rw [h3.2.2.2.2.2.1 k k0 (by omega), hm]
        show _ = if k < 0 then 0 else _
        rw [if_neg (show ¬ k < 0 by omega)]
      have d62 : ∀ k, 0 ≤ k → k < v0 38 22 → v3 62 k = yS1 k (yIt u x.toNat) := by
        intro k k0 k1
        rw [h3.2.2.2.2.2.2.1 k k0 (by omega), hm]
        show _ = if k < 0 then 0 else _
        rw [if_neg (show ¬ k < 0 by omega)]
      refine Gx_aload_n (i := 0) dX2_laySums_74 rfl rfl ?_
      refine Gx_dup (Nat.ne_of_beq_eq_false rfl) dX2_laySums_75 ?_
      refine gf_X2_309_22 dX2_laySums_76 rfl rfl ?_
      try simp (disch := omega) only [gUp_ne2, gUp_eq2, hF3, s48, s49, s50, s51, s52, s53, s54, s55, s56, d38, d39, d40, d33]
      refine Gx_aload_n (i := 0) dX2_laySums_79 rfl rfl ?_
      refine gf_X2_251_22 dX2_laySums_80 rfl rfl ?_
      try simp (disch := omega) only [gUp_ne2, gUp_eq2, hF3, s48, s49, s50, s51, s52, s53, s54, s55, s56, d38, d39, d40, d33]
      refine Gx_i2l dX2_laySums_83 ?_
      refine Gx_ladd dX2_laySums_84 ?_
      try simp (disch := omega) only [w64_id]
      refine pf_X2_309_22 dX2_laySums_85 rfl rfl ?_
      refine Gx_aload_n (i := 0) dX2_laySums_88 rfl rfl ?_
      refine Gx_aload_n (i := 0) dX2_laySums_89 rfl rfl ?_
      refine gf_X2_251_22 dX2_laySums_90 rfl rfl ?_
      try simp (disch := omega) only [gUp_ne2, gUp_eq2, hF3, s48, s49, s50, s51, s52, s53, s54, s55, s56, d38, d39, d40, d33]
      refine Gx_aload_n (i := 0) dX2_laySums_93 rfl rfl ?_
      refine gf_X2_312_22 dX2_laySums_94 rfl rfl ?_
      try simp (disch := omega) only [gUp_ne2, gUp_eq2, hF3, s48, s49, s50, s51, s52, s53, s54, s55, s56, d38, d39, d40, d33]
      refine Gx_icmp_le (tgt := 107) dX2_laySums_97 (by decide) (fun c97 => ?_) (fun c97 => ?_)
      · refine Gx_aload_n (i := 0) dX2_laySums_107 rfl rfl ?_
        refine gf_X2_312_22 dX2_laySums_108 rfl rfl ?_
        try simp (disch := omega) only [gUp_ne2, gUp_eq2, hF3, s48, s49, s50, s51, s52, s53, s54, s55, s56, d38, d39, d40, d33]
        refine pf_X2_312_22 dX2_laySums_111 rfl rfl ?_
        refine Gx_aload_n (i := 0) dX2_laySums_114 rfl rfl ?_
        refine Gx_dup (Nat.ne_of_beq_eq_false rfl) dX2_laySums_115 ?_
        refine gf_X2_315_22 dX2_laySums_116 rfl rfl ?_
        try simp (disch := omega) only [gUp_ne2, gUp_eq2, hF3, s48, s49, s50, s51, s52, s53, s54, s55, s56, d38, d39, d40, d33]
        refine Gx_aload_n (i := 0) dX2_laySums_119 rfl rfl ?_
        refine gf_X2_266_22 dX2_laySums_120 rfl rfl ?_
        try simp (disch := omega) only [gUp_ne2, gUp_eq2, hF3, s48, s49, s50, s51, s52, s53, s54, s55, s56, d38, d39, d40, d33]
        refine Gx_i2l dX2_laySums_123 ?_
        refine Gx_ladd dX2_laySums_124 ?_
        try simp (disch := omega) only [w64_id]
        refine pf_X2_315_22 dX2_laySums_125 rfl rfl ?_
        refine Gx_aload_n (i := 0) dX2_laySums_128 rfl rfl ?_
        refine Gx_dup (Nat.ne_of_beq_eq_false rfl) dX2_laySums_129 ?_
        refine gf_X2_318_22 dX2_laySums_130 rfl rfl ?_
        try simp (disch := omega) only [gUp_ne2, gUp_eq2, hF3, s48, s49, s50, s51, s52, s53, s54, s55, s56, d38, d39, d40, d33]
        refine Gx_aload_n (i := 0) dX2_laySums_133 rfl rfl ?_
        refine gf_X2_245_22 dX2_laySums_134 rfl rfl ?_
        try simp (disch := omega) only [gUp_ne2, gUp_eq2, hF3, s48, s49, s50, s51, s52, s53, s54, s55, s56, d38, d39, d40, d33]
        refine Gx_i2l dX2_laySums_137 ?_
        refine Gx_ladd dX2_laySums_138 ?_
        try simp (disch := omega) only [w64_id]
        refine pf_X2_318_22 dX2_laySums_139 rfl rfl ?_
        refine Gx_aload_n (i := 0) dX2_laySums_142 rfl rfl ?_
        refine Gx_dup (Nat.ne_of_beq_eq_false rfl) dX2_laySums_143 ?_
        refine gf_X2_321_22 dX2_laySums_144 rfl rfl ?_
        try simp (disch := omega) only [gUp_ne2, gUp_eq2, hF3, s48, s49, s50, s51, s52, s53, s54, s55, s56, d38, d39, d40, d33]
        refine Gx_aload_n (i := 0) dX2_laySums_147 rfl rfl ?_
        refine gf_X2_245_22 dX2_laySums_148 rfl rfl ?_
        try simp (disch := omega) only [gUp_ne2, gUp_eq2, hF3, s48, s49, s50, s51, s52, s53, s54, s55, s56, d38, d39, d40, d33]
        refine Gx_i2l dX2_laySums_151 ?_
        refine Gx_aload_n (i := 0) dX2_laySums_152 rfl rfl ?_
        refine gf_X2_203_22 dX2_laySums_153 rfl rfl ?_
        try simp (disch := omega) only [gUp_ne2, gUp_eq2, hF3, s48, s49, s50, s51, s52, s53, s54, s55, s56, d38, d39, d40, d33]
        refine Gx_iconst ⟨by decide, by decide⟩ dX2_laySums_156 ?_
        refine Gx_isub dX2_laySums_157 ?_
        try simp (disch := omega) only [w32_id]
        refine Gx_i2l dX2_laySums_158 ?_
        refine Gx_lmul dX2_laySums_159 ?_
        try simp (disch := omega) only [w64_id]
        have eO : yN1 (yIt u x.toNat) * (yIt u x.toNat 38 33 - 1) = yO1 (yIt u x.toNat) := rfl
        try rw [eO]
        try rw [w64_id (x := yO1 (yIt u x.toNat)) (by omega) (by omega)]
        refine Gx_ladd dX2_laySums_160 ?_
        try simp (disch := omega) only [w64_id]
        refine pf_X2_321_22 dX2_laySums_161 rfl rfl ?_
        refine Gx_aload_n (i := 0) dX2_laySums_164 rfl rfl ?_
        refine Gx_dup (Nat.ne_of_beq_eq_false rfl) dX2_laySums_165 ?_
        refine gf_X2_324_22 dX2_laySums_166 rfl rfl ?_
        try simp (disch := omega) only [gUp_ne2, gUp_eq2, hF3, s48, s49, s50, s51, s52, s53, s54, s55, s56, d38, d39, d40, d33]
        refine Gx_aload_n (i := 0) dX2_laySums_169 rfl rfl ?_
        refine gf_X2_245_22 dX2_laySums_170 rfl rfl ?_
        try simp (disch := omega) only [gUp_ne2, gUp_eq2, hF3, s48, s49, s50, s51, s52, s53, s54, s55, s56, d38, d39, d40, d33]
        refine Gx_i2l dX2_laySums_173 ?_
        refine Gx_aload_n (i := 0) dX2_laySums_174 rfl rfl ?_
        refine gf_X2_245_22 dX2_laySums_175 rfl rfl ?_
        try simp (disch := omega) only [gUp_ne2, gUp_eq2, hF3, s48, s49, s50, s51, s52, s53, s54, s55, s56, d38, d39, d40, d33]
        refine Gx_iconst ⟨by decide, by decide⟩ dX2_laySums_178 ?_
        refine Gx_isub dX2_laySums_179 ?_
        try simp (disch := omega) only [w32_id]
        refine Gx_i2l dX2_laySums_180 ?_
        refine Gx_lmul dX2_laySums_181 ?_
        try simp (disch := omega) only [w64_id]
        have eP : yN1 (yIt u x.toNat) * (yN1 (yIt u x.toNat) - 1) = yP1 (yIt u x.toNat) := rfl
        try rw [eP]
        try rw [w64_id (x := yP1 (yIt u x.toNat)) (by omega) (by omega)]
        refine Gx_ladd dX2_laySums_182 ?_
        try simp (disch := omega) only [w64_id]
        refine pf_X2_324_22 dX2_laySums_183 rfl rfl ?_
        refine Gx_aload_n (i := 0) dX2_laySums_186 rfl rfl ?_
        refine Gx_dup (Nat.ne_of_beq_eq_false rfl) dX2_laySums_187 ?_
        refine gf_X2_327_22 dX2_laySums_188 rfl rfl ?_
        try simp (disch := omega) only [gUp_ne2, gUp_eq2, hF3, s48, s49, s50, s51, s52, s53, s54, s55, s56, d38, d39, d40, d33]
        refine Gx_iload_n (i := 1) dX2_laySums_191 rfl rfl ?_
        refine Gx_if_ge (tgt := 199) dX2_laySums_192 (by decide) (fun c192 => ?_) (fun c192 => ?_)
        · refine Gx_aload_n (i := 0) dX2_laySums_199 rfl rfl ?_
          refine gf_X2_77_22 dX2_laySums_200 rfl rfl ?_
          refine Gx_iload_n (i := 1) dX2_laySums_203 rfl rfl ?_
          refine Gx_iaload dX2_laySums_204 rfl (by first | omega | (simp (disch := omega) only [w32_id]; omega)) ?_
          try simp (disch := omega) only [gUp_ne2, gUp_eq2, hF3, s48, s49, s50, s51, s52, s53, s54, s55, s56, d38, d39, d40, d33]
          rw [d61 tr (by omega) (by omega)]
          refine Gx_i2l dX2_laySums_205 ?_
          refine Gx_ladd dX2_laySums_206 ?_
          try simp (disch := omega) only [w64_id]
          refine pf_X2_327_22 dX2_laySums_207 rfl rfl ?_
          refine Gx_aload_n (i := 0) dX2_laySums_210 rfl rfl ?_
          refine Gx_dup (Nat.ne_of_beq_eq_false rfl) dX2_laySums_211 ?_
          refine gf_X2_330_22 dX2_laySums_212 rfl rfl ?_
          try simp (disch := omega) only [gUp_ne2, gUp_eq2, hF3, s48, s49, s50, s51, s52, s53, s54, s55, s56, d38, d39, d40, d33]
          refine Gx_iload_n (i := 1) dX2_laySums_215 rfl rfl ?_
          refine Gx_if_ge (tgt := 223) dX2_laySums_216 (by decide) (fun c216 => ?_) (fun c216 => (by exfalso; omega))
          refine Gx_aload_n (i := 0) dX2_laySums_223 rfl rfl ?_
          refine Gx_iload_n (i := 1) dX2_laySums_224 rfl rfl ?_
          refine cl_X2_336 dX2_laySums_225 rfl rfl ⟨(Nat.le_of_ble_eq_true rfl), (Nat.le_of_ble_eq_true rfl)⟩ rfl ?_
          refine ct_X2_gainZ hoN (by omega) ⟨by omega, by omega⟩ (by simp (disch := omega) only [gUp_ne2, gUp_eq2, hF3, s48, s49, s50, s51, s52, s53, s54, s55, s56, d38, d39, d40, d33]) (by simp (disch := omega) only [gUp_ne2, gUp_eq2, hF3, s48, s49, s50, s51, s52, s53, s54, s55, s56, d38, d39, d40, d33]) (by simp (disch := omega) only [gUp_ne2]; exact d61 tr (by omega) (by omega)) ?_
          refine Gx_i2l dX2_laySums_228 ?_
          refine Gx_ladd dX2_laySums_229 ?_
          try simp (disch := omega) only [w64_id]
          refine pf_X2_330_22 dX2_laySums_230 rfl rfl ?_
          refine Gx_aload_n (i := 0) dX2_laySums_233 rfl rfl ?_
          refine Gx_dup (Nat.ne_of_beq_eq_false rfl) dX2_laySums_234 ?_
          refine gf_X2_333_22 dX2_laySums_235 rfl rfl ?_
          try simp (disch := omega) only [gUp_ne2, gUp_eq2, hF3, s48, s49, s50, s51, s52, s53, s54, s55, s56, d38, d39, d40, d33]
          refine Gx_iload_n (i := 2) dX2_laySums_238 rfl rfl ?_
          refine Gx_if_lt (tgt := 255) dX2_laySums_239 (by decide) (fun c239 => ?_) (fun c239 => ?_)
          · refine Gx_iconst ⟨by decide, by decide⟩ dX2_laySums_255 ?_
            refine Gx_iadd dX2_laySums_256 ?_
            try simp (disch := omega) only [w32_id]
            refine pf_X2_333_22 dX2_laySums_257 rfl rfl ?_
            refine Gx_iinc_3 dX2_laySums_260 (Nat.le_of_ble_eq_true rfl) (Nat.ne_of_beq_eq_false rfl) ?_
            try simp (disch := omega) only [w32_id]
            refine Gx_goto (tgt := 56) dX2_laySums_263 (by decide) ?_
            refine Gx_name (fun vN eN => ?_)
            have hNF : ∀ a k, ¬ (a = 38 ∧ 48 ≤ k ∧ k ≤ 56) → vN a k = v3 a k := by
              intro a k hk
              rw [eN]
              simp (disch := omega) only [gUp_ne2]
            have ex : (x + 1).toNat = x.toNat + 1 := by omega
            refine ih (x + 1) vN (by omega) (by omega) (oTrip_of hT3 (fun k => hNF 64 k (by omega)) (fun a k hk => hNF a k (by omega))) ?_ ?_ ?_
            · rw [← hm3]
              exact mN_congr (fun a k hR => hNF a k (by unfold yR at hR; omega))
            · rw [hNF 38 47 (by omega), hF3 38 47 (by omega), h47]
            · rw [ex, eN]
              refine ⟨?_, ?_, ?_, ?_, ?_, ?_, ?_, ?_, ?_⟩
              all_goals simp (disch := omega) only [gUp_ne2, gUp_eq2]
              all_goals first
              | rfl
              | (show _ = _ + _; omega)
              | (show _ = max _ _; omega)
              | (show _ = _ + yS1 ea (yIt u x.toNat)
                 rw [show yS1 ea (yIt u x.toNat) = 0 from if_pos (by omega)])
          · refine Gx_aload_n (i := 0) dX2_laySums_242 rfl rfl ?_
            refine gf_X2_80_22 dX2_laySums_243 rfl rfl ?_
            refine Gx_iload_n (i := 2) dX2_laySums_246 rfl rfl ?_
            refine Gx_zaload dX2_laySums_247 rfl (by first | omega | (simp (disch := omega) only [w32_id]; omega)) ?_
            try simp (disch := omega) only [gUp_ne2, gUp_eq2, hF3, s48, s49, s50, s51, s52, s53, s54, s55, s56, d38, d39, d40, d33]
            rw [d62 ea (by omega) (by omega)]
            refine Gx_if_eq (tgt := 255) dX2_laySums_248 (by decide) (fun c248 => ?_) (fun c248 => ?_)
            · refine Gx_iconst ⟨by decide, by decide⟩ dX2_laySums_255 ?_
              refine Gx_iadd dX2_laySums_256 ?_
              try simp (disch := omega) only [w32_id]
              refine pf_X2_333_22 dX2_laySums_257 rfl rfl ?_
              refine Gx_iinc_3 dX2_laySums_260 (Nat.le_of_ble_eq_true rfl) (Nat.ne_of_beq_eq_false rfl) ?_
              try simp (disch := omega) only [w32_id]
              refine Gx_goto (tgt := 56) dX2_laySums_263 (by decide) ?_
              refine Gx_name (fun vN eN => ?_)
              have hNF : ∀ a k, ¬ (a = 38 ∧ 48 ≤ k ∧ k ≤ 56) → vN a k = v3 a k := by
                intro a k hk
                rw [eN]
                simp (disch := omega) only [gUp_ne2]
              have ex : (x + 1).toNat = x.toNat + 1 := by omega
              refine ih (x + 1) vN (by omega) (by omega) (oTrip_of hT3 (fun k => hNF 64 k (by omega)) (fun a k hk => hNF a k (by omega))) ?_ ?_ ?_
              · rw [← hm3]
                exact mN_congr (fun a k hR => hNF a k (by unfold yR at hR; omega))
              · rw [hNF 38 47 (by omega), hF3 38 47 (by omega), h47]
              · rw [ex, eN]
                refine ⟨?_, ?_, ?_, ?_, ?_, ?_, ?_, ?_, ?_⟩
                all_goals simp (disch := omega) only [gUp_ne2, gUp_eq2]
                all_goals first
                | rfl
                | (show _ = _ + _; omega)
                | (show _ = max _ _; omega)
                | (show _ = _ + yS1 ea (yIt u x.toNat)
                   rw [show yS1 ea (yIt u x.toNat) = 0 from if_pos (by omega)])
            · refine Gx_iconst ⟨by decide, by decide⟩ dX2_laySums_251 ?_
              refine Gx_goto (tgt := 256) dX2_laySums_252 (by decide) ?_
              refine Gx_iadd dX2_laySums_256 ?_
              try simp (disch := omega) only [w32_id]
              refine pf_X2_333_22 dX2_laySums_257 rfl rfl ?_
              refine Gx_iinc_3 dX2_laySums_260 (Nat.le_of_ble_eq_true rfl) (Nat.ne_of_beq_eq_false rfl) ?_
              try simp (disch := omega) only [w32_id]
              refine Gx_goto (tgt := 56) dX2_laySums_263 (by decide) ?_
              refine Gx_name (fun vN eN => ?_)
              have hNF : ∀ a k, ¬ (a = 38 ∧ 48 ≤ k ∧ k ≤ 56) → vN a k = v3 a k := by
                intro a k hk
                rw [eN]
                simp (disch := omega) only [gUp_ne2]
              have ex : (x + 1).toNat = x.toNat + 1 := by omega
              refine ih (x + 1) vN (by omega) (by omega) (oTrip_of hT3 (fun k => hNF 64 k (by omega)) (fun a k hk => hNF a k (by omega))) ?_ ?_ ?_
              · rw [← hm3]
                exact mN_congr (fun a k hR => hNF a k (by unfold yR at hR; omega))
              · rw [hNF 38 47 (by omega), hF3 38 47 (by omega), h47]
              · rw [ex, eN]
                refine ⟨?_, ?_, ?_, ?_, ?_, ?_, ?_, ?_, ?_⟩
                all_goals simp (disch := omega) only [gUp_ne2, gUp_eq2]
                all_goals first
                | rfl
                | (show _ = _ + _; omega)
                | (show _ = max _ _; omega)
                | (show _ = _ + yS1 ea (yIt u x.toNat)
                   rw [show yS1 ea (yIt u x.toNat) = 0 from if_pos (by omega)])
        · have tN : yT1 tr (yIt u x.toNat) = 0 := if_pos (by omega)
          refine Gx_lconst0 dX2_laySums_195 ?_
          refine Gx_goto (tgt := 206) dX2_laySums_196 (by decide) ?_
          refine Gx_ladd dX2_laySums_206 ?_
          try simp (disch := omega) only [w64_id]
          refine pf_X2_327_22 dX2_laySums_207 rfl rfl ?_
          refine Gx_aload_n (i := 0) dX2_laySums_210 rfl rfl ?_
          refine Gx_dup (Nat.ne_of_beq_eq_false rfl) dX2_laySums_211 ?_
          refine gf_X2_330_22 dX2_laySums_212 rfl rfl ?_
          try simp (disch := omega) only [gUp_ne2, gUp_eq2, hF3, s48, s49, s50, s51, s52, s53, s54, s55, s56, d38, d39, d40, d33]
          refine Gx_iload_n (i := 1) dX2_laySums_215 rfl rfl ?_
          refine Gx_if_ge (tgt := 223) dX2_laySums_216 (by decide) (fun c216 => (by exfalso; omega)) (fun c216 => ?_)
          have gN : yG1 tr (yIt u x.toNat) = 0 := if_pos (by omega)
          refine Gx_lconst0 dX2_laySums_219 ?_
          refine Gx_goto (tgt := 229) dX2_laySums_220 (by decide) ?_
          refine Gx_ladd dX2_laySums_229 ?_
          try simp (disch := omega) only [w64_id]
          refine pf_X2_330_22 dX2_laySums_230 rfl rfl ?_
          refine Gx_aload_n (i := 0) dX2_laySums_233 rfl rfl ?_
          refine Gx_dup (Nat.ne_of_beq_eq_false rfl) dX2_laySums_234 ?_
          refine gf_X2_333_22 dX2_laySums_235 rfl rfl ?_
          try simp (disch := omega) only [gUp_ne2, gUp_eq2, hF3, s48, s49, s50, s51, s52, s53, s54, s55, s56, d38, d39, d40, d33]
          refine Gx_iload_n (i := 2) dX2_laySums_238 rfl rfl ?_
          refine Gx_if_lt (tgt := 255) dX2_laySums_239 (by decide) (fun c239 => ?_) (fun c239 => ?_)
          · refine Gx_iconst ⟨by decide, by decide⟩ dX2_laySums_255 ?_
            refine Gx_iadd dX2_laySums_256 ?_
            try simp (disch := omega) only [w32_id]
            refine pf_X2_333_22 dX2_laySums_257 rfl rfl ?_
            refine Gx_iinc_3 dX2_laySums_260 (Nat.le_of_ble_eq_true rfl) (Nat.ne_of_beq_eq_false rfl) ?_
            try simp (disch := omega) only [w32_id]
            refine Gx_goto (tgt := 56) dX2_laySums_263 (by decide) ?_
            refine Gx_name (fun vN eN => ?_)
            have hNF : ∀ a k, ¬ (a = 38 ∧ 48 ≤ k ∧ k ≤ 56) → vN a k = v3 a k := by
              intro a k hk
              rw [eN]
              simp (disch := omega) only [gUp_ne2]
            have ex : (x + 1).toNat = x.toNat + 1 := by omega
            refine ih (x + 1) vN (by omega) (by omega) (oTrip_of hT3 (fun k => hNF 64 k (by omega)) (fun a k hk => hNF a k (by omega))) ?_ ?_ ?_
            · rw [← hm3]
              exact mN_congr (fun a k hR => hNF a k (by unfold yR at hR; omega))
            · rw [hNF 38 47 (by omega), hF3 38 47 (by omega), h47]
            · rw [ex, eN]
              refine ⟨?_, ?_, ?_, ?_, ?_, ?_, ?_, ?_, ?_⟩
              all_goals simp (disch := omega) only [gUp_ne2, gUp_eq2]
              all_goals first
              | rfl
              | (show _ = _ + _; omega)
              | (show _ = max _ _; omega)
              | (show _ = _ + yS1 ea (yIt u x.toNat)
                 rw [show yS1 ea (yIt u x.toNat) = 0 from if_pos (by omega)])
          · refine Gx_aload_n (i := 0) dX2_laySums_242 rfl rfl ?_
            refine gf_X2_80_22 dX2_laySums_243 rfl rfl ?_
            refine Gx_iload_n (i := 2) dX2_laySums_246 rfl rfl ?_
            refine Gx_zaload dX2_laySums_247 rfl (by first | omega | (simp (disch := omega) only [w32_id]; omega)) ?_
            try simp (disch := omega) only [gUp_ne2, gUp_eq2, hF3, s48, s49, s50, s51, s52, s53, s54, s55, s56, d38, d39, d40, d33]
            rw [d62 ea (by omega) (by omega)]
            refine Gx_if_eq (tgt := 255) dX2_laySums_248 (by decide) (fun c248 => ?_) (fun c248 => ?_)
            · refine Gx_iconst ⟨by decide, by decide⟩ dX2_laySums_255 ?_
              refine Gx_iadd dX2_laySums_256 ?_
              try simp (disch := omega) only [w32_id]
              refine pf_X2_333_22 dX2_laySums_257 rfl rfl ?_
              refine Gx_iinc_3 dX2_laySums_260 (Nat.le_of_ble_eq_true rfl) (Nat.ne_of_beq_eq_false rfl) ?_
              try simp (disch := omega) only [w32_id]
              refine Gx_goto (tgt := 56) dX2_laySums_263 (by decide) ?_
              refine Gx_name (fun vN eN => ?_)
              have hNF : ∀ a k, ¬ (a = 38 ∧ 48 ≤ k ∧ k ≤ 56) → vN a k = v3 a k := by
                intro a k hk
                rw [eN]
                simp (disch := omega) only [gUp_ne2]
              have ex : (x + 1).toNat = x.toNat + 1 := by omega
              refine ih (x + 1) vN (by omega) (by omega) (oTrip_of hT3 (fun k => hNF 64 k (by omega)) (fun a k hk => hNF a k (by omega))) ?_ ?_ ?_
              · rw [← hm3]
                exact mN_congr (fun a k hR => hNF a k (by unfold yR at hR; omega))
              · rw [hNF 38 47 (by omega), hF3 38 47 (by omega), h47]
              · rw [ex, eN]
                refine ⟨?_, ?_, ?_, ?_, ?_, ?_, ?_, ?_, ?_⟩
                all_goals simp (disch := omega) only [gUp_ne2, gUp_eq2]
                all_goals first
                | rfl
                | (show _ = _ + _; omega)
                | (show _ = max _ _; omega)
                | (show _ = _ + yS1 ea (yIt u x.toNat)
                   rw [show yS1 ea (yIt u x.toNat) = 0 from if_pos (by omega)])
            · refine Gx_iconst ⟨by decide, by decide⟩ dX2_laySums_251 ?_
              refine Gx_goto (tgt := 256) dX2_laySums_252 (by decide) ?_
              refine Gx_iadd dX2_laySums_256 ?_
              try simp (disch := omega) only [w32_id]
              refine pf_X2_333_22 dX2_laySums_257 rfl rfl ?_
              refine Gx_iinc_3 dX2_laySums_260 (Nat.le_of_ble_eq_true rfl) (Nat.ne_of_beq_eq_false rfl) ?_
              try simp (disch := omega) only [w32_id]
              refine Gx_goto (tgt := 56) dX2_laySums_263 (by decide) ?_
              refine Gx_name (fun vN eN => ?_)
              have hNF : ∀ a k, ¬ (a = 38 ∧ 48 ≤ k ∧ k ≤ 56) → vN a k = v3 a k := by
                intro a k hk
                rw [eN]
                simp (disch := omega) only [gUp_ne2]
              have ex : (x + 1).toNat = x.toNat + 1 := by omega
              refine ih (x + 1) vN (by omega) (by omega) (oTrip_of hT3 (fun k => hNF 64 k (by omega)) (fun a k hk => hNF a k (by omega))) ?_ ?_ ?_
              · rw [← hm3]
                exact mN_congr (fun a k hR => hNF a k (by unfold yR at hR; omega))
              · rw [hNF 38 47 (by omega), hF3 38 47 (by omega), h47]
              · rw [ex, eN]
                refine ⟨?_, ?_, ?_, ?_, ?_, ?_, ?_, ?_, ?_⟩
                all_goals simp (disch := omega) only [gUp_ne2, gUp_eq2]
                all_goals first
                | rfl
                | (show _ = _ + _; omega)
                | (show _ = max _ _; omega)
                | (show _ = _ + yS1 ea (yIt u x.toNat)
                   rw [show yS1 ea (yIt u x.toNat) = 0 from if_pos (by omega)])
      · refine Gx_aload_n (i := 0) dX2_laySums_100 rfl rfl ?_
        refine gf_X2_251_22 dX2_laySums_101 rfl rfl ?_
        try simp (disch := omega) only [gUp_ne2, gUp_eq2, hF3, s48, s49, s50, s51, s52, s53, s54, s55, s56, d38, d39, d40, d33]
        refine Gx_goto (tgt := 111) dX2_laySums_104 (by decide) ?_
        refine pf_X2_312_22 dX2_laySums_111 rfl rfl ?_
        refine Gx_aload_n (i := 0) dX2_laySums_114 rfl rfl ?_
        refine Gx_dup (Nat.ne_of_beq_eq_false rfl) dX2_laySums_115 ?_
        refine gf_X2_315_22 dX2_laySums_116 rfl rfl ?_
        try simp (disch := omega) only [gUp_ne2, gUp_eq2, hF3, s48, s49, s50, s51, s52, s53, s54, s55, s56, d38, d39, d40, d33]
        refine Gx_aload_n (i := 0) dX2_laySums_119 rfl rfl ?_
        refine gf_X2_266_22 dX2_laySums_120 rfl rfl ?_
        try simp (disch := omega) only [gUp_ne2, gUp_eq2, hF3, s48, s49, s50, s51, s52, s53, s54, s55, s56, d38, d39, d40, d33]
        refine Gx_i2l dX2_laySums_123 ?_
        refine Gx_ladd dX2_laySums_124 ?_
        try simp (disch := omega) only [w64_id]
        refine pf_X2_315_22 dX2_laySums_125 rfl rfl ?_
        refine Gx_aload_n (i := 0) dX2_laySums_128 rfl rfl ?_
        refine Gx_dup (Nat.ne_of_beq_eq_false rfl) dX2_laySums_129 ?_
        refine gf_X2_318_22 dX2_laySums_130 rfl rfl ?_
        try simp (disch := omega) only [gUp_ne2, gUp_eq2, hF3, s48, s49, s50, s51, s52, s53, s54, s55, s56, d38, d39, d40, d33]
        refine Gx_aload_n (i := 0) dX2_laySums_133 rfl rfl ?_
        refine gf_X2_245_22 dX2_laySums_134 rfl rfl ?_
        try simp (disch := omega) only [gUp_ne2, gUp_eq2, hF3, s48, s49, s50, s51, s52, s53, s54, s55, s56, d38, d39, d40, d33]
        refine Gx_i2l dX2_laySums_137 ?_
        refine Gx_ladd dX2_laySums_138 ?_
        try simp (disch := omega) only [w64_id]
        refine pf_X2_318_22 dX2_laySums_139 rfl rfl ?_
        refine Gx_aload_n (i := 0) dX2_laySums_142 rfl rfl ?_
        refine Gx_dup (Nat.ne_of_beq_eq_false rfl) dX2_laySums_143 ?_
        refine gf_X2_321_22 dX2_laySums_144 rfl rfl ?_
        try simp (disch := omega) only [gUp_ne2, gUp_eq2, hF3, s48, s49, s50, s51, s52, s53, s54, s55, s56, d38, d39, d40, d33]
        refine Gx_aload_n (i := 0) dX2_laySums_147 rfl rfl ?_
        refine gf_X2_245_22 dX2_laySums_148 rfl rfl ?_
        try simp (disch := omega) only [gUp_ne2, gUp_eq2, hF3, s48, s49, s50, s51, s52, s53, s54, s55, s56, d38, d39, d40, d33]
        refine Gx_i2l dX2_laySums_151 ?_
        refine Gx_aload_n (i := 0) dX2_laySums_152 rfl rfl ?_
        refine gf_X2_203_22 dX2_laySums_153 rfl rfl ?_
        try simp (disch := omega) only [gUp_ne2, gUp_eq2, hF3, s48, s49, s50, s51, s52, s53, s54, s55, s56, d38, d39, d40, d33]
        refine Gx_iconst ⟨by decide, by decide⟩ dX2_laySums_156 ?_
        refine Gx_isub dX2_laySums_157 ?_
        try simp (disch := omega) only [w32_id]
        refine Gx_i2l dX2_laySums_158 ?_
        refine Gx_lmul dX2_laySums_159 ?_
        try simp (disch := omega) only [w64_id]
        have eO : yN1 (yIt u x.toNat) * (yIt u x.toNat 38 33 - 1) = yO1 (yIt u x.toNat) := rfl
        try rw [eO]
        try rw [w64_id (x := yO1 (yIt u x.toNat)) (by omega) (by omega)]
        refine Gx_ladd dX2_laySums_160 ?_
        try simp (disch := omega) only [w64_id]
        refine pf_X2_321_22 dX2_laySums_161 rfl rfl ?_
        refine Gx_aload_n (i := 0) dX2_laySums_164 rfl rfl ?_
        refine Gx_dup (Nat.ne_of_beq_eq_false rfl) dX2_laySums_165 ?_
        refine gf_X2_324_22 dX2_laySums_166 rfl rfl ?_
        try simp (disch := omega) only [gUp_ne2, gUp_eq2, hF3, s48, s49, s50, s51, s52, s53, s54, s55, s56, d38, d39, d40, d33]
        refine Gx_aload_n (i := 0) dX2_laySums_169 rfl rfl ?_
        refine gf_X2_245_22 dX2_laySums_170 rfl rfl ?_
        try simp (disch := omega) only [gUp_ne2, gUp_eq2, hF3, s48, s49, s50, s51, s52, s53, s54, s55, s56, d38, d39, d40, d33]
        refine Gx_i2l dX2_laySums_173 ?_
        refine Gx_aload_n (i := 0) dX2_laySums_174 rfl rfl ?_
        refine gf_X2_245_22 dX2_laySums_175 rfl rfl ?_
        try simp (disch := omega) only [gUp_ne2, gUp_eq2, hF3, s48, s49, s50, s51, s52, s53, s54, s55, s56, d38, d39, d40, d33]
        refine Gx_iconst ⟨by decide, by decide⟩ dX2_laySums_178 ?_
        refine Gx_isub dX2_laySums_179 ?_
        try simp (disch := omega) only [w32_id]
        refine Gx_i2l dX2_laySums_180 ?_
        refine Gx_lmul dX2_laySums_181 ?_
        try simp (disch := omega) only [w64_id]
        have eP : yN1 (yIt u x.toNat) * (yN1 (yIt u x.toNat) - 1) = yP1 (yIt u x.toNat) := rfl
        try rw [eP]
        try rw [w64_id (x := yP1 (yIt u x.toNat)) (by omega) (by omega)]
        refine Gx_ladd dX2_laySums_182 ?_
        try simp (disch := omega) only [w64_id]
        refine pf_X2_324_22 dX2_laySums_183 rfl rfl ?_
        refine Gx_aload_n (i := 0) dX2_laySums_186 rfl rfl ?_
        refine Gx_dup (Nat.ne_of_beq_eq_false rfl) dX2_laySums_187 ?_
        refine gf_X2_327_22 dX2_laySums_188 rfl rfl ?_
        try simp (disch := omega) only [gUp_ne2, gUp_eq2, hF3, s48, s49, s50, s51, s52, s53, s54, s55, s56, d38, d39, d40, d33]
        refine Gx_iload_n (i := 1) dX2_laySums_191 rfl rfl ?_
        refine Gx_if_ge (tgt := 199) dX2_laySums_192 (by decide) (fun c192 => ?_) (fun c192 => ?_)
        · refine Gx_aload_n (i := 0) dX2_laySums_199 rfl rfl ?_
          refine gf_X2_77_22 dX2_laySums_200 rfl rfl ?_
          refine Gx_iload_n (i := 1) dX2_laySums_203 rfl rfl ?_
          refine Gx_iaload dX2_laySums_204 rfl (by first | omega | (simp (disch := omega) only [w32_id]; omega)) ?_
          try simp (disch := omega) only [gUp_ne2, gUp_eq2, hF3, s48, s49, s50, s51, s52, s53, s54, s55, s56, d38, d39, d40, d33]
          rw [d61 tr (by omega) (by omega)]
          refine Gx_i2l dX2_laySums_205 ?_
          refine Gx_ladd dX2_laySums_206 ?_
          try simp (disch := omega) only [w64_id]
          refine pf_X2_327_22 dX2_laySums_207 rfl rfl ?_
          refine Gx_aload_n (i := 0) dX2_laySums_210 rfl rfl ?_
          refine Gx_dup (Nat.ne_of_beq_eq_false rfl) dX2_laySums_211 ?_
          refine gf_X2_330_22 dX2_laySums_212 rfl rfl ?_
          try simp (disch := omega) only [gUp_ne2, gUp_eq2, hF3, s48, s49, s50, s51, s52, s53, s54, s55, s56, d38, d39, d40, d33]
          refine Gx_iload_n (i := 1) dX2_laySums_215 rfl rfl ?_
          refine Gx_if_ge (tgt := 223) dX2_laySums_216 (by decide) (fun c216 => ?_) (fun c216 => (by exfalso; omega))
          refine Gx_aload_n (i := 0) dX2_laySums_223 rfl rfl ?_
          refine Gx_iload_n (i := 1) dX2_laySums_224 rfl rfl ?_
          refine cl_X2_336 dX2_laySums_225 rfl rfl ⟨(Nat.le_of_ble_eq_true rfl), (Nat.le_of_ble_eq_true rfl)⟩ rfl ?_
          refine ct_X2_gainZ hoN (by omega) ⟨by omega, by omega⟩ (by simp (disch := omega) only [gUp_ne2, gUp_eq2, hF3, s48, s49, s50, s51, s52, s53, s54, s55, s56, d38, d39, d40, d33]) (by simp (disch := omega) only [gUp_ne2, gUp_eq2, hF3, s48, s49, s50, s51, s52, s53, s54, s55, s56, d38, d39, d40, d33]) (by simp (disch := omega) only [gUp_ne2]; exact d61 tr (by omega) (by omega)) ?_
          refine Gx_i2l dX2_laySums_228 ?_
          refine Gx_ladd dX2_laySums_229 ?_
          try simp (disch := omega) only [w64_id]
          refine pf_X2_330_22 dX2_laySums_230 rfl rfl ?_
          refine Gx_aload_n (i := 0) dX2_laySums_233 rfl rfl ?_
          refine Gx_dup (Nat.ne_of_beq_eq_false rfl) dX2_laySums_234 ?_
          refine gf_X2_333_22 dX2_laySums_235 rfl rfl ?_
          try simp (disch := omega) only [gUp_ne2, gUp_eq2, hF3, s48, s49, s50, s51, s52, s53, s54, s55, s56, d38, d39, d40, d33]
          refine Gx_iload_n (i := 2) dX2_laySums_238 rfl rfl ?_
          refine Gx_if_lt (tgt := 255) dX2_laySums_239 (by decide) (fun c239 => ?_) (fun c239 => ?_)
          · refine Gx_iconst ⟨by decide, by decide⟩ dX2_laySums_255 ?_
            refine Gx_iadd dX2_laySums_256 ?_
            try simp (disch := omega) only [w32_id]
            refine pf_X2_333_22 dX2_laySums_257 rfl rfl ?_
            refine Gx_iinc_3 dX2_laySums_260 (Nat.le_of_ble_eq_true rfl) (Nat.ne_of_beq_eq_false rfl) ?_
            try simp (disch := omega) only [w32_id]
            refine Gx_goto (tgt := 56) dX2_laySums_263 (by decide) ?_
            refine Gx_name (fun vN eN => ?_)
            have hNF : ∀ a k, ¬ (a = 38 ∧ 48 ≤ k ∧ k ≤ 56) → vN a k = v3 a k := by
              intro a k hk
              rw [eN]
              simp (disch := omega) only [gUp_ne2]
            have ex : (x + 1).toNat = x.toNat + 1 := by omega
            refine ih (x + 1) vN (by omega) (by omega) (oTrip_of hT3 (fun k => hNF 64 k (by omega)) (fun a k hk => hNF a k (by omega))) ?_ ?_ ?_
            · rw [← hm3]
              exact mN_congr (fun a k hR => hNF a k (by unfold yR at hR; omega))
            · rw [hNF 38 47 (by omega), hF3 38 47 (by omega), h47]
            · rw [ex, eN]
              refine ⟨?_, ?_, ?_, ?_, ?_, ?_, ?_, ?_, ?_⟩
              all_goals simp (disch := omega) only [gUp_ne2, gUp_eq2]
              all_goals first
              | rfl
              | (show _ = _ + _; omega)
              | (show _ = max _ _; omega)
              | (show _ = _ + yS1 ea (yIt u x.toNat)
                 rw [show yS1 ea (yIt u x.toNat) = 0 from if_pos (by omega)])
          · refine Gx_aload_n (i := 0) dX2_laySums_242 rfl rfl ?_
            refine gf_X2_80_22 dX2_laySums_243 rfl rfl ?_
            refine Gx_iload_n (i := 2) dX2_laySums_246 rfl rfl ?_
            refine Gx_zaload dX2_laySums_247 rfl (by first | omega | (simp (disch := omega) only [w32_id]; omega)) ?_
            try simp (disch := omega) only [gUp_ne2, gUp_eq2, hF3, s48, s49, s50, s51, s52, s53, s54, s55, s56, d38, d39, d40, d33]
            rw [d62 ea (by omega) (by omega)]
            refine Gx_if_eq (tgt := 255) dX2_laySums_248 (by decide) (fun c248 => ?_) (fun c248 => ?_)
            · refine Gx_iconst ⟨by decide, by decide⟩ dX2_laySums_255 ?_
              refine Gx_iadd dX2_laySums_256 ?_
              try simp (disch := omega) only [w32_id]
              refine pf_X2_333_22 dX2_laySums_257 rfl rfl ?_
              refine Gx_iinc_3 dX2_laySums_260 (Nat.le_of_ble_eq_true rfl) (Nat.ne_of_beq_eq_false rfl) ?_
              try simp (disch := omega) only [w32_id]
              refine Gx_goto (tgt := 56) dX2_laySums_263 (by decide) ?_
              refine Gx_name (fun vN eN => ?_)
              have hNF : ∀ a k, ¬ (a = 38 ∧ 48 ≤ k ∧ k ≤ 56) → vN a k = v3 a k := by
                intro a k hk
                rw [eN]
                simp (disch := omega) only [gUp_ne2]
              have ex : (x + 1).toNat = x.toNat + 1 := by omega
              refine ih (x + 1) vN (by omega) (by omega) (oTrip_of hT3 (fun k => hNF 64 k (by omega)) (fun a k hk => hNF a k (by omega))) ?_ ?_ ?_
              · rw [← hm3]
                exact mN_congr (fun a k hR => hNF a k (by unfold yR at hR; omega))
              · rw [hNF 38 47 (by omega), hF3 38 47 (by omega), h47]
              · rw [ex, eN]
                refine ⟨?_, ?_, ?_, ?_, ?_, ?_, ?_, ?_, ?_⟩
                all_goals simp (disch := omega) only [gUp_ne2, gUp_eq2]
                all_goals first
                | rfl
                | (show _ = _ + _; omega)
                | (show _ = max _ _; omega)
                | (show _ = _ + yS1 ea (yIt u x.toNat)
                   rw [show yS1 ea (yIt u x.toNat) = 0 from if_pos (by omega)])
            · refine Gx_iconst ⟨by decide, by decide⟩ dX2_laySums_251 ?_
              refine Gx_goto (tgt := 256) dX2_laySums_252 (by decide) ?_
              refine Gx_iadd dX2_laySums_256 ?_
              try simp (disch := omega) only [w32_id]
              refine pf_X2_333_22 dX2_laySums_257 rfl rfl ?_
              refine Gx_iinc_3 dX2_laySums_260 (Nat.le_of_ble_eq_true rfl) (Nat.ne_of_beq_eq_false rfl) ?_
              try simp (disch := omega) only [w32_id]
              refine Gx_goto (tgt := 56) dX2_laySums_263 (by decide) ?_
              refine Gx_name (fun vN eN => ?_)
              have hNF : ∀ a k, ¬ (a = 38 ∧ 48 ≤ k ∧ k ≤ 56) → vN a k = v3 a k := by
                intro a k hk
                rw [eN]
                simp (disch := omega) only [gUp_ne2]
              have ex : (x + 1).toNat = x.toNat + 1 := by omega
              refine ih (x + 1) vN (by omega) (by omega) (oTrip_of hT3 (fun k => hNF 64 k (by omega)) (fun a k hk => hNF a k (by omega))) ?_ ?_ ?_
              · rw [← hm3]
                exact mN_congr (fun a k hR => hNF a k (by unfold yR at hR; omega))
              · rw [hNF 38 47 (by omega), hF3 38 47 (by omega), h47]
              · rw [ex, eN]
                refine ⟨?_, ?_, ?_, ?_, ?_, ?_, ?_, ?_, ?_⟩
                all_goals simp (disch := omega) only [gUp_ne2, gUp_eq2]
                all_goals first
                | rfl
                | (show _ = _ + _; omega)
                | (show _ = max _ _; omega)
                | (show _ = _ + yS1 ea (yIt u x.toNat)
                   rw [show yS1 ea (yIt u x.toNat) = 0 from if_pos (by omega)])
        · have tN : yT1 tr (yIt u x.toNat) = 0 := if_pos (by omega)
          refine Gx_lconst0 dX2_laySums_195 ?_
          refine Gx_goto (tgt := 206) dX2_laySums_196 (by decide) ?_
          refine Gx_ladd dX2_laySums_206 ?_
          try simp (disch := omega) only [w64_id]
          refine pf_X2_327_22 dX2_laySums_207 rfl rfl ?_
          refine Gx_aload_n (i := 0) dX2_laySums_210 rfl rfl ?_
          refine Gx_dup (Nat.ne_of_beq_eq_false rfl) dX2_laySums_211 ?_
          refine gf_X2_330_22 dX2_laySums_212 rfl rfl ?_
          try simp (disch := omega) only [gUp_ne2, gUp_eq2, hF3, s48, s49, s50, s51, s52, s53, s54, s55, s56, d38, d39, d40, d33]
          refine Gx_iload_n (i := 1) dX2_laySums_215 rfl rfl ?_
          refine Gx_if_ge (tgt := 223) dX2_laySums_216 (by decide) (fun c216 => (by exfalso; omega)) (fun c216 => ?_)
          have gN : yG1 tr (yIt u x.toNat) = 0 := if_pos (by omega)
          refine Gx_lconst0 dX2_laySums_219 ?_
          refine Gx_goto (tgt := 229) dX2_laySums_220 (by decide) ?_
          refine Gx_ladd dX2_laySums_229 ?_
          try simp (disch := omega) only [w64_id]
          refine pf_X2_330_22 dX2_laySums_230 rfl rfl ?_
          refine Gx_aload_n (i := 0) dX2_laySums_233 rfl rfl ?_
          refine Gx_dup (Nat.ne_of_beq_eq_false rfl) dX2_laySums_234 ?_
          refine gf_X2_333_22 dX2_laySums_235 rfl rfl ?_
          try simp (disch := omega) only [gUp_ne2, gUp_eq2, hF3, s48, s49, s50, s51, s52, s53, s54, s55, s56, d38, d39, d40, d33]
          refine Gx_iload_n (i := 2) dX2_laySums_238 rfl rfl ?_
          refine Gx_if_lt (tgt := 255) dX2_laySums_239 (by decide) (fun c239 => ?_) (fun c239 => ?_)
          · refine Gx_iconst ⟨by decide, by decide⟩ dX2_laySums_255 ?_
            refine Gx_iadd dX2_laySums_256 ?_
            try simp (disch := omega) only [w32_id]
            refine pf_X2_333_22 dX2_laySums_257 rfl rfl ?_
            refine Gx_iinc_3 dX2_laySums_260 (Nat.le_of_ble_eq_true rfl) (Nat.ne_of_beq_eq_false rfl) ?_
            try simp (disch := omega) only [w32_id]
            refine Gx_goto (tgt := 56) dX2_laySums_263 (by decide) ?_
            refine Gx_name (fun vN eN => ?_)
            have hNF : ∀ a k, ¬ (a = 38 ∧ 48 ≤ k ∧ k ≤ 56) → vN a k = v3 a k := by
              intro a k hk
              rw [eN]
              simp (disch := omega) only [gUp_ne2]
            have ex : (x + 1).toNat = x.toNat + 1 := by omega
            refine ih (x + 1) vN (by omega) (by omega) (oTrip_of hT3 (fun k => hNF 64 k (by omega)) (fun a k hk => hNF a k (by omega))) ?_ ?_ ?_
            · rw [← hm3]
              exact mN_congr (fun a k hR => hNF a k (by unfold yR at hR; omega))
            · rw [hNF 38 47 (by omega), hF3 38 47 (by omega), h47]
            · rw [ex, eN]
              refine ⟨?_, ?_, ?_, ?_, ?_, ?_, ?_, ?_, ?_⟩
              all_goals simp (disch := omega) only [gUp_ne2, gUp_eq2]
              all_goals first
              | rfl
              | (show _ = _ + _; omega)
              | (show _ = max _ _; omega)
              | (show _ = _ + yS1 ea (yIt u x.toNat)
                 rw [show yS1 ea (yIt u x.toNat) = 0 from if_pos (by omega)])
          · refine Gx_aload_n (i := 0) dX2_laySums_242 rfl rfl ?_
            refine gf_X2_80_22 dX2_laySums_243 rfl rfl ?_
            refine Gx_iload_n (i := 2) dX2_laySums_246 rfl rfl ?_
            refine Gx_zaload dX2_laySums_247 rfl (by first | omega | (simp (disch := omega) only [w32_id]; omega)) ?_
            try simp (disch := omega) only [gUp_ne2, gUp_eq2, hF3, s48, s49, s50, s51, s52, s53, s54, s55, s56, d38, d39, d40, d33]
            rw [d62 ea (by omega) (by omega)]
            refine Gx_if_eq (tgt := 255) dX2_laySums_248 (by decide) (fun c248 => ?_) (fun c248 => ?_)
            · refine Gx_iconst ⟨by decide, by decide⟩ dX2_laySums_255 ?_
              refine Gx_iadd dX2_laySums_256 ?_
              try simp (disch := omega) only [w32_id]
              refine pf_X2_333_22 dX2_laySums_257 rfl rfl ?_
              refine Gx_iinc_3 dX2_laySums_260 (Nat.le_of_ble_eq_true rfl) (Nat.ne_of_beq_eq_false rfl) ?_
              try simp (disch := omega) only [w32_id]
              refine Gx_goto (tgt := 56) dX2_laySums_263 (by decide) ?_
              refine Gx_name (fun vN eN => ?_)
              have hNF : ∀ a k, ¬ (a = 38 ∧ 48 ≤ k ∧ k ≤ 56) → vN a k = v3 a k := by
                intro a k hk
                rw [eN]
                simp (disch := omega) only [gUp_ne2]
              have ex : (x + 1).toNat = x.toNat + 1 := by omega
              refine ih (x + 1) vN (by omega) (by omega) (oTrip_of hT3 (fun k => hNF 64 k (by omega)) (fun a k hk => hNF a k (by omega))) ?_ ?_ ?_
              · rw [← hm3]
                exact mN_congr (fun a k hR => hNF a k (by unfold yR at hR; omega))
              · rw [hNF 38 47 (by omega), hF3 38 47 (by omega), h47]
              · rw [ex, eN]
                refine ⟨?_, ?_, ?_, ?_, ?_, ?_, ?_, ?_, ?_⟩
                all_goals simp (disch := omega) only [gUp_ne2, gUp_eq2]
                all_goals first
                | rfl
                | (show _ = _ + _; omega)
                | (show _ = max _ _; omega)
                | (show _ = _ + yS1 ea (yIt u x.toNat)
                   rw [show yS1 ea (yIt u x.toNat) = 0 from if_pos (by omega)])
            · refine Gx_iconst ⟨by decide, by decide⟩ dX2_laySums_251 ?_
              refine Gx_goto (tgt := 256) dX2_laySums_252 (by decide) ?_
              refine Gx_iadd dX2_laySums_256 ?_
              try simp (disch := omega) only [w32_id]
              refine pf_X2_333_22 dX2_laySums_257 rfl rfl ?_
              refine Gx_iinc_3 dX2_laySums_260 (Nat.le_of_ble_eq_true rfl) (Nat.ne_of_beq_eq_false rfl) ?_
              try simp (disch := omega) only [w32_id]
              refine Gx_goto (tgt := 56) dX2_laySums_263 (by decide) ?_
              refine Gx_name (fun vN eN => ?_)
              have hNF : ∀ a k, ¬ (a = 38 ∧ 48 ≤ k ∧ k ≤ 56) → vN a k = v3 a k := by
                intro a k hk
                rw [eN]
                simp (disch := omega) only [gUp_ne2]
              have ex : (x + 1).toNat = x.toNat + 1 := by omega
              refine ih (x + 1) vN (by omega) (by omega) (oTrip_of hT3 (fun k => hNF 64 k (by omega)) (fun a k hk => hNF a k (by omega))) ?_ ?_ ?_
              · rw [← hm3]
                exact mN_congr (fun a k hR => hNF a k (by unfold yR at hR; omega))
              · rw [hNF 38 47 (by omega), hF3 38 47 (by omega), h47]
              · rw [ex, eN]
                refine ⟨?_, ?_, ?_, ?_, ?_, ?_, ?_, ?_, ?_⟩
                all_goals simp (disch := omega) only [gUp_ne2, gUp_eq2]
                all_goals first
                | rfl
                | (show _ = _ + _; omega)
                | (show _ = max _ _; omega)
                | (show _ = _ + yS1 ea (yIt u x.toNat)
                   rw [show yS1 ea (yIt u x.toNat) = 0 from if_pos (by omega)])
end
