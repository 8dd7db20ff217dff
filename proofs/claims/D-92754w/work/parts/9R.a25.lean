/-! AcornYears: goesOn, fault -/
section
variable {Γ : gC} {v : gM} {K : gH} {t : Nat} {Q : gQ}
set_option maxHeartbeats 2000000 in
theorem ct_X0_wipe  (k : ∀ v1, FRa v v1 t → v1 0 18 = v 0 18 → RPa t pS0 v1 (gHd (gUpH K t (11, 1))) → Q (9, 0) v1 (gHd (gUpH K t (11, 1))) (t + 1)) : Ctr Γ mX0_wipe [(2, 0)] v (gHd K) t Q := by
  refine Ctr.ofG (ls := [(2, 0), (9, 0)]) rfl rfl rfl rfl rfl ?_
  refine Gx_top (fun hK => ?_)
  have h66 := gHd_66 hK
  refine Gx_aload_n (i := 0) dX0_wipe_0 rfl rfl ?_
  refine Gx_iconst ⟨by decide, by decide⟩ dX0_wipe_1 ?_
  refine pf_X0_196_20 dX0_wipe_2 rfl rfl ?_
  refine Gx_aload_n (i := 0) dX0_wipe_5 rfl rfl ?_
  refine Gx_iconst ⟨by decide, by decide⟩ dX0_wipe_6 ?_
  refine pf_X0_223_20 dX0_wipe_7 rfl rfl ?_
  refine Gx_aload_n (i := 0) dX0_wipe_10 rfl rfl ?_
  refine Gx_iconst ⟨by decide, by decide⟩ dX0_wipe_11 ?_
  refine pf_X0_226_20 dX0_wipe_12 rfl rfl ?_
  refine Gx_aload_n (i := 0) dX0_wipe_15 rfl rfl ?_
  refine Gx_iconst ⟨by decide, by decide⟩ dX0_wipe_16 ?_
  refine pf_X0_229_20 dX0_wipe_17 rfl rfl ?_
  refine Gx_aload_n (i := 0) dX0_wipe_20 rfl rfl ?_
  refine Gx_iconst ⟨by decide, by decide⟩ dX0_wipe_21 ?_
  refine Gx_newarr (k := 11) (bc' := 0) (bs' := 0) dX0_wipe_22 ⟨by decide, by decide⟩ rfl q350 (by first | omega | (simp (disch := omega) only [w32_id]; omega)) (by decide) (by decide) ?_
  rw [gHd_up (by omega)]
  refine Gx_dup (Nat.ne_of_beq_eq_false rfl) dX0_wipe_24 ?_
  refine Gx_iconst ⟨by decide, by decide⟩ dX0_wipe_25 ?_
  refine Gx_iconst ⟨by decide, by decide⟩ dX0_wipe_26 ?_
  refine Gx_bastore dX0_wipe_27 (gHd_at (by omega)) (by first | omega | (simp (disch := omega) only [w32_id]; omega)) (by first | omega | (simp (disch := omega) only [w32_id]; omega)) ?_
  refine pf_X0_232_20 dX0_wipe_28 rfl rfl ?_
  refine Gx_iconst ⟨by decide, by decide⟩ dX0_wipe_31 ?_
  refine Gx_istore_n_1 dX0_wipe_32 (Nat.le_of_ble_eq_true rfl) (Nat.ne_of_beq_eq_false rfl) ?_
  refine Gx_iload_n (i := 1) dX0_wipe_33 rfl rfl ?_
  refine Gx_iconst ⟨by decide, by decide⟩ dX0_wipe_34 ?_
  refine Gx_icmp_ge (tgt := 51) dX0_wipe_35 (by decide) (fun hz => absurd hz (by decide)) (fun _ => ?_)
  refine Gx_aload_n (i := 0) dX0_wipe_38 rfl rfl ?_
  refine gf_X0_62_20 dX0_wipe_39 rfl rfl ?_
  refine Gx_iload_n (i := 1) dX0_wipe_42 rfl rfl ?_
  refine Gx_iconst ⟨by decide, by decide⟩ dX0_wipe_43 ?_
  refine Gx_iastore dX0_wipe_44 rfl (by first | omega | (simp (disch := omega) only [w32_id]; omega)) ?_
  refine Gx_iinc_1 dX0_wipe_45 (Nat.le_of_ble_eq_true rfl) (Nat.ne_of_beq_eq_false rfl) ?_
  rw [show w32 (0 + 1) = (1 : Int) from by decide]
  refine Gx_goto (tgt := 33) dX0_wipe_48 (by decide) ?_
  refine Gx_iload_n (i := 1) dX0_wipe_33 rfl rfl ?_
  refine Gx_iconst ⟨by decide, by decide⟩ dX0_wipe_34 ?_
  refine Gx_icmp_ge (tgt := 51) dX0_wipe_35 (by decide) (fun hz => absurd hz (by decide)) (fun _ => ?_)
  refine Gx_aload_n (i := 0) dX0_wipe_38 rfl rfl ?_
  refine gf_X0_62_20 dX0_wipe_39 rfl rfl ?_
  refine Gx_iload_n (i := 1) dX0_wipe_42 rfl rfl ?_
  refine Gx_iconst ⟨by decide, by decide⟩ dX0_wipe_43 ?_
  refine Gx_iastore dX0_wipe_44 rfl (by first | omega | (simp (disch := omega) only [w32_id]; omega)) ?_
  refine Gx_iinc_1 dX0_wipe_45 (Nat.le_of_ble_eq_true rfl) (Nat.ne_of_beq_eq_false rfl) ?_
  rw [show w32 (1 + 1) = (2 : Int) from by decide]
  refine Gx_goto (tgt := 33) dX0_wipe_48 (by decide) ?_
  refine Gx_iload_n (i := 1) dX0_wipe_33 rfl rfl ?_
  refine Gx_iconst ⟨by decide, by decide⟩ dX0_wipe_34 ?_
  refine Gx_icmp_ge (tgt := 51) dX0_wipe_35 (by decide) (fun hz => absurd hz (by decide)) (fun _ => ?_)
  refine Gx_aload_n (i := 0) dX0_wipe_38 rfl rfl ?_
  refine gf_X0_62_20 dX0_wipe_39 rfl rfl ?_
  refine Gx_iload_n (i := 1) dX0_wipe_42 rfl rfl ?_
  refine Gx_iconst ⟨by decide, by decide⟩ dX0_wipe_43 ?_
  refine Gx_iastore dX0_wipe_44 rfl (by first | omega | (simp (disch := omega) only [w32_id]; omega)) ?_
  refine Gx_iinc_1 dX0_wipe_45 (Nat.le_of_ble_eq_true rfl) (Nat.ne_of_beq_eq_false rfl) ?_
  rw [show w32 (2 + 1) = (3 : Int) from by decide]
  refine Gx_goto (tgt := 33) dX0_wipe_48 (by decide) ?_
  refine Gx_iload_n (i := 1) dX0_wipe_33 rfl rfl ?_
  refine Gx_iconst ⟨by decide, by decide⟩ dX0_wipe_34 ?_
  refine Gx_icmp_ge (tgt := 51) dX0_wipe_35 (by decide) (fun _ => ?_) (fun hz => absurd hz (by decide))
  refine Gx_return dX0_wipe_51 rfl ?_
  refine k _ (fun a b ha hk => ?_) ?_ ⟨?_, fun i i0 i1 => absurd i1 (by show ¬ i < 0; omega), ?_, fun e e0 e1 => absurd e1 (by show ¬ e < 0; omega), ?_, ?_, ⟨?_, ?_, fun j j0 j1 => ?_⟩, fun j j0 j1 => ?_⟩
  · simp (disch := omega) only [gUp_ne2, gNf_ne]
  · simp (disch := omega) only [gUp_ne2, gNf_ne]
  · simp (disch := omega) only [gUp_ne2, gUp_eq2, gNf_ne]
    rfl
  · simp (disch := omega) only [gUp_ne2, gUp_eq2, gNf_ne]
    rfl
  · simp (disch := omega) only [gUp_ne2, gUp_eq2, gNf_ne]
    rfl
  · simp (disch := omega) only [gUp_ne2, gUp_eq2, gNf_ne]
    rfl
  · simp (disch := omega) only [gUp_ne2, gUp_eq2, gNf_ne]
    omega
  · simp (disch := omega) only [gUp_ne2, gUp_eq2, gNf_ne]
    exact gHd_at (by omega)
  · have z : j = 0 := by
      have : j < 1 := j1
      omega
    subst z
    simp (disch := omega) only [gUp_ne2, gUp_eq2, gNf_ne]
    rfl
  · rcases (by omega : j = 0 ∨ j = 1 ∨ j = 2) with z | z | z <;> subst z <;> simp (disch := omega) only [gUp_ne2, gUp_eq2] <;> rfl
theorem Ctr_name {M : gI} {args : List gV} {h : gH} (k : ∀ v', v' = v → Ctr Γ M args v' h t Q) : Ctr Γ M args v h t Q := k v rfl
theorem pItem_BP {b : pB} {q q1 : Int} {s s1 : gM} (hB : BP s) (h : pItem b q s = .ok (q1, s1)) : BP s1 := by
  have := pLoop_BP (b := fun i => if i = q then b q else b i) (n := q + 1) 2 q s s1 hB (by
    have e : (fun i => if i = q then b q else b i) = b := by
      funext i
      by_cases hi : i = q
      · rw [if_pos hi, hi]
      · rw [if_neg hi]
    rw [e]
    have hb := (Bnd_item (b := b) (p := q) (s := s)).2 _ h
    have hb1 : q + 1 ≤ q1 := hb.1
    show (if q < q + 1 then (if b q = 32 then pLoop b (q + 1) 1 (q + 1) s else match pItem b q s with
      | .error q => .error q
      | .ok (q2, s2) => pLoop b (q + 1) 1 q2 s2) else .ok s) = .ok s1
    rw [if_pos (by omega)]
    have n32 : ¬ b q = 32 := fun z => by
      have : pItem b q s = .error q := by
        unfold pItem
        rw [if_neg (by rw [z]; decide), if_neg (by omega), if_neg (by omega), if_neg (by omega), if_neg (by omega)]
      rw [this] at h
      cases h
    rw [if_neg n32, h]
    show (if q1 < q + 1 then _ else _) = _
    rw [if_neg (by omega)])
  exact this

set_option maxHeartbeats 4000000 in
theorem lp_X0_goesOn {o n : Int} {b : pB} {v0 : gM} {K0 : gH} {t0 : Nat} {c0 : Int} (hc0 : c0 ≤ t0) (h35 : v0 0 35 < 0) (h66 : 66 ≤ t0) (kE : ∀ q v1 K1 t1, pText b n = .error q → FRa v0 v1 t0 → FHa K0 K1 t0 → t0 ≤ t1 → Q (0, q) v1 (gHd K1) t1) (kO : ∀ s v1 K1 t1, pText b n = .ok s → RPa c0 s v1 (gHd K1) → BP s → gTop (gHd K1) t1 → FRa v0 v1 t0 → FHa K0 K1 t0 → t0 ≤ t1 → Q (0, if s 38 12 = 0 then n else -9) v1 (gHd K1) t1) : ∀ (j : Nat) (q : Int) (s v : gM) (K : gH) (t bc bs : Nat) (z2 : gV), 0 ≤ q → (n - q).toNat < j → q ≤ 390 → pText b n = pLoop b n j q s → RPa c0 s v (gHd K) → BP s → aTx v (gHd K) b n → v 0 17 = o → v 0 18 = q → FRa v0 v t0 → FHa K0 K t0 → t0 ≤ t → 3 * (n - q).toNat ≤ bc → 10 * (n - q).toNat ≤ bs → Gx Γ mX0_goesOn 14 [(2, 0), (2, o), z2] [] v (gHd K) t bc bs Q := by
  intro j
  induction j with
  | zero =>
    intro q s v K t bc bs z2 q0 hj
    omega
  | succ j ih =>
    intro q s v K t bc bs z2 q0 hj hq9 hL hR hB hT ho hq hF hH ht hbc hbs
    have hTo : gHd K o = (11, n) := by rw [← ho]; exact hT.1
    have hn := hT.2.2.1
    refine Gx_top (fun hK => ?_)
    refine Gx_aload_n (i := 0) dX0_goesOn_14 rfl rfl ?_
    refine gf_X0_167_20 dX0_goesOn_15 rfl rfl ?_
    rw [hq]
    refine Gx_aload_n (i := 1) dX0_goesOn_18 rfl rfl ?_
    refine Gx_alen dX0_goesOn_19 hTo (by decide) (by decide) ?_
    refine Gx_icmp_ge (tgt := 86) dX0_goesOn_20 (by decide) (fun c20 => ?_) (fun c20 => ?_)
    · refine Gx_aload_n (i := 0) dX0_goesOn_86 rfl rfl ?_
      refine gf_X0_196_20 dX0_goesOn_87 rfl rfl ?_
      refine Gx_if_ne (tgt := 98) dX0_goesOn_90 (by decide) (fun c90 => ?_) (fun c90 => ?_)
      · refine Gx_bipush dX0_goesOn_98 ⟨by decide, by decide⟩ ?_
        refine Gx_ireturn dX0_goesOn_100 trivial ?_
        have eL : pLoop b n (j + 1) q s = .ok s := by
          show (if q < n then _ else _) = _
          rw [if_neg (by omega)]
        rw [eL] at hL
        have kk := kO s v K t hL hR hB hK hF hH ht
        first
        | (rw [if_pos (by rw [← hR.1]; omega)] at kk; exact kk)
        | (rw [if_neg (by rw [← hR.1]; omega)] at kk; exact kk)
      · refine Gx_aload_n (i := 1) dX0_goesOn_93 rfl rfl ?_
        refine Gx_alen dX0_goesOn_94 hTo (by decide) (by decide) ?_
        refine Gx_goto (tgt := 100) dX0_goesOn_95 (by decide) ?_
        refine Gx_ireturn dX0_goesOn_100 trivial ?_
        have eL : pLoop b n (j + 1) q s = .ok s := by
          show (if q < n then _ else _) = _
          rw [if_neg (by omega)]
        rw [eL] at hL
        have kk := kO s v K t hL hR hB hK hF hH ht
        first
        | (rw [if_pos (by rw [← hR.1]; omega)] at kk; exact kk)
        | (rw [if_neg (by rw [← hR.1]; omega)] at kk; exact kk)
    · refine Gx_aload_n (i := 0) dX0_goesOn_23 rfl rfl ?_
      refine cl_X0_173 dX0_goesOn_24 rfl rfl ⟨(Nat.le_of_ble_eq_true rfl), (Nat.le_of_ble_eq_true rfl)⟩ rfl ?_
      refine ct_X0_here hT (by omega) (fun c hl _ => ?_)
      rw [hq] at hl
      have hc : c = b q := hl (by omega)
      clear hl
      refine Gx_istore_n_2 dX0_goesOn_27 (Nat.le_of_ble_eq_true rfl) (Nat.ne_of_beq_eq_false rfl) ?_
      refine Gx_iload_n (i := 2) dX0_goesOn_28 rfl rfl ?_
      refine Gx_bipush dX0_goesOn_29 ⟨by decide, by decide⟩ ?_
      refine Gx_icmp_ne (tgt := 47) dX0_goesOn_31 (by decide) (fun c31 => ?_) (fun c31 => ?_)
      · refine Gx_aload_n (i := 0) dX0_goesOn_47 rfl rfl ?_
        refine Gx_iload_n (i := 2) dX0_goesOn_48 rfl rfl ?_
        refine cl_X0_257 dX0_goesOn_49 rfl rfl ⟨(Nat.le_of_ble_eq_true rfl), (Nat.le_of_ble_eq_true rfl)⟩ rfl ?_
        refine ct_X0_mayBegin (fun hm => ?_) (fun hm => ?_)
        all_goals rw [hR.1, hR.2.2.1] at hm
        · refine Gx_if_ne (tgt := 60) dX0_goesOn_52 (by decide) (fun _ => ?_) (fun hz => absurd hz (by decide))
          refine Gx_aload_n (i := 0) dX0_goesOn_60 rfl rfl ?_
          refine Gx_dup (Nat.ne_of_beq_eq_false rfl) dX0_goesOn_61 ?_
          refine gf_X0_167_20 dX0_goesOn_62 rfl rfl ?_
          rw [hq]
          refine Gx_iconst ⟨by decide, by decide⟩ dX0_goesOn_65 ?_
          refine Gx_iadd dX0_goesOn_66 ?_
          try simp (disch := omega) only [w32_id]
          refine pf_X0_167_20 dX0_goesOn_67 rfl rfl ?_
          refine Gx_aload_n (i := 0) dX0_goesOn_70 rfl rfl ?_
          refine Gx_iload_n (i := 2) dX0_goesOn_71 rfl rfl ?_
          refine cl_X0_260 (bc' := (bc - 3)) (bs' := (bs - 10)) dX0_goesOn_72 rfl rfl ⟨(Nat.le_of_ble_eq_true rfl), (Nat.le_of_ble_eq_true rfl)⟩ rfl (by first | omega | decide) (by first | omega | decide) ?_
          refine Ctr_name (fun vA eA => ?_)
          have hFA : FRa v vA t := fun a k ha hk => by rw [eA, gUp_ne2 (by omega)]
          have hqA : vA 0 18 = q + 1 := by rw [eA, gUp_eq2 rfl rfl]
          have hNA : ∀ a k, ¬ (a = 0 ∧ k = 18) → vA a k = v a k := fun a k hk => by rw [eA, gUp_ne2 hk]
          have hRA : RPa c0 s vA (gHd K) := by
            have hR' := hR
            obtain ⟨r1, r2, r3, r4, r5, r6, ⟨r7, r8, r9⟩, r10⟩ := hR'
            exact RPa_mk hK (by omega) hR (hNA 0 35 (by omega)) (fun a k a0 a1 => hNA a k (by omega)) FHa_r (by rw [hNA 0 21 (by omega)]; exact r1) (fun i i0 i1 => Or.inl ⟨i1, hNA 10 i (by omega), fun k k0 k1 => rfl⟩) (by rw [hNA 0 26 (by omega)]; exact r3) (fun e e0 e1 => by rw [hNA 12 e (by omega), hNA 13 e (by omega), hNA 14 e (by omega), hNA 15 e (by omega)]; exact r4 e e0 e1) (by rw [hNA 0 24 (by omega)]; exact r5) (by rw [hNA 0 25 (by omega)]; exact r6) (Or.inl ⟨hNA 0 22 (by omega), rfl, fun j => rfl⟩) (fun j j0 j1 => by rw [hNA 11 j (by omega)]; exact r10 j j0 j1)
          refine ct_X0_readsItem (p := q) (c0 := c0) (by omega) hRA hB hc (by omega) (aTx_mv hK hT hFA FHa_r) hqA (by rw [hNA 0 35 (by omega), hF 0 35 (by omega) (by omega)]; exact h35) (by rw [hNA 0 21 (by omega), hNA 0 26 (by omega), hR.1, hR.2.2.1]; exact hm) (fun q1 s1 v1 K1 t1 hI hR1 hT1 f1 g1 e18 l1 l2 => ?_) (fun q1 v1 K1 t1 hI f1 g1 e18 l1 l2 => ?_)
          · have fT := FRa.trans (FRa.trans hF hFA ht) f1 ht
            have gT := FHa.trans hH g1 ht
            refine Gx_if_ne (tgt := 83) dX0_goesOn_75 (by decide) (fun _ => ?_) (fun hz => absurd hz (by decide))
            refine Gx_goto (tgt := 14) dX0_goesOn_83 (by decide) ?_
            first
            | (have eL : pLoop b n (j + 1) q s = pLoop b n j (q + 1) s := by
                 show (if q < n then _ else _) = _
                 rw [if_pos (by omega), if_pos (by omega)]
               rw [eL] at hL
               refine Gx_name (fun vA eA => ?_)
               have hNA : ∀ a k, ¬ (a = 0 ∧ k = 18) → vA a k = v a k := fun a k hk => by rw [eA, gUp_ne2 hk]
               have hR' := hR
               obtain ⟨r1, r2, r3, r4, r5, r6, ⟨r7, r8, r9⟩, r10⟩ := hR'
               have hRA : RPa c0 s vA (gHd K) := RPa_mk hK (by omega) hR (hNA 0 35 (by omega)) (fun a k a0 a1 => hNA a k (by omega)) FHa_r (by rw [hNA 0 21 (by omega)]; exact r1) (fun i i0 i1 => Or.inl ⟨i1, hNA 10 i (by omega), fun k k0 k1 => rfl⟩) (by rw [hNA 0 26 (by omega)]; exact r3) (fun e e0 e1 => by rw [hNA 12 e (by omega), hNA 13 e (by omega), hNA 14 e (by omega), hNA 15 e (by omega)]; exact r4 e e0 e1) (by rw [hNA 0 24 (by omega)]; exact r5) (by rw [hNA 0 25 (by omega)]; exact r6) (Or.inl ⟨hNA 0 22 (by omega), rfl, fun j => rfl⟩) (fun j j0 j1 => by rw [hNA 11 j (by omega)]; exact r10 j j0 j1)
               have hFA : FRa v vA t := fun a k ha hk => hNA a k (by omega)
               exact ih (q + 1) s vA K t bc bs _ (by omega) (by omega) (by omega) hL hRA hB (aTx_mv hK hT hFA FHa_r) (by rw [hNA 0 17 (by omega)]; exact ho) (by rw [eA, gUp_eq2 rfl rfl]) (FRa.trans hF hFA ht) hH ht (by omega) (by omega))
            | (have hbd := (Bnd_item (b := b) (p := q) (s := s)).2 _ hI
               have hbd1 : q + 1 ≤ q1 ∧ q1 ≤ q + 17 := hbd
               have eL : pLoop b n (j + 1) q s = pLoop b n j q1 s1 := by
                 show (if q < n then _ else _) = _
                 rw [if_pos (by omega), if_neg (by omega), hI]
               rw [eL] at hL
               have hB1 : BP s1 := pItem_BP hB hI
               exact ih q1 s1 v1 K1 t1 (bc - 3) (bs - 10) _ (by omega) (by omega) (by omega) hL hR1 hB1 hT1 (by rw [f1 0 17 (by omega) (by omega), hNA 0 17 (by omega)]; exact ho) e18 fT gT (by omega) (by omega) (by omega))
          · have fT := FRa.trans (FRa.trans hF hFA ht) f1 ht
            have gT := FHa.trans hH g1 ht
            refine Gx_if_ne (tgt := 83) dX0_goesOn_75 (by decide) (fun hz => absurd hz (by decide)) (fun _ => ?_)
            refine Gx_aload_n (i := 0) dX0_goesOn_78 rfl rfl ?_
            refine gf_X0_167_20 dX0_goesOn_79 rfl rfl ?_
            refine Gx_ireturn dX0_goesOn_82 trivial ?_
            have eL : pLoop b n (j + 1) q s = .error q1 := by
              show (if q < n then _ else _) = _
              rw [if_pos (by omega), if_neg (by omega), hI]
            rw [eL] at hL
            rw [e18]
            exact kE q1 v1 K1 t1 hL fT gT (by omega)
        · refine Gx_if_ne (tgt := 60) dX0_goesOn_52 (by decide) (fun hz => absurd hz (by decide)) (fun _ => ?_)
          refine Gx_aload_n (i := 0) dX0_goesOn_55 rfl rfl ?_
          refine gf_X0_167_20 dX0_goesOn_56 rfl rfl ?_
          rw [hq]
          refine Gx_ireturn dX0_goesOn_59 trivial ?_
          have eL : pLoop b n (j + 1) q s = .error q := by
            show (if q < n then _ else _) = _
            rw [if_pos (by omega), if_neg (by omega), pItem_no (by rw [← hc]; exact hm) hB]
          rw [eL] at hL
          exact kE q v K t hL hF hH ht
      · refine Gx_aload_n (i := 0) dX0_goesOn_34 rfl rfl ?_
        refine Gx_dup (Nat.ne_of_beq_eq_false rfl) dX0_goesOn_35 ?_
        refine gf_X0_167_20 dX0_goesOn_36 rfl rfl ?_
        rw [hq]
        refine Gx_iconst ⟨by decide, by decide⟩ dX0_goesOn_39 ?_
        refine Gx_iadd dX0_goesOn_40 ?_
        try simp (disch := omega) only [w32_id]
        refine pf_X0_167_20 dX0_goesOn_41 rfl rfl ?_
        refine Gx_goto (tgt := 14) dX0_goesOn_44 (by decide) ?_
        first
        | (have eL : pLoop b n (j + 1) q s = pLoop b n j (q + 1) s := by
             show (if q < n then _ else _) = _
             rw [if_pos (by omega), if_pos (by omega)]
           rw [eL] at hL
           refine Gx_name (fun vA eA => ?_)
           have hNA : ∀ a k, ¬ (a = 0 ∧ k = 18) → vA a k = v a k := fun a k hk => by rw [eA, gUp_ne2 hk]
           have hR' := hR
           obtain ⟨r1, r2, r3, r4, r5, r6, ⟨r7, r8, r9⟩, r10⟩ := hR'
           have hRA : RPa c0 s vA (gHd K) := RPa_mk hK (by omega) hR (hNA 0 35 (by omega)) (fun a k a0 a1 => hNA a k (by omega)) FHa_r (by rw [hNA 0 21 (by omega)]; exact r1) (fun i i0 i1 => Or.inl ⟨i1, hNA 10 i (by omega), fun k k0 k1 => rfl⟩) (by rw [hNA 0 26 (by omega)]; exact r3) (fun e e0 e1 => by rw [hNA 12 e (by omega), hNA 13 e (by omega), hNA 14 e (by omega), hNA 15 e (by omega)]; exact r4 e e0 e1) (by rw [hNA 0 24 (by omega)]; exact r5) (by rw [hNA 0 25 (by omega)]; exact r6) (Or.inl ⟨hNA 0 22 (by omega), rfl, fun j => rfl⟩) (fun j j0 j1 => by rw [hNA 11 j (by omega)]; exact r10 j j0 j1)
           have hFA : FRa v vA t := fun a k ha hk => hNA a k (by omega)
           exact ih (q + 1) s vA K t bc bs _ (by omega) (by omega) (by omega) hL hRA hB (aTx_mv hK hT hFA FHa_r) (by rw [hNA 0 17 (by omega)]; exact ho) (by rw [eA, gUp_eq2 rfl rfl]) (FRa.trans hF hFA ht) hH ht (by omega) (by omega))
        | (have hbd := (Bnd_item (b := b) (p := q) (s := s)).2 _ hI
           have hbd1 : q + 1 ≤ q1 ∧ q1 ≤ q + 17 := hbd
           have eL : pLoop b n (j + 1) q s = pLoop b n j q1 s1 := by
             show (if q < n then _ else _) = _
             rw [if_pos (by omega), if_neg (by omega), hI]
           rw [eL] at hL
           have hB1 : BP s1 := pItem_BP hB hI
           exact ih q1 s1 v1 K1 t1 (bc - 3) (bs - 10) _ (by omega) (by omega) (by omega) hL hR1 hB1 hT1 (by rw [f1 0 17 (by omega) (by omega), hNA 0 17 (by omega)]; exact ho) e18 fT gT (by omega) (by omega) (by omega))
/-- a text of A's: an array of its own; b tells its bytes, 0 behind its end -/
abbrev aTo (v : gM) (h : gH) (o n : Int) (b : pB) : Prop := h o = (11, n) ∧ 66 ≤ o ∧ (0 ≤ n ∧ n ≤ 80) ∧ ∀ i, 0 ≤ i → b i = if i < n then v o i else 0

set_option maxHeartbeats 2000000 in
theorem ct_X0_goesOn {o n : Int} {b : pB} (hx : aTo v (gHd K) o n b) (h35 : v 0 35 < 0) (kE : ∀ q v1 K1 t1, pText b n = .error q → 0 ≤ q → (∀ a k, a < (t : Int) → ¬ (aRq a k ∨ (a = 0 ∧ k = 17)) → v1 a k = v a k) → FHa K K1 t → t ≤ t1 → Q (0, q) v1 (gHd K1) t1) (kO : ∀ s v1 K1 t1, pText b n = .ok s → RPa t s v1 (gHd K1) → BP s → gTop (gHd K1) t1 → (∀ a k, a < (t : Int) → ¬ (aRq a k ∨ (a = 0 ∧ k = 17)) → v1 a k = v a k) → FHa K K1 t → t ≤ t1 → Q (0, if s 38 12 = 0 then n else -9) v1 (gHd K1) t1) : Ctr Γ mX0_goesOn [(2, 0), (2, o)] v (gHd K) t Q := by
  refine Ctr.ofG (ls := [(2, 0), (2, o), (9, 0)]) rfl rfl rfl rfl rfl ?_
  refine Gx_top (fun hK => ?_)
  have h66 := gHd_66 hK
  refine Gx_aload_n (i := 0) dX0_goesOn_0 rfl rfl ?_
  refine Gx_aload_n (i := 1) dX0_goesOn_1 rfl rfl ?_
  refine pf_X0_170_20 dX0_goesOn_2 rfl rfl ?_
  refine Gx_aload_n (i := 0) dX0_goesOn_5 rfl rfl ?_
  refine Gx_iconst ⟨by decide, by decide⟩ dX0_goesOn_6 ?_
  refine pf_X0_167_20 dX0_goesOn_7 rfl rfl ?_
  refine Gx_aload_n (i := 0) dX0_goesOn_10 rfl rfl ?_
  refine cl_X0_254 (bc' := 249) (bs' := 999) dX0_goesOn_11 rfl rfl ⟨(Nat.le_of_ble_eq_true rfl), (Nat.le_of_ble_eq_true rfl)⟩ rfl (by first | omega | decide) (by first | omega | decide) ?_
  refine Ctr_name (fun vA eA => ?_)
  have hNA : ∀ a k, ¬ (a = 0 ∧ (k = 17 ∨ k = 18)) → vA a k = v a k := fun a k hk => by rw [eA, gUp_ne2 (by omega), gUp_ne2 (by omega)]
  refine ct_X0_wipe (fun v1 f1 e18 hR1 => ?_)
  have hTv : aTx v1 (gHd (gUpH K t (11, 1))) b n := by
    have e17 : v1 0 17 = o := by rw [f1 0 17 (by omega) (by omega), eA]; rfl
    have lo := (gHd_lh hK hx.1 (by decide)).2
    refine ⟨by rw [e17, gHd_ne (by omega)]; exact hx.1, by omega, hx.2.2.1, fun i hi => ?_⟩
    rw [e17, f1 o i lo (by omega), hNA o i (by omega)]
    exact hx.2.2.2 i hi
  have fV : ∀ a k, a < (t : Int) → ¬ (aRq a k ∨ (a = 0 ∧ k = 17)) → v1 a k = v a k := fun a k ha hk => by rw [f1 a k ha (by omega), hNA a k (by omega)]
  refine lp_X0_goesOn (o := o) (v0 := v1) (K0 := gUpH K t (11, 1)) (t0 := t + 1) (c0 := t) (by omega) (by rw [fV 0 35 (by omega) (by omega)]; exact h35) (by omega) (fun q v2 K2 t2 hL f2 g2 l2 => ?_) (fun s v2 K2 t2 hL hR2 hB2 hK2 f2 g2 l2 => ?_) (n.toNat + 1) 0 pS0 v1 _ (t + 1) _ _ _ (by omega) (by omega) (by omega) rfl hR1 (by unfold BP pS0; simp) hTv (by rw [f1 0 17 (by omega) (by omega), eA]; rfl) (by rw [e18, eA]; rfl) (fun a k _ _ => rfl) FHa_r (by omega) (by omega) (by omega)
  · refine kE q v2 K2 t2 hL (pLoop_err _ _ _ _ hL) (fun a k ha hk => ?_) (fun a ha => ?_) (by omega)
    · rw [f2 a k (by omega) (by omega), fV a k ha hk]
    · rw [g2 a (by omega), gHd_ne (by omega)]
  · refine kO s v2 K2 t2 hL hR2 hB2 hK2 (fun a k ha hk => ?_) (fun a ha => ?_) (by omega)
    · rw [f2 a k (by omega) (by omega), fV a k ha hk]
    · rw [g2 a (by omega), gHd_ne (by omega)]
theorem ct_X0_fault {r n : Int} {b : pB} (hro : 0 ≤ r ∧ r ≤ 3 → v 3 r = -1 ∨ aTo v (gHd K) (v 3 r) n b) (h35 : v 0 35 < 0) (kB : ¬ (0 ≤ r ∧ r ≤ 3) → Q (0, -1) v (gHd K) t) (kN : 0 ≤ r ∧ r ≤ 3 → v 3 r = -1 → Q (0, -3) (aMet v 1) (gHd K) t) (kF : 0 ≤ r ∧ r ≤ 3 → aTo v (gHd K) (v 3 r) n b → ∀ v1 K1 t1, (∀ a k, a < (t : Int) → ¬ (aRq a k ∨ (a = 0 ∧ k = 17)) → v1 a k = v a k) → FHa K K1 t → t ≤ t1 → Q (0, pFault b n) v1 (gHd K1) t1) : Ctr Γ mX0_fault [(2, 0), (0, r)] v (gHd K) t Q := by
  refine Ctr.ofG (ls := [(2, 0), (0, r)]) rfl rfl rfl rfl rfl ?_
  refine Gx_iload_n (i := 1) dX0_fault_0 rfl rfl ?_
  refine cl_X0_164 dX0_fault_1 rfl ⟨(Nat.le_of_ble_eq_true rfl), (Nat.le_of_ble_eq_true rfl)⟩ rfl ?_
  refine ct_X0_isText (fun hr => ?_) (fun hr => ?_)
  · refine Gx_if_ne (tgt := 9) dX0_fault_4 (by decide) (fun _ => ?_) (fun hz => absurd hz (by decide))
    refine Gx_aload_n (i := 0) dX0_fault_9 rfl rfl ?_
    refine gf_X0_34_20 dX0_fault_10 rfl rfl ?_
    refine Gx_iload_n (i := 1) dX0_fault_13 rfl rfl ?_
    refine Gx_aaload16 dX0_fault_14 rfl (by first | omega | (simp (disch := omega) only [w32_id]; omega)) ?_
    refine Gx_ifnonnull (tgt := 26) dX0_fault_15 (by decide) (fun c15 => ?_) (fun c15 => ?_)
    · refine Gx_aload_n (i := 0) dX0_fault_26 rfl rfl ?_
      refine Gx_aload_n (i := 0) dX0_fault_27 rfl rfl ?_
      refine gf_X0_34_20 dX0_fault_28 rfl rfl ?_
      refine Gx_iload_n (i := 1) dX0_fault_31 rfl rfl ?_
      refine Gx_aaload16 dX0_fault_32 rfl (by first | omega | (simp (disch := omega) only [w32_id]; omega)) ?_
      refine cl_X0_263 (bc' := 0) (bs' := 0) dX0_fault_33 rfl rfl ⟨(Nat.le_of_ble_eq_true rfl), (Nat.le_of_ble_eq_true rfl)⟩ rfl (by first | omega | decide) (by first | omega | decide) ?_
      have ho := (hro hr).resolve_left (by omega)
      refine ct_X0_goesOn (b := b) (n := n) ho h35 (fun q v1 K1 t1 hL _ f1 g1 l1 => ?_) (fun s v1 K1 t1 hL _ _ _ f1 g1 l1 => ?_)
      · have kk := kF hr ho v1 K1 t1 f1 g1 l1
        unfold pFault at kk
        rw [hL] at kk
        refine Gx_ireturn dX0_fault_36 trivial ?_
        first
        | exact kk
        | exact kN hr (by omega)
      · have kk := kF hr ho v1 K1 t1 f1 g1 l1
        unfold pFault at kk
        rw [hL] at kk
        refine Gx_ireturn dX0_fault_36 trivial ?_
        first
        | exact kk
        | exact kN hr (by omega)
    · refine Gx_aload_n (i := 0) dX0_fault_18 rfl rfl ?_
      refine Gx_iconst ⟨by decide, by decide⟩ dX0_fault_19 ?_
      refine cl_X0_139 dX0_fault_20 rfl rfl ⟨(Nat.le_of_ble_eq_true rfl), (Nat.le_of_ble_eq_true rfl)⟩ rfl ?_
      refine ct_X0_met (by omega) ?_
      refine Gx_goto (tgt := 36) dX0_fault_23 (by decide) ?_
      refine Gx_ireturn dX0_fault_36 trivial ?_
      first
      | exact kk
      | exact kN hr (by omega)
  · refine Gx_if_ne (tgt := 9) dX0_fault_4 (by decide) (fun hz => absurd hz (by decide)) (fun _ => ?_)
    refine Gx_iconst ⟨by decide, by decide⟩ dX0_fault_7 ?_
    refine Gx_ireturn dX0_fault_8 trivial ?_
    exact kB hr
end
