/-! AcornYearsModel: layRing, ring -/
section
variable {Γ : gC} {v : gM} {K : gH} {t : Nat} {Q : gQ}
theorem wkN_cp {v v1 : gM} (hF : ∀ a k, ¬ (a = 63 ∧ 54 ≤ k ∧ k < 81) → v1 a k = v a k) (hV : ∀ k, 0 ≤ k → k < 27 → v1 63 (54 + k) = v 63 k) (h22 : v 38 22 ≤ 2) (h33 : v 38 33 ≤ 24) : wkN v1 2 = wkN v 0 := by
  have hm : mN v1 = mN v := mN_congr (fun a k hR => hF a k (by unfold yR at hR; omega))
  funext a k
  unfold wkN
  rw [hF 38 22 (by omega), hF 38 33 (by omega), hm]
  by_cases c1 : a = 38 ∧ k = 31
  · rw [if_pos c1, if_pos c1]
    exact hV 0 (by omega) (by omega)
  · rw [if_neg c1, if_neg c1]
    by_cases c2 : a = 56 ∧ 0 ≤ k ∧ k < v 38 22
    · rw [if_pos c2, if_pos c2, show 27 * 2 + 1 + k = 54 + (1 + k) by omega, hV (1 + k) (by omega) (by omega), show 27 * 0 + 1 + k = 1 + k by omega]
    · rw [if_neg c2, if_neg c2]
      by_cases c3 : a = 58 ∧ 0 ≤ k ∧ k < v 38 33
      · rw [if_pos c3, if_pos c3, show 27 * 2 + 3 + k = 54 + (3 + k) by omega, hV (3 + k) (by omega) (by omega), show 27 * 0 + 3 + k = 3 + k by omega]
      · rw [if_neg c3, if_neg c3]
theorem oBack_wk {v v1 : gM} {c : Int} (h : oBack v v1) (h22 : v 38 22 ≤ 2) (h33 : v 38 33 ≤ 24) : wkN v1 c = wkN v c :=
  wkN_congr (fun k _ _ => h.1 63 k (by omega)) (fun a k hR z1 z2 z3 => h.1 a k (by unfold yR at hR; omega)) h22 h33
theorem oTrip_cs {v0 v : gM} (hok : yOK v0) (h : oTrip v0 v) : (0 ≤ v 38 20 ∧ v 38 20 ≤ 6) ∧ oSrt v ∧ (0 ≤ v 38 22 ∧ v 38 22 ≤ 2) ∧ (0 ≤ v 38 33 ∧ v 38 33 ≤ 24) ∧ (1 ≤ v 38 28 ∧ v 38 28 ≤ 8) := by
  obtain ⟨h1, h2, h3, h4, h5, h6, h7, h8, h9, h10⟩ := hok
  have q50 (j) : v 50 j = v0 50 j := h.1 50 j (by omega)
  unfold oSrt
  simp only [q50]
  rw [h.1 38 20 (by omega), h.1 38 22 (by omega), h.1 38 33 (by omega), h.1 38 28 (by omega)]
  exact ⟨h1, h2, h5.1, h3, h8⟩
theorem oWalk_me {v va u : gM} {c : Int} {p n : Nat} (h : oWalk v va c n) (e : wkN v c = yIt u p) : wkN va c = yIt u (p + n) := by rw [h.1, e, yIt_add]
theorem ct_X2_walkI {v0 : gM} {c n : Int} {p m : Nat} (hok : yOK v0) (hy : v0 38 31 + p ≤ 80000) (e1 : wkN v c = yIt (mN v0) p) (hn : n = m) (hm : m ≤ 2) (hc : 0 ≤ c ∧ c ≤ 2) (k1 : ∀ v1, oWalk v v1 c m → Q (9, 0) v1 (gHd K) t) : Ctr Γ mX2_walk [(2, 38), (0, c), (0, n)] v (gHd K) t Q := by
  refine ct_X2_walk hc ⟨by omega, by omega⟩ (by rw [e1]; exact yOK_it (yOK_N hok) _) (by rw [e1, yIt_y, mN_c (by omega)]; omega) (fun v1 h => k1 v1 ?_)
  rw [show n.toNat = m by omega] at h
  exact h
theorem ct_X2_alikeI {v0 : gM} {c d : Int} {p q : Nat} (hok : yOK v0) (hT : oTrip v0 v) (hc : 0 ≤ c ∧ c ≤ 2) (hd : 0 ≤ d ∧ d ≤ 2) (e1 : wkN v c = yIt (mN v0) p) (e2 : wkN v d = yIt (mN v0) q) (k1 : yRr (mN v0) p q → Q (0, 1) v (gHd K) t) (k0 : ¬ yRr (mN v0) p q → Q (0, 0) v (gHd K) t) : Ctr Γ mX2_areAlike [(2, 38), (0, c), (0, d)] v (gHd K) t Q := by
  obtain ⟨h1, h2, h3, h4, h5⟩ := oTrip_cs hok hT
  have hy0 := hok.2.2.2.2.2.2.2.2.2
  refine ct_X2_areAlike hc hd h1 h2 h3 h4 h5 ?_ ?_ (fun z => k1 ?_) (fun z => k0 ?_)
  · rw [← wkN_31 (v := v) (c := c), e1, yIt_y, mN_c (by omega)]; omega
  · rw [← wkN_31 (v := v) (c := d), e2, yIt_y, mN_c (by omega)]; omega
  · rw [e1, e2] at z; exact z
  · rw [e1, e2] at z; exact z

set_option maxHeartbeats 2000000 in
theorem lp_X2_ring1 {bc bs : Nat} {v0 : gM} {z3 : gV} (hok : yOK v0) (hy : v0 38 31 ≤ 9999) (cont : ∀ (x : Int) (v : gM), 1 ≤ x → x ≤ 2001 → oTrip v0 v → wkN v 0 = yIt (mN v0) x.toNat → wkN v 1 = yIt (mN v0) (2 * x.toNat) → (∀ k, 1 ≤ k → k < x.toNat → ¬ yRr (mN v0) k (2 * k)) → (x ≤ 2000 → yRr (mN v0) x.toNat (2 * x.toNat)) → Gx Γ mX2_layRing 62 [(2, 38), (0, x), (0, 0), z3] [] v (gHd K) t bc bs Q) : ∀ (j : Nat) (x : Int) (v : gM), 0 ≤ x → x + j = 2000 → oTrip v0 v → wkN v 0 = yIt (mN v0) x.toNat → wkN v 1 = yIt (mN v0) (2 * x.toNat) → (∀ k, 1 ≤ k → k ≤ x.toNat → ¬ yRr (mN v0) k (2 * k)) → Gx Γ mX2_layRing 18 [(2, 38), (0, x), (0, 1), z3] [] v (gHd K) t bc bs Q := by
  intro j
  induction j with
  | zero =>
    intro x v h0 h1 hT he0 he1 hN
    refine Gx_iload_n (i := 2) dX2_layRing_18 rfl rfl ?_
    refine Gx_if_eq (tgt := 62) dX2_layRing_19 (by decide) (fun hz => absurd hz (by decide)) (fun _ => ?_)
    refine Gx_aload_n (i := 0) dX2_layRing_22 rfl rfl ?_
    refine Gx_iconst ⟨by decide, by decide⟩ dX2_layRing_23 ?_
    refine Gx_iconst ⟨by decide, by decide⟩ dX2_layRing_24 ?_
    refine cl_X2_289 dX2_layRing_25 rfl rfl ⟨(Nat.le_of_ble_eq_true rfl), (Nat.le_of_ble_eq_true rfl)⟩ rfl ?_
    refine ct_X2_walkI (m := 1) hok (by omega) he0 rfl (by decide) ⟨by decide, by decide⟩ (fun va hva => ?_)
    have hTa := oTrip_walk hT hva
    have ea0 := oWalk_me hva he0
    have ea1 := (hva.2.1 1 (by decide) (by decide) (by decide)).trans he1
    refine Gx_aload_n (i := 0) dX2_layRing_28 rfl rfl ?_
    refine Gx_iconst ⟨by decide, by decide⟩ dX2_layRing_29 ?_
    refine Gx_iconst ⟨by decide, by decide⟩ dX2_layRing_30 ?_
    refine cl_X2_289 dX2_layRing_31 rfl rfl ⟨(Nat.le_of_ble_eq_true rfl), (Nat.le_of_ble_eq_true rfl)⟩ rfl ?_
    refine ct_X2_walkI (m := 2) hok (by omega) ea1 rfl (by decide) ⟨by decide, by decide⟩ (fun vb hvb => ?_)
    have hTb := oTrip_walk hTa hvb
    have eb1 := oWalk_me hvb ea1
    have eb0 := (hvb.2.1 0 (by decide) (by decide) (by decide)).trans ea0
    have ex : (x + 1).toNat = x.toNat + 1 := by omega
    rw [← ex] at eb0
    rw [show 2 * x.toNat + 2 = 2 * (x + 1).toNat by omega] at eb1
    refine Gx_iinc_1 dX2_layRing_34 (Nat.le_of_ble_eq_true rfl) (Nat.ne_of_beq_eq_false rfl) ?_
    try simp (disch := omega) only [w32_id]
    refine Gx_aload_n (i := 0) dX2_layRing_37 rfl rfl ?_
    refine Gx_iconst ⟨by decide, by decide⟩ dX2_layRing_38 ?_
    refine Gx_iconst ⟨by decide, by decide⟩ dX2_layRing_39 ?_
    refine cl_X2_293 dX2_layRing_40 rfl rfl ⟨(Nat.le_of_ble_eq_true rfl), (Nat.le_of_ble_eq_true rfl)⟩ rfl ?_
    refine ct_X2_alikeI hok hTb ⟨by decide, by decide⟩ ⟨by decide, by decide⟩ eb0 eb1 (fun hA => ?_) (fun hA => ?_)
    · refine Gx_if_ne (tgt := 57) dX2_layRing_43 (by decide) (fun _ => ?_) (fun hz => absurd hz (by decide))
      refine Gx_iconst ⟨by decide, by decide⟩ dX2_layRing_57 ?_
      refine Gx_istore_n_2 dX2_layRing_58 (Nat.le_of_ble_eq_true rfl) (Nat.ne_of_beq_eq_false rfl) ?_
      refine Gx_goto (tgt := 18) dX2_layRing_59 (by decide) ?_
      first
      | (refine ih (x + 1) vb (by omega) (by omega) hTb eb0 eb1 (fun k k0 k1 => ?_)
         by_cases hk : k = (x + 1).toNat
         · rw [hk]
           exact hA
         · exact hN k k0 (by omega))
      | (refine Gx_iload_n (i := 2) dX2_layRing_18 rfl rfl ?_
         refine Gx_if_eq (tgt := 62) dX2_layRing_19 (by decide) (fun _ => ?_) (fun hz => absurd rfl hz)
         refine cont (x + 1) vb (by omega) (by omega) hTb eb0 eb1 (fun k k0 k1 => hN k k0 (by omega)) ?_
         first
         | exact fun _ => hA
         | (intro hz; exfalso; omega))
      | (exfalso; omega)
    · refine Gx_if_ne (tgt := 57) dX2_layRing_43 (by decide) (fun hz => absurd hz (by decide)) (fun _ => ?_)
      refine Gx_iload_n (i := 1) dX2_layRing_46 rfl rfl ?_
      refine Gx_sipush dX2_layRing_47 ⟨by decide, by decide⟩ ?_
      refine Gx_icmp_gt (tgt := 57) dX2_layRing_50 (by decide) (fun c50 => ?_) (fun c50 => ?_)
      · refine Gx_iconst ⟨by decide, by decide⟩ dX2_layRing_57 ?_
        refine Gx_istore_n_2 dX2_layRing_58 (Nat.le_of_ble_eq_true rfl) (Nat.ne_of_beq_eq_false rfl) ?_
        refine Gx_goto (tgt := 18) dX2_layRing_59 (by decide) ?_
        first
        | (refine ih (x + 1) vb (by omega) (by omega) hTb eb0 eb1 (fun k k0 k1 => ?_)
           by_cases hk : k = (x + 1).toNat
           · rw [hk]
             exact hA
           · exact hN k k0 (by omega))
        | (refine Gx_iload_n (i := 2) dX2_layRing_18 rfl rfl ?_
           refine Gx_if_eq (tgt := 62) dX2_layRing_19 (by decide) (fun _ => ?_) (fun hz => absurd rfl hz)
           refine cont (x + 1) vb (by omega) (by omega) hTb eb0 eb1 (fun k k0 k1 => hN k k0 (by omega)) ?_
           first
           | exact fun _ => hA
           | (intro hz; exfalso; omega))
        | (exfalso; omega)
      · refine Gx_iconst ⟨by decide, by decide⟩ dX2_layRing_53 ?_
        refine Gx_goto (tgt := 58) dX2_layRing_54 (by decide) ?_
        refine Gx_istore_n_2 dX2_layRing_58 (Nat.le_of_ble_eq_true rfl) (Nat.ne_of_beq_eq_false rfl) ?_
        refine Gx_goto (tgt := 18) dX2_layRing_59 (by decide) ?_
        first
        | (refine ih (x + 1) vb (by omega) (by omega) hTb eb0 eb1 (fun k k0 k1 => ?_)
           by_cases hk : k = (x + 1).toNat
           · rw [hk]
             exact hA
           · exact hN k k0 (by omega))
        | (refine Gx_iload_n (i := 2) dX2_layRing_18 rfl rfl ?_
           refine Gx_if_eq (tgt := 62) dX2_layRing_19 (by decide) (fun _ => ?_) (fun hz => absurd rfl hz)
           refine cont (x + 1) vb (by omega) (by omega) hTb eb0 eb1 (fun k k0 k1 => hN k k0 (by omega)) ?_
           first
           | exact fun _ => hA
           | (intro hz; exfalso; omega))
        | (exfalso; omega)
  | succ j ih =>
    intro x v h0 h1 hT he0 he1 hN
    refine Gx_iload_n (i := 2) dX2_layRing_18 rfl rfl ?_
    refine Gx_if_eq (tgt := 62) dX2_layRing_19 (by decide) (fun hz => absurd hz (by decide)) (fun _ => ?_)
    refine Gx_aload_n (i := 0) dX2_layRing_22 rfl rfl ?_
    refine Gx_iconst ⟨by decide, by decide⟩ dX2_layRing_23 ?_
    refine Gx_iconst ⟨by decide, by decide⟩ dX2_layRing_24 ?_
    refine cl_X2_289 dX2_layRing_25 rfl rfl ⟨(Nat.le_of_ble_eq_true rfl), (Nat.le_of_ble_eq_true rfl)⟩ rfl ?_
    refine ct_X2_walkI (m := 1) hok (by omega) he0 rfl (by decide) ⟨by decide, by decide⟩ (fun va hva => ?_)
    have hTa := oTrip_walk hT hva
    have ea0 := oWalk_me hva he0
    have ea1 := (hva.2.1 1 (by decide) (by decide) (by decide)).trans he1
    refine Gx_aload_n (i := 0) dX2_layRing_28 rfl rfl ?_
    refine Gx_iconst ⟨by decide, by decide⟩ dX2_layRing_29 ?_
    refine Gx_iconst ⟨by decide, by decide⟩ dX2_layRing_30 ?_
    refine cl_X2_289 dX2_layRing_31 rfl rfl ⟨(Nat.le_of_ble_eq_true rfl), (Nat.le_of_ble_eq_true rfl)⟩ rfl ?_
    refine ct_X2_walkI (m := 2) hok (by omega) ea1 rfl (by decide) ⟨by decide, by decide⟩ (fun vb hvb => ?_)
    have hTb := oTrip_walk hTa hvb
    have eb1 := oWalk_me hvb ea1
    have eb0 := (hvb.2.1 0 (by decide) (by decide) (by decide)).trans ea0
    have ex : (x + 1).toNat = x.toNat + 1 := by omega
    rw [← ex] at eb0
    rw [show 2 * x.toNat + 2 = 2 * (x + 1).toNat by omega] at eb1
    refine Gx_iinc_1 dX2_layRing_34 (Nat.le_of_ble_eq_true rfl) (Nat.ne_of_beq_eq_false rfl) ?_
    try simp (disch := omega) only [w32_id]
    refine Gx_aload_n (i := 0) dX2_layRing_37 rfl rfl ?_
    refine Gx_iconst ⟨by decide, by decide⟩ dX2_layRing_38 ?_
    refine Gx_iconst ⟨by decide, by decide⟩ dX2_layRing_39 ?_
    refine cl_X2_293 dX2_layRing_40 rfl rfl ⟨(Nat.le_of_ble_eq_true rfl), (Nat.le_of_ble_eq_true rfl)⟩ rfl ?_
    refine ct_X2_alikeI hok hTb ⟨by decide, by decide⟩ ⟨by decide, by decide⟩ eb0 eb1 (fun hA => ?_) (fun hA => ?_)
    · refine Gx_if_ne (tgt := 57) dX2_layRing_43 (by decide) (fun _ => ?_) (fun hz => absurd hz (by decide))
      refine Gx_iconst ⟨by decide, by decide⟩ dX2_layRing_57 ?_
      refine Gx_istore_n_2 dX2_layRing_58 (Nat.le_of_ble_eq_true rfl) (Nat.ne_of_beq_eq_false rfl) ?_
      refine Gx_goto (tgt := 18) dX2_layRing_59 (by decide) ?_
      first
      | (refine ih (x + 1) vb (by omega) (by omega) hTb eb0 eb1 (fun k k0 k1 => ?_)
         by_cases hk : k = (x + 1).toNat
         · rw [hk]
           exact hA
         · exact hN k k0 (by omega))
      | (refine Gx_iload_n (i := 2) dX2_layRing_18 rfl rfl ?_
         refine Gx_if_eq (tgt := 62) dX2_layRing_19 (by decide) (fun _ => ?_) (fun hz => absurd rfl hz)
         refine cont (x + 1) vb (by omega) (by omega) hTb eb0 eb1 (fun k k0 k1 => hN k k0 (by omega)) ?_
         first
         | exact fun _ => hA
         | (intro hz; exfalso; omega))
      | (exfalso; omega)
    · refine Gx_if_ne (tgt := 57) dX2_layRing_43 (by decide) (fun hz => absurd hz (by decide)) (fun _ => ?_)
      refine Gx_iload_n (i := 1) dX2_layRing_46 rfl rfl ?_
      refine Gx_sipush dX2_layRing_47 ⟨by decide, by decide⟩ ?_
      refine Gx_icmp_gt (tgt := 57) dX2_layRing_50 (by decide) (fun c50 => ?_) (fun c50 => ?_)
      · refine Gx_iconst ⟨by decide, by decide⟩ dX2_layRing_57 ?_
        refine Gx_istore_n_2 dX2_layRing_58 (Nat.le_of_ble_eq_true rfl) (Nat.ne_of_beq_eq_false rfl) ?_
        refine Gx_goto (tgt := 18) dX2_layRing_59 (by decide) ?_
        first
        | (refine ih (x + 1) vb (by omega) (by omega) hTb eb0 eb1 (fun k k0 k1 => ?_)
           by_cases hk : k = (x + 1).toNat
           · rw [hk]
             exact hA
           · exact hN k k0 (by omega))
        | (refine Gx_iload_n (i := 2) dX2_layRing_18 rfl rfl ?_
           refine Gx_if_eq (tgt := 62) dX2_layRing_19 (by decide) (fun _ => ?_) (fun hz => absurd rfl hz)
           refine cont (x + 1) vb (by omega) (by omega) hTb eb0 eb1 (fun k k0 k1 => hN k k0 (by omega)) ?_
           first
           | exact fun _ => hA
           | (intro hz; exfalso; omega))
        | (exfalso; omega)
      · refine Gx_iconst ⟨by decide, by decide⟩ dX2_layRing_53 ?_
        refine Gx_goto (tgt := 58) dX2_layRing_54 (by decide) ?_
        refine Gx_istore_n_2 dX2_layRing_58 (Nat.le_of_ble_eq_true rfl) (Nat.ne_of_beq_eq_false rfl) ?_
        refine Gx_goto (tgt := 18) dX2_layRing_59 (by decide) ?_
        first
        | (refine ih (x + 1) vb (by omega) (by omega) hTb eb0 eb1 (fun k k0 k1 => ?_)
           by_cases hk : k = (x + 1).toNat
           · rw [hk]
             exact hA
           · exact hN k k0 (by omega))
        | (refine Gx_iload_n (i := 2) dX2_layRing_18 rfl rfl ?_
           refine Gx_if_eq (tgt := 62) dX2_layRing_19 (by decide) (fun _ => ?_) (fun hz => absurd rfl hz)
           refine cont (x + 1) vb (by omega) (by omega) hTb eb0 eb1 (fun k k0 k1 => hN k k0 (by omega)) ?_
           first
           | exact fun _ => hA
           | (intro hz; exfalso; omega))
        | (exfalso; omega)
set_option maxHeartbeats 2000000 in
theorem lp_X2_ring2 {bc bs i : Nat} {v0 : gM} {z1 z2 z3 : gV} (hok : yOK v0) (hy : v0 38 31 ≤ 9999) (hi : i ≤ 2000) (hR : yRr (mN v0) i (2 * i)) (cont : ∀ (x : Int) (v : gM), 0 ≤ x → x ≤ i → oTrip v0 v → wkN v 0 = yIt (mN v0) x.toNat → v 38 46 = x → yRr (mN v0) x.toNat (2 * i + x.toNat) → (∀ k, k < x.toNat → ¬ yRr (mN v0) k (2 * i + k)) → Gx Γ mX2_layRing 123 [(2, 38), z1, z2, z3] [] v (gHd K) t bc bs Q) : ∀ (j : Nat) (x : Int) (v : gM), 0 ≤ x → x + j = i → oTrip v0 v → wkN v 0 = yIt (mN v0) x.toNat → wkN v 1 = yIt (mN v0) (2 * i + x.toNat) → v 38 46 = x → (∀ k, k < x.toNat → ¬ yRr (mN v0) k (2 * i + k)) → Gx Γ mX2_layRing 89 [(2, 38), z1, z2, z3] [] v (gHd K) t bc bs Q := by
  intro j
  induction j with
  | zero =>
    intro x v h0 h1 hT he0 he1 hs hN
    refine Gx_aload_n (i := 0) dX2_layRing_89 rfl rfl ?_
    refine Gx_iconst ⟨by decide, by decide⟩ dX2_layRing_90 ?_
    refine Gx_iconst ⟨by decide, by decide⟩ dX2_layRing_91 ?_
    refine cl_X2_293 dX2_layRing_92 rfl rfl ⟨(Nat.le_of_ble_eq_true rfl), (Nat.le_of_ble_eq_true rfl)⟩ rfl ?_
    refine ct_X2_alikeI hok hT ⟨by decide, by decide⟩ ⟨by decide, by decide⟩ he0 he1 (fun hA => ?_) (fun hA => ?_)
    · refine Gx_if_ne (tgt := 123) dX2_layRing_95 (by decide) (fun _ => ?_) (fun hz => absurd hz (by decide))
      exact cont x v h0 (by omega) hT he0 hs hA hN
    · refine Gx_if_ne (tgt := 123) dX2_layRing_95 (by decide) (fun hz => absurd hz (by decide)) (fun _ => ?_)
      exfalso
      have e0 : x.toNat = i := by omega
      rw [e0] at hA
      exact hA (gRg_s (yRr_eqv (yOK_N hok)) hR)
  | succ j ih =>
    intro x v h0 h1 hT he0 he1 hs hN
    refine Gx_aload_n (i := 0) dX2_layRing_89 rfl rfl ?_
    refine Gx_iconst ⟨by decide, by decide⟩ dX2_layRing_90 ?_
    refine Gx_iconst ⟨by decide, by decide⟩ dX2_layRing_91 ?_
    refine cl_X2_293 dX2_layRing_92 rfl rfl ⟨(Nat.le_of_ble_eq_true rfl), (Nat.le_of_ble_eq_true rfl)⟩ rfl ?_
    refine ct_X2_alikeI hok hT ⟨by decide, by decide⟩ ⟨by decide, by decide⟩ he0 he1 (fun hA => ?_) (fun hA => ?_)
    · refine Gx_if_ne (tgt := 123) dX2_layRing_95 (by decide) (fun _ => ?_) (fun hz => absurd hz (by decide))
      exact cont x v h0 (by omega) hT he0 hs hA hN
    · refine Gx_if_ne (tgt := 123) dX2_layRing_95 (by decide) (fun hz => absurd hz (by decide)) (fun _ => ?_)
      refine Gx_aload_n (i := 0) dX2_layRing_98 rfl rfl ?_
      refine Gx_iconst ⟨by decide, by decide⟩ dX2_layRing_99 ?_
      refine Gx_iconst ⟨by decide, by decide⟩ dX2_layRing_100 ?_
      refine cl_X2_289 dX2_layRing_101 rfl rfl ⟨(Nat.le_of_ble_eq_true rfl), (Nat.le_of_ble_eq_true rfl)⟩ rfl ?_
      refine ct_X2_walkI (m := 1) hok (by omega) he0 rfl (by decide) ⟨by decide, by decide⟩ (fun va hva => ?_)
      have hTa := oTrip_walk hT hva
      have ea0 := oWalk_me hva he0
      have ea1 := (hva.2.1 1 (by decide) (by decide) (by decide)).trans he1
      refine Gx_aload_n (i := 0) dX2_layRing_104 rfl rfl ?_
      refine Gx_iconst ⟨by decide, by decide⟩ dX2_layRing_105 ?_
      refine Gx_iconst ⟨by decide, by decide⟩ dX2_layRing_106 ?_
      refine cl_X2_289 dX2_layRing_107 rfl rfl ⟨(Nat.le_of_ble_eq_true rfl), (Nat.le_of_ble_eq_true rfl)⟩ rfl ?_
      refine ct_X2_walkI (m := 1) hok (by omega) ea1 rfl (by decide) ⟨by decide, by decide⟩ (fun vb hvb => ?_)
      have hTb := oTrip_walk hTa hvb
      have eb1 := oWalk_me hvb ea1
      have eb0 := (hvb.2.1 0 (by decide) (by decide) (by decide)).trans ea0
      have ex : (x + 1).toNat = x.toNat + 1 := by omega
      rw [← ex] at eb0
      rw [show 2 * i + x.toNat + 1 = 2 * i + (x + 1).toNat by omega] at eb1
      have hsb : vb 38 46 = x := by rw [hvb.2.2 38 46 (by omega), hva.2.2 38 46 (by omega)]; exact hs
      have cb := oTrip_cs hok hTb
      refine Gx_aload_n (i := 0) dX2_layRing_110 rfl rfl ?_
      refine Gx_dup (Nat.ne_of_beq_eq_false rfl) dX2_layRing_111 ?_
      refine gf_X2_299_22 dX2_layRing_112 rfl rfl ?_
      rw [hsb]
      refine Gx_iconst ⟨by decide, by decide⟩ dX2_layRing_115 ?_
      refine Gx_iadd dX2_layRing_116 ?_
      try simp (disch := omega) only [w32_id]
      refine pf_X2_299_22 dX2_layRing_117 rfl rfl ?_
      refine Gx_goto (tgt := 89) dX2_layRing_120 (by decide) ?_
      refine ih (x + 1) _ (by omega) (by omega) (oTrip_up hTb (by omega) (by omega)) ?_ ?_ (gUp_eq2 rfl rfl) (fun k k0 => ?_)
      · rw [wkN_up (fun z => by unfold yR; omega) (by omega) cb.2.2.1.2 cb.2.2.2.1.2]
        exact eb0
      · rw [wkN_up (fun z => by unfold yR; omega) (by omega) cb.2.2.1.2 cb.2.2.2.1.2]
        exact eb1
      · by_cases hk : k = x.toNat
        · rw [hk]
          exact hA
        · exact hN k (by omega)
set_option maxHeartbeats 1000000 in
theorem lp_X2_ring3 {b2 : Int} {bc bs : Nat} {u : gM} {z1 : gV} (cont : Gx Γ mX2_layRing 152 [(2, 38), z1, (0, b2), (0, 27)] [] (gCopy u 63 54 27 (fun e => u 63 e)) (gHd K) t bc bs Q) : ∀ (j : Nat) (x : Int), 0 ≤ x → x + j = 27 → Gx Γ mX2_layRing 125 [(2, 38), z1, (0, b2), (0, x)] [] (gCopy u 63 54 x (fun e => u 63 e)) (gHd K) t bc bs Q := by
  intro j
  induction j with
  | zero =>
    intro x h0 h1
    refine Gx_iload_n (i := 3) dX2_layRing_125 rfl rfl ?_
    refine Gx_bipush dX2_layRing_126 ⟨by decide, by decide⟩ ?_
    refine Gx_icmp_ge (tgt := 152) dX2_layRing_128 (by decide) (fun c128 => ?_) (fun c128 => ?_)
    · have e0 : x = 27 := by omega
      rw [e0]
      exact cont
    · exfalso
      omega
  | succ j ih =>
    intro x h0 h1
    refine Gx_iload_n (i := 3) dX2_layRing_125 rfl rfl ?_
    refine Gx_bipush dX2_layRing_126 ⟨by decide, by decide⟩ ?_
    refine Gx_icmp_ge (tgt := 152) dX2_layRing_128 (by decide) (fun c128 => ?_) (fun c128 => ?_)
    · exfalso
      omega
    · refine Gx_aload_n (i := 0) dX2_layRing_131 rfl rfl ?_
      refine gf_X2_84_22 dX2_layRing_132 rfl rfl ?_
      refine Gx_bipush dX2_layRing_135 ⟨by decide, by decide⟩ ?_
      refine Gx_iload_n (i := 3) dX2_layRing_137 rfl rfl ?_
      refine Gx_iadd dX2_layRing_138 ?_
      try simp (disch := omega) only [w32_id]
      refine Gx_aload_n (i := 0) dX2_layRing_139 rfl rfl ?_
      refine gf_X2_84_22 dX2_layRing_140 rfl rfl ?_
      refine Gx_iload_n (i := 3) dX2_layRing_143 rfl rfl ?_
      refine Gx_iaload dX2_layRing_144 rfl (by first | omega | (simp (disch := omega) only [w32_id]; omega)) ?_
      rw [show gCopy u 63 54 x (fun e => u 63 e) 63 x = u 63 x from if_neg (by omega)]
      refine Gx_iastore dX2_layRing_145 rfl (by first | omega | (simp (disch := omega) only [w32_id]; omega)) ?_
      refine Gx_iinc_3 dX2_layRing_146 (Nat.le_of_ble_eq_true rfl) (Nat.ne_of_beq_eq_false rfl) ?_
      try simp (disch := omega) only [w32_id]
      refine Gx_goto (tgt := 125) dX2_layRing_149 (by decide) ?_
      have e1 := gCopy_step (v := u) (a := 63) (lo := 54) (i := x) (f := fun e => u 63 e) h0
      have hi := ih (x + 1) (by omega) (by omega)
      rw [← e1] at hi
      exact hi
set_option maxHeartbeats 2000000 in
theorem lp_X2_ring4 {bc bs s D : Nat} {v0 : gM} {z1 z2 z3 : gV} (hok : yOK v0) (hy : v0 38 31 ≤ 9999) (hs2 : s ≤ 2000) (hD : D ≤ 4000) (hR : yRr (mN v0) (s + D) s) (cont : ∀ (x : Int) (v : gM), 1 ≤ x → x ≤ D → oTrip v0 v → wkN v 2 = yIt (mN v0) s → v 38 46 = s → v 38 47 = x → yRr (mN v0) (s + x.toNat) s → (∀ k, 1 ≤ k → k < x.toNat → ¬ yRr (mN v0) (s + k) s) → Gx Γ mX2_layRing 182 [(2, 38), z1, z2, z3] [] v (gHd K) t bc bs Q) : ∀ (j : Nat) (x : Int) (v : gM), 0 ≤ x → x + 1 + j = D → oTrip v0 v → wkN v 0 = yIt (mN v0) (s + x.toNat) → wkN v 2 = yIt (mN v0) s → v 38 46 = s → v 38 47 = x → (∀ k, 1 ≤ k → k ≤ x.toNat → ¬ yRr (mN v0) (s + k) s) → Gx Γ mX2_layRing 157 [(2, 38), z1, z2, z3] [] v (gHd K) t bc bs Q := by
  intro j
  induction j with
  | zero =>
    intro x v h0 h1 hT he0 he2 hs hr hN
    refine Gx_aload_n (i := 0) dX2_layRing_157 rfl rfl ?_
    refine Gx_iconst ⟨by decide, by decide⟩ dX2_layRing_158 ?_
    refine Gx_iconst ⟨by decide, by decide⟩ dX2_layRing_159 ?_
    refine cl_X2_289 dX2_layRing_160 rfl rfl ⟨(Nat.le_of_ble_eq_true rfl), (Nat.le_of_ble_eq_true rfl)⟩ rfl ?_
    refine ct_X2_walkI (m := 1) hok (by omega) he0 rfl (by decide) ⟨by decide, by decide⟩ (fun va hva => ?_)
    have hTa := oTrip_walk hT hva
    have ea0 := oWalk_me hva he0
    have ea2 := (hva.2.1 2 (by decide) (by decide) (by decide)).trans he2
    rw [show s + x.toNat + 1 = s + (x + 1).toNat by omega] at ea0
    have hsa : va 38 46 = s := by rw [hva.2.2 38 46 (by omega)]; exact hs
    have hra : va 38 47 = x := by rw [hva.2.2 38 47 (by omega)]; exact hr
    have ca := oTrip_cs hok hTa
    refine Gx_aload_n (i := 0) dX2_layRing_163 rfl rfl ?_
    refine Gx_dup (Nat.ne_of_beq_eq_false rfl) dX2_layRing_164 ?_
    refine gf_X2_302_22 dX2_layRing_165 rfl rfl ?_
    rw [hra]
    refine Gx_iconst ⟨by decide, by decide⟩ dX2_layRing_168 ?_
    refine Gx_iadd dX2_layRing_169 ?_
    try simp (disch := omega) only [w32_id]
    refine pf_X2_302_22 dX2_layRing_170 rfl rfl ?_
    refine Gx_name (fun vb eb => ?_)
    have hTb : oTrip v0 vb := by rw [eb]; exact oTrip_up hTa (by omega) (by omega)
    have eb0 : wkN vb 0 = yIt (mN v0) (s + (x + 1).toNat) := by rw [eb, wkN_up (fun z => by unfold yR; omega) (by omega) ca.2.2.1.2 ca.2.2.2.1.2]; exact ea0
    have eb2 : wkN vb 2 = yIt (mN v0) s := by rw [eb, wkN_up (fun z => by unfold yR; omega) (by omega) ca.2.2.1.2 ca.2.2.2.1.2]; exact ea2
    have hsb : vb 38 46 = s := by rw [eb, gUp_ne2 (by omega)]; exact hsa
    have hrb : vb 38 47 = x + 1 := by rw [eb]; exact gUp_eq2 rfl rfl
    refine Gx_aload_n (i := 0) dX2_layRing_173 rfl rfl ?_
    refine Gx_iconst ⟨by decide, by decide⟩ dX2_layRing_174 ?_
    refine Gx_iconst ⟨by decide, by decide⟩ dX2_layRing_175 ?_
    refine cl_X2_293 dX2_layRing_176 rfl rfl ⟨(Nat.le_of_ble_eq_true rfl), (Nat.le_of_ble_eq_true rfl)⟩ rfl ?_
    refine ct_X2_alikeI hok hTb ⟨by decide, by decide⟩ ⟨by decide, by decide⟩ eb0 eb2 (fun hA => ?_) (fun hA => ?_)
    · refine Gx_if_eq (tgt := 157) dX2_layRing_179 (by decide) (fun hz => absurd hz (by decide)) (fun _ => ?_)
      exact cont (x + 1) vb (by omega) (by omega) hTb eb2 hsb hrb hA (fun k k0 k1 => hN k k0 (by omega))
    · refine Gx_if_eq (tgt := 157) dX2_layRing_179 (by decide) (fun _ => ?_) (fun hz => absurd hz (by decide))
      exfalso
      rw [show (x + 1).toNat = D by omega] at hA
      exact hA hR
  | succ j ih =>
    intro x v h0 h1 hT he0 he2 hs hr hN
    refine Gx_aload_n (i := 0) dX2_layRing_157 rfl rfl ?_
    refine Gx_iconst ⟨by decide, by decide⟩ dX2_layRing_158 ?_
    refine Gx_iconst ⟨by decide, by decide⟩ dX2_layRing_159 ?_
    refine cl_X2_289 dX2_layRing_160 rfl rfl ⟨(Nat.le_of_ble_eq_true rfl), (Nat.le_of_ble_eq_true rfl)⟩ rfl ?_
    refine ct_X2_walkI (m := 1) hok (by omega) he0 rfl (by decide) ⟨by decide, by decide⟩ (fun va hva => ?_)
    have hTa := oTrip_walk hT hva
    have ea0 := oWalk_me hva he0
    have ea2 := (hva.2.1 2 (by decide) (by decide) (by decide)).trans he2
    rw [show s + x.toNat + 1 = s + (x + 1).toNat by omega] at ea0
    have hsa : va 38 46 = s := by rw [hva.2.2 38 46 (by omega)]; exact hs
    have hra : va 38 47 = x := by rw [hva.2.2 38 47 (by omega)]; exact hr
    have ca := oTrip_cs hok hTa
    refine Gx_aload_n (i := 0) dX2_layRing_163 rfl rfl ?_
    refine Gx_dup (Nat.ne_of_beq_eq_false rfl) dX2_layRing_164 ?_
    refine gf_X2_302_22 dX2_layRing_165 rfl rfl ?_
    rw [hra]
    refine Gx_iconst ⟨by decide, by decide⟩ dX2_layRing_168 ?_
    refine Gx_iadd dX2_layRing_169 ?_
    try simp (disch := omega) only [w32_id]
    refine pf_X2_302_22 dX2_layRing_170 rfl rfl ?_
    refine Gx_name (fun vb eb => ?_)
    have hTb : oTrip v0 vb := by rw [eb]; exact oTrip_up hTa (by omega) (by omega)
    have eb0 : wkN vb 0 = yIt (mN v0) (s + (x + 1).toNat) := by rw [eb, wkN_up (fun z => by unfold yR; omega) (by omega) ca.2.2.1.2 ca.2.2.2.1.2]; exact ea0
    have eb2 : wkN vb 2 = yIt (mN v0) s := by rw [eb, wkN_up (fun z => by unfold yR; omega) (by omega) ca.2.2.1.2 ca.2.2.2.1.2]; exact ea2
    have hsb : vb 38 46 = s := by rw [eb, gUp_ne2 (by omega)]; exact hsa
    have hrb : vb 38 47 = x + 1 := by rw [eb]; exact gUp_eq2 rfl rfl
    refine Gx_aload_n (i := 0) dX2_layRing_173 rfl rfl ?_
    refine Gx_iconst ⟨by decide, by decide⟩ dX2_layRing_174 ?_
    refine Gx_iconst ⟨by decide, by decide⟩ dX2_layRing_175 ?_
    refine cl_X2_293 dX2_layRing_176 rfl rfl ⟨(Nat.le_of_ble_eq_true rfl), (Nat.le_of_ble_eq_true rfl)⟩ rfl ?_
    refine ct_X2_alikeI hok hTb ⟨by decide, by decide⟩ ⟨by decide, by decide⟩ eb0 eb2 (fun hA => ?_) (fun hA => ?_)
    · refine Gx_if_eq (tgt := 157) dX2_layRing_179 (by decide) (fun hz => absurd hz (by decide)) (fun _ => ?_)
      exact cont (x + 1) vb (by omega) (by omega) hTb eb2 hsb hrb hA (fun k k0 k1 => hN k k0 (by omega))
    · refine Gx_if_eq (tgt := 157) dX2_layRing_179 (by decide) (fun _ => ?_) (fun hz => absurd hz (by decide))
      refine ih (x + 1) vb (by omega) (by omega) hTb eb0 eb2 hsb hrb (fun k k0 k1 => ?_)
      by_cases hk : k = (x + 1).toNat
      · rw [hk]
        exact hA
      · exact hN k k0 (by omega)
set_option maxHeartbeats 4000000 in
theorem ct_X2_layRing  (hok : yOK v) (hy : v 38 31 ≤ 9999) (k1 : ∀ (v1 : gM) (m l : Nat), gRg (yRr (mN v)) m l → m + l ≤ 2000 → oTrip v v1 → mN v1 = yIt (mN v) m → v1 38 46 = m → v1 38 47 = l → Q (0, 1) v1 (gHd K) t) (k0 : (∀ m l : Nat, gRg (yRr (mN v)) m l → ¬ m + l ≤ 2000) → ∀ v1, oScr v v1 → Q (0, 0) v1 (gHd K) t) : Ctr Γ mX2_layRing [(2, 38)] v (gHd K) t Q := by
  refine Ctr.ofG (ls := [(2, 38), (9, 0), (9, 0), (9, 0)]) rfl rfl rfl rfl rfl ?_
  refine Gx_aload_n (i := 0) dX2_layRing_0 rfl rfl ?_
  refine cl_X2_286 dX2_layRing_1 rfl rfl ⟨(Nat.le_of_ble_eq_true rfl), (Nat.le_of_ble_eq_true rfl)⟩ rfl ?_
  refine ct_X2_keep hok.2.2.1 (fun va hk => ?_)
  have hTa := oTrip_keep hk
  have ca := oTrip_cs hok hTa
  refine Gx_aload_n (i := 0) dX2_layRing_4 rfl rfl ?_
  refine Gx_iconst ⟨by decide, by decide⟩ dX2_layRing_5 ?_
  refine cl_X2_283 dX2_layRing_6 rfl rfl ⟨(Nat.le_of_ble_eq_true rfl), (Nat.le_of_ble_eq_true rfl)⟩ rfl ?_
  refine ct_X2_stand ⟨by decide, by decide⟩ ca.2.2.2.1 (fun vb hb0 => ?_)
  have hTb := oTrip_stand hTa hb0
  have cb := oTrip_cs hok hTb
  refine Gx_aload_n (i := 0) dX2_layRing_9 rfl rfl ?_
  refine Gx_iconst ⟨by decide, by decide⟩ dX2_layRing_10 ?_
  refine cl_X2_283 dX2_layRing_11 rfl rfl ⟨(Nat.le_of_ble_eq_true rfl), (Nat.le_of_ble_eq_true rfl)⟩ rfl ?_
  refine ct_X2_stand ⟨by decide, by decide⟩ cb.2.2.2.1 (fun vc hc1 => ?_)
  have hTc := oTrip_stand hTb hc1
  refine Gx_iconst ⟨by decide, by decide⟩ dX2_layRing_14 ?_
  refine Gx_istore_n_1 dX2_layRing_15 (Nat.le_of_ble_eq_true rfl) (Nat.ne_of_beq_eq_false rfl) ?_
  refine Gx_iconst ⟨by decide, by decide⟩ dX2_layRing_16 ?_
  refine Gx_istore_n_2 dX2_layRing_17 (Nat.le_of_ble_eq_true rfl) (Nat.ne_of_beq_eq_false rfl) ?_
  refine lp_X2_ring1 hok hy (fun x v1 x0 x1 hT1 e10 e11 hN1 hA1 => ?_) 2000 0 vc (by omega) (by omega) hTc ?_ ?_ (fun k k0 k1 => by omega)
  rotate_left
  · rw [oStand_o hc1 (by decide) cb.2.2.1.2 cb.2.2.2.1.2, oStand_N hb0 ca.2.2.1.2, mN_congr (fun a k hR => hk.1 a k (by unfold yR at hR; omega))]
    rfl
  · rw [oStand_N hc1 cb.2.2.1.2, oStand_m hb0, mN_congr (fun a k hR => hk.1 a k (by unfold yR at hR; omega))]
    rfl
  have e33 := oTrip_33 hT1
  have cs1 := oTrip_cs hok hT1
  refine Gx_iload_n (i := 1) dX2_layRing_62 rfl rfl ?_
  refine Gx_sipush dX2_layRing_63 ⟨by decide, by decide⟩ ?_
  refine Gx_icmp_le (tgt := 75) dX2_layRing_66 (by decide) (fun c66 => ?_) (fun c66 => ?_)
  · refine Gx_aload_n (i := 0) dX2_layRing_75 rfl rfl ?_
    refine cl_X2_296 dX2_layRing_76 rfl rfl ⟨(Nat.le_of_ble_eq_true rfl), (Nat.le_of_ble_eq_true rfl)⟩ rfl ?_
    refine ct_X2_back cs1.2.2.2.1 (fun vb hb => ?_)
    have hTb := (oTrip_back hT1 hb).2
    have hSb := (oTrip_back hT1 hb).1
    have csb := oTrip_cs hok hTb
    refine Gx_aload_n (i := 0) dX2_layRing_79 rfl rfl ?_
    refine Gx_iconst ⟨by decide, by decide⟩ dX2_layRing_80 ?_
    refine cl_X2_283 dX2_layRing_81 rfl rfl ⟨(Nat.le_of_ble_eq_true rfl), (Nat.le_of_ble_eq_true rfl)⟩ rfl ?_
    refine ct_X2_stand ⟨by decide, by decide⟩ csb.2.2.2.1 (fun vs hs0 => ?_)
    have hTs := oTrip_stand hTb hs0
    have css := oTrip_cs hok hTs
    refine Gx_aload_n (i := 0) dX2_layRing_84 rfl rfl ?_
    refine Gx_iconst ⟨by decide, by decide⟩ dX2_layRing_85 ?_
    refine pf_X2_299_22 dX2_layRing_86 rfl rfl ?_
    refine lp_X2_ring2 (i := x.toNat) hok hy (by omega) (hA1 (by omega)) (fun s v2 s0 s1 hT2 e20 hs2 hA2 hN2 => ?_) x.toNat 0 _ (by omega) (by omega) (oTrip_up hTs (by omega) (by omega)) ?_ ?_ (gUp_eq2 rfl rfl) (fun k k0 => by omega)
    rotate_left
    · rw [wkN_up (fun z => by unfold yR; omega) (by omega) css.2.2.1.2 css.2.2.2.1.2, oStand_N hs0 csb.2.2.1.2, oScr_m hSb]
      rfl
    · rw [wkN_up (fun z => by unfold yR; omega) (by omega) css.2.2.1.2 css.2.2.2.1.2, oStand_o hs0 (by decide) csb.2.2.1.2 csb.2.2.2.1.2, oBack_wk hb cs1.2.2.1.2 cs1.2.2.2.1.2]
      exact e11
    refine Gx_iconst ⟨by decide, by decide⟩ dX2_layRing_123 ?_
    refine Gx_istore_n_3 dX2_layRing_124 (Nat.le_of_ble_eq_true rfl) (Nat.ne_of_beq_eq_false rfl) ?_
    have hl := lp_X2_ring3 (Γ := Γ) (K := K) (t := t) (Q := Q) (bc := 0) (bs := 0) (u := v2) (z1 := (0, x)) (b2 := 0) ?_ 27 0 (by omega) (by omega)
    · rw [gCopy_0] at hl
      exact hl
    refine Gx_name (fun v3 e3 => ?_)
    have hF3 : ∀ a k, ¬ (a = 63 ∧ 54 ≤ k ∧ k < 81) → v3 a k = v2 a k := by
      intro a k hk
      rw [e3]
      unfold gCopy
      rw [if_neg (by omega)]
    have hV3 : ∀ k, 0 ≤ k → k < 27 → v3 63 (54 + k) = v2 63 k := by
      intro k k0 k1
      rw [e3]
      unfold gCopy
      rw [if_pos (by omega), show 54 + k - 54 = k by omega]
    have hT3 : oTrip v v3 := oTrip_of hT2 (fun k => hF3 64 k (by omega)) (fun a k hk => hF3 a k (by omega))
    have cs2 := oTrip_cs hok hT2
    have cs3 := oTrip_cs hok hT3
    have e30 : wkN v3 0 = yIt (mN v) (s.toNat + (0 : Int).toNat) := by
      rw [wkN_congr (fun k k0 k1 => hF3 63 k (by omega)) (fun a k hR _ _ _ => hF3 a k (by unfold yR at hR; omega)) cs2.2.2.1.2 cs2.2.2.2.1.2]
      exact e20
    have e32 : wkN v3 2 = yIt (mN v) s.toNat := by
      rw [wkN_cp hF3 hV3 cs2.2.2.1.2 cs2.2.2.2.1.2]
      exact e20
    refine Gx_aload_n (i := 0) dX2_layRing_152 rfl rfl ?_
    refine Gx_iconst ⟨by decide, by decide⟩ dX2_layRing_153 ?_
    refine pf_X2_302_22 dX2_layRing_154 rfl rfl ?_
    refine lp_X2_ring4 (s := s.toNat) (D := 2 * x.toNat) hok hy (by omega) (by omega) (gRg_r (yRr_eqv (yOK_N hok)) hA2) (fun r v4 r0 r1 hT4 e42 hs4 hr4 hA4 hN4 => ?_) (2 * x.toNat - 1) 0 _ (by omega) (by omega) (oTrip_up hT3 (by omega) (by omega)) ?_ ?_ ?_ (gUp_eq2 rfl rfl) (fun k k0 k1 => by omega)
    rotate_left
    · rw [wkN_up (fun z => by unfold yR; omega) (by omega) cs3.2.2.1.2 cs3.2.2.2.1.2]
      exact e30
    · rw [wkN_up (fun z => by unfold yR; omega) (by omega) cs3.2.2.1.2 cs3.2.2.2.1.2]
      exact e32
    · rw [gUp_ne2 (by omega), hF3 38 46 (by omega), hs2]
      omega
    have hrg := gRg_of (yRr_eqv (yOK_N hok)) (D := 2 * x.toNat) (by omega) hA2 hN2 (by omega) hA4 hN4
    refine Gx_aload_n (i := 0) dX2_layRing_182 rfl rfl ?_
    refine Gx_iconst ⟨by decide, by decide⟩ dX2_layRing_183 ?_
    refine cl_X2_280 dX2_layRing_184 rfl rfl ⟨(Nat.le_of_ble_eq_true rfl), (Nat.le_of_ble_eq_true rfl)⟩ rfl ?_
    refine ct_X2_goTo ⟨by decide, by decide⟩ (oTrip_cs hok hT4).2.2.2.1 (fun vg hg => ?_)
    have hTg := oTrip_goTo hT4 hg
    refine Gx_aload_n (i := 0) dX2_layRing_187 rfl rfl ?_
    refine gf_X2_299_22 dX2_layRing_188 rfl rfl ?_
    rw [hg.1 38 46 (by omega), hs4]
    refine Gx_aload_n (i := 0) dX2_layRing_191 rfl rfl ?_
    refine gf_X2_302_22 dX2_layRing_192 rfl rfl ?_
    rw [hg.1 38 47 (by omega), hr4]
    refine Gx_iadd dX2_layRing_195 ?_
    try simp (disch := omega) only [w32_id]
    refine Gx_sipush dX2_layRing_196 ⟨by decide, by decide⟩ ?_
    refine Gx_icmp_le (tgt := 208) dX2_layRing_199 (by decide) (fun c199 => ?_) (fun c199 => ?_)
    · refine Gx_iconst ⟨by decide, by decide⟩ dX2_layRing_208 ?_
      refine Gx_ireturn dX2_layRing_209 (Or.inr rfl) ?_
      refine k1 vg _ _ hrg (by omega) hTg ?_ ?_ ?_
      · rw [oGoTo_N hg (oTrip_cs hok hT4).2.2.1.2, e42]
      · rw [hg.1 38 46 (by omega), hs4]
      · rw [hg.1 38 47 (by omega), hr4]
        omega
    · refine Gx_aload_n (i := 0) dX2_layRing_202 rfl rfl ?_
      refine cl_X2_296 dX2_layRing_203 rfl rfl ⟨(Nat.le_of_ble_eq_true rfl), (Nat.le_of_ble_eq_true rfl)⟩ rfl ?_
      refine ct_X2_back (oTrip_cs hok hTg).2.2.2.1 (fun vb hb => ?_)
      refine Gx_iconst ⟨by decide, by decide⟩ dX2_layRing_206 ?_
      refine Gx_ireturn dX2_layRing_207 (Or.inl rfl) ?_
      refine k0 (fun m l hml hle => ?_) vb (oTrip_back hTg hb).1
      have hu := gRg_uniq (yRr_eqv (yOK_N hok)) hrg hml
      omega
  · refine Gx_aload_n (i := 0) dX2_layRing_69 rfl rfl ?_
    refine cl_X2_296 dX2_layRing_70 rfl rfl ⟨(Nat.le_of_ble_eq_true rfl), (Nat.le_of_ble_eq_true rfl)⟩ rfl ?_
    refine ct_X2_back cs1.2.2.2.1 (fun vb hb => ?_)
    refine Gx_iconst ⟨by decide, by decide⟩ dX2_layRing_73 ?_
    refine Gx_ireturn dX2_layRing_74 (Or.inl rfl) ?_
    refine k0 (fun m l hml hle => ?_) vb (oTrip_back hT1 hb).1
    obtain ⟨i, i1, i2, i3⟩ := gRg_fl (yRr_eqv (yOK_N hok)) hml
    exact hN1 i i1 (by omega) i3
set_option maxHeartbeats 1000000 in
theorem ct_X2_ring  (hok : yOK v) (hy : v 38 31 ≤ 9999) (k1 : ∀ (v1 : gM) (m l : Nat), gRg (yRr (mN v)) m l → m + l ≤ 2000 → oScr v v1 → Q (0, l) (gUp v1 38 2 m) (gHd K) t) (k0 : (∀ m l : Nat, gRg (yRr (mN v)) m l → ¬ m + l ≤ 2000) → ∀ v1, oScr v v1 → Q (0, -6) v1 (gHd K) t) : Ctr Γ mX2_ring [(2, 38)] v (gHd K) t Q := by
  refine Ctr.ofG (ls := [(2, 38)]) rfl rfl rfl rfl rfl ?_
  refine Gx_aload_n (i := 0) dX2_ring_0 rfl rfl ?_
  refine cl_X2_305 dX2_ring_1 rfl rfl ⟨(Nat.le_of_ble_eq_true rfl), (Nat.le_of_ble_eq_true rfl)⟩ rfl ?_
  refine ct_X2_layRing hok hy (fun v1 m l hrg hml hT1 hm1 h46 h47 => ?_) (fun hno v1 hS1 => ?_)
  · refine Gx_if_ne (tgt := 10) dX2_ring_4 (by decide) (fun _ => ?_) (fun hz => absurd hz (by decide))
    refine Gx_aload_n (i := 0) dX2_ring_10 rfl rfl ?_
    refine cl_X2_296 dX2_ring_11 rfl rfl ⟨(Nat.le_of_ble_eq_true rfl), (Nat.le_of_ble_eq_true rfl)⟩ rfl ?_
    refine ct_X2_back (oTrip_cs hok hT1).2.2.2.1 (fun v2 hb => ?_)
    refine Gx_aload_n (i := 0) dX2_ring_14 rfl rfl ?_
    refine Gx_aload_n (i := 0) dX2_ring_15 rfl rfl ?_
    refine gf_X2_299_22 dX2_ring_16 rfl rfl ?_
    rw [hb.1 38 46 (by omega), h46]
    refine Gx_aload_n (i := 0) dX2_ring_19 rfl rfl ?_
    refine gf_X2_302_22 dX2_ring_20 rfl rfl ?_
    rw [hb.1 38 47 (by omega), h47]
    refine cl_X2_126 dX2_ring_23 rfl rfl ⟨(Nat.le_of_ble_eq_true rfl), (Nat.le_of_ble_eq_true rfl)⟩ rfl ?_
    refine ct_X2_tells ?_
    refine Gx_ireturn dX2_ring_26 trivial ?_
    exact k1 v2 m l hrg hml (oTrip_back hT1 hb).1
  · refine Gx_if_ne (tgt := 10) dX2_ring_4 (by decide) (fun hz => absurd hz (by decide)) (fun _ => ?_)
    refine Gx_bipush dX2_ring_7 ⟨by decide, by decide⟩ ?_
    refine Gx_ireturn dX2_ring_9 trivial ?_
    exact k0 hno v1 hS1
end
