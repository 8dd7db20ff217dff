/-! AcornYearsModel: an item, a text -/
section
variable {Γ : gC} {v : gM} {K : gH} {t : Nat} {Q : gQ}
theorem ct_X2_kindP {c : Int} (k : Q (0, pKind c) v (gHd K) t) : Ctr Γ mX2_kindOf [(0, c)] v (gHd K) t Q := ct_X2_kindOf k
theorem ct_X2_readsSort6 {r kd : Int} (hn : v 38 12 = 6) (k : Q (0, 0) v (gHd K) t) : Ctr Γ mX2_readsSort [(2, 38), (0, r), (0, kd)] v (gHd K) t Q := by
  refine Ctr.ofG (ls := [(2, 38), (0, r), (0, kd), (9, 0), (9, 0)]) rfl rfl rfl rfl rfl ?_
  refine Gx_aload_n (i := 0) dX2_readsSort_0 rfl rfl ?_
  refine gf_X2_144_22 dX2_readsSort_1 rfl rfl ?_
  refine Gx_bipush dX2_readsSort_4 ⟨by decide, by decide⟩ ?_
  refine Gx_icmp_ne (tgt := 11) dX2_readsSort_6 (by decide) (fun c6 => ?_) (fun c6 => ?_)
  · exfalso
    omega
  · refine Gx_iconst ⟨by decide, by decide⟩ dX2_readsSort_9 ?_
    refine Gx_ireturn dX2_readsSort_10 (Or.inl rfl) ?_
    exact k
theorem ct_X2_readsEater2 {r kd : Int} (hn : v 38 14 = 2) (k : Q (0, 0) v (gHd K) t) : Ctr Γ mX2_readsEater [(2, 38), (0, r)] v (gHd K) t Q := by
  refine Ctr.ofG (ls := [(2, 38), (0, r), (9, 0), (9, 0)]) rfl rfl rfl rfl rfl ?_
  refine Gx_aload_n (i := 0) dX2_readsEater_0 rfl rfl ?_
  refine gf_X2_161_22 dX2_readsEater_1 rfl rfl ?_
  refine Gx_iconst ⟨by decide, by decide⟩ dX2_readsEater_4 ?_
  refine Gx_icmp_ne (tgt := 10) dX2_readsEater_5 (by decide) (fun c5 => ?_) (fun c5 => ?_)
  · exfalso
    omega
  · refine Gx_iconst ⟨by decide, by decide⟩ dX2_readsEater_8 ?_
    refine Gx_ireturn dX2_readsEater_9 (Or.inl rfl) ?_
    exact k
theorem ct_X2_readsSortC {r kd q0 n0 : Int} {b : pB} (hr : 0 ≤ r ∧ r ≤ 3) (hs : v 43 r ≤ 80) (hb : mB v r = b) (hq : v 38 10 = q0) (hp : 0 ≤ q0 ∧ q0 ≤ 400) (hn : v 38 12 = n0) (hn0 : 0 ≤ n0 ∧ n0 ≤ 6) (hkd : 1 ≤ kd ∧ kd ≤ 5) (k1 : n0 ≠ 6 → ∀ q f v1, pSort b kd (q0 + 1) = .ok (q, f) → (∀ a j, ¬ ((a = 38 ∧ (j = 10 ∨ j = 11 ∨ j = 12)) ∨ (a = 45 ∧ 7 * n0 ≤ j ∧ j ≤ 7 * n0 + 6)) → v1 a j = v a j) → v1 38 10 = q → v1 38 12 = n0 + 1 → (∀ k, 0 ≤ k → k ≤ 6 → v1 45 (7 * n0 + k) = f k) → Q (0, 1) v1 (gHd K) t) (k0 : n0 ≠ 6 → ∀ q v1, pSort b kd (q0 + 1) = .error q → (∀ a j, ¬ ((a = 38 ∧ (j = 10 ∨ j = 11 ∨ j = 12)) ∨ (a = 45 ∧ 7 * n0 ≤ j ∧ j ≤ 7 * n0 + 6)) → v1 a j = v a j) → v1 38 10 = q → v1 38 12 = n0 → Q (0, 0) v1 (gHd K) t) (k6 : n0 = 6 → Q (0, 0) v (gHd K) t) : Ctr Γ mX2_readsSort [(2, 38), (0, r), (0, kd)] v (gHd K) t Q := by
  by_cases h6 : n0 = 6
  · exact ct_X2_readsSort6 (hn.trans h6) (k6 h6)
  · exact ct_X2_readsSort hr hs hb hq hp hn (by omega) hkd (k1 h6) (k0 h6)
theorem ct_X2_readsEaterC {r q0 n0 : Int} {b : pB} (hr : 0 ≤ r ∧ r ≤ 3) (hs : v 43 r ≤ 80) (hb : mB v r = b) (hq : v 38 10 = q0) (hp : 0 ≤ q0 ∧ q0 ≤ 400) (hn : v 38 14 = n0) (hn0 : 0 ≤ n0 ∧ n0 ≤ 2) (k1 : n0 ≠ 2 → ∀ q x0 x1 x2 x3 v1, pEater b (q0 + 1) = .ok (q, x0, x1, x2, x3) → (∀ a j, ¬ ((a = 38 ∧ (j = 10 ∨ j = 11 ∨ j = 14)) ∨ (a = 46 ∧ 4 * n0 ≤ j ∧ j ≤ 4 * n0 + 3)) → v1 a j = v a j) → v1 38 10 = q → v1 38 14 = n0 + 1 → v1 46 (4 * n0) = x0 → v1 46 (4 * n0 + 1) = x1 → v1 46 (4 * n0 + 2) = x2 → v1 46 (4 * n0 + 3) = x3 → Q (0, 1) v1 (gHd K) t) (k0 : n0 ≠ 2 → ∀ q v1, pEater b (q0 + 1) = .error q → (∀ a j, ¬ ((a = 38 ∧ (j = 10 ∨ j = 11 ∨ j = 14)) ∨ (a = 46 ∧ 4 * n0 ≤ j ∧ j ≤ 4 * n0 + 3)) → v1 a j = v a j) → v1 38 10 = q → v1 38 14 = n0 → Q (0, 0) v1 (gHd K) t) (k6 : n0 = 2 → Q (0, 0) v (gHd K) t) : Ctr Γ mX2_readsEater [(2, 38), (0, r)] v (gHd K) t Q := by
  by_cases h6 : n0 = 2
  · exact ct_X2_readsEater2 (r := r) (kd := 0) (hn.trans h6) (k6 h6)
  · exact ct_X2_readsEater hr hs hb hq hp hn (by omega) (k1 h6) (k0 h6)
set_option maxHeartbeats 2000000 in
theorem ct_X2_readsItem {r q0 : Int} {b : pB} {s : gM} (hr : 0 ≤ r ∧ r ≤ 3) (hs : v 43 r ≤ 80) (hb : mB v r = b) (hq : v 38 10 = q0) (hp : 0 ≤ q0 ∧ q0 ≤ 400) (hRP : RP s v) (hBP : BP s) (k1 : ∀ q s1 v1, pItem b q0 s = .ok (q, s1) → RP s1 v1 → FRD v v1 → v1 38 10 = q → Q (0, 1) v1 (gHd K) t) (k0 : ∀ q v1, pItem b q0 s = .error q → FRD v v1 → v1 38 10 = q → Q (0, 0) v1 (gHd K) t) : Ctr Γ mX2_readsItem [(2, 38), (0, r)] v (gHd K) t Q := by
  refine Ctr.ofG (ls := [(2, 38), (0, r), (9, 0)]) rfl rfl rfl rfl rfl ?_
  have hd : sByte v r (v 38 10) = b q0 := by rw [← hb, hq]; rfl
  have hkl := pKind_le (b q0)
  refine Gx_aload_n (i := 0) dX2_readsItem_0 rfl rfl ?_
  refine Gx_iload_n (i := 1) dX2_readsItem_1 rfl rfl ?_
  refine Gx_aload_n (i := 0) dX2_readsItem_2 rfl rfl ?_
  refine gf_X2_132_22 dX2_readsItem_3 rfl rfl ?_
  refine cl_X2_135 dX2_readsItem_6 rfl rfl ⟨(Nat.le_of_ble_eq_true rfl), (Nat.le_of_ble_eq_true rfl)⟩ rfl ?_
  refine ct_X2_byteAt (by omega) (by omega) (by omega) ?_
  rw [hd]
  refine Gx_istore_n_2 dX2_readsItem_9 (Nat.le_of_ble_eq_true rfl) (Nat.ne_of_beq_eq_false rfl) ?_
  refine Gx_iload_n (i := 2) dX2_readsItem_10 rfl rfl ?_
  refine cl_X2_167 dX2_readsItem_11 rfl ⟨(Nat.le_of_ble_eq_true rfl), (Nat.le_of_ble_eq_true rfl)⟩ rfl ?_
  refine ct_X2_kindP ?_
  refine Gx_if_le (tgt := 27) dX2_readsItem_14 (by decide) (fun c14 => ?_) (fun c14 => ?_)
  · refine Gx_iload_n (i := 2) dX2_readsItem_27 rfl rfl ?_
    refine Gx_bipush dX2_readsItem_28 ⟨by decide, by decide⟩ ?_
    refine Gx_icmp_ne (tgt := 41) dX2_readsItem_30 (by decide) (fun c30 => ?_) (fun c30 => ?_)
    · refine Gx_iload_n (i := 2) dX2_readsItem_41 rfl rfl ?_
      refine Gx_bipush dX2_readsItem_42 ⟨by decide, by decide⟩ ?_
      refine Gx_icmp_ne (tgt := 55) dX2_readsItem_44 (by decide) (fun c44 => ?_) (fun c44 => ?_)
      · refine Gx_iload_n (i := 2) dX2_readsItem_55 rfl rfl ?_
        refine Gx_bipush dX2_readsItem_56 ⟨by decide, by decide⟩ ?_
        refine Gx_icmp_ne (tgt := 69) dX2_readsItem_58 (by decide) (fun c58 => ?_) (fun c58 => ?_)
        · refine Gx_iload_n (i := 2) dX2_readsItem_69 rfl rfl ?_
          refine Gx_bipush dX2_readsItem_70 ⟨by decide, by decide⟩ ?_
          refine Gx_icmp_ne (tgt := 87) dX2_readsItem_72 (by decide) (fun c72 => ?_) (fun c72 => ?_)
          · refine Gx_iconst ⟨by decide, by decide⟩ dX2_readsItem_87 ?_
            refine Gx_ireturn dX2_readsItem_88 (Or.inl rfl) ?_
            exact k0 q0 v (by unfold pItem; rw [if_neg (by omega), if_neg (by omega), if_neg (by omega), if_neg (by omega), if_neg (by omega)]) (fun a j hn => rfl) hq
          · refine Gx_aload_n (i := 0) dX2_readsItem_75 rfl rfl ?_
            refine Gx_iload_n (i := 1) dX2_readsItem_76 rfl rfl ?_
            refine cl_X2_182 dX2_readsItem_77 rfl rfl ⟨(Nat.le_of_ble_eq_true rfl), (Nat.le_of_ble_eq_true rfl)⟩ rfl ?_
            refine ct_X2_readsChances hr hs hb hq hp (fun qS x0 x1 x2 vS cS hFS hqS f0 f1 f2 => ?_) (fun qS vS cS hFS hqS => ?_)
            · refine Gx_if_eq (tgt := 87) dX2_readsItem_80 (by decide) (fun hz => absurd hz (by decide)) (fun _ => ?_)
              refine Gx_iconst ⟨by decide, by decide⟩ dX2_readsItem_83 ?_
              refine Gx_goto (tgt := 88) dX2_readsItem_84 (by decide) ?_
              refine Gx_ireturn dX2_readsItem_88 (Or.inr rfl) ?_
              exact k1 qS (pPutM s x0 x1 x2) vS (by unfold pItem; rw [if_neg (by omega), if_neg (by omega), if_neg (by omega), if_neg (by omega), if_pos c72, cS]; rfl) (RP_M hRP hBP hFS f0 f1 f2) (fun a j hn => hFS a j (by omega)) hqS
              -- done
            · refine Gx_if_eq (tgt := 87) dX2_readsItem_80 (by decide) (fun _ => ?_) (fun hz => absurd hz (by decide))
              refine Gx_iconst ⟨by decide, by decide⟩ dX2_readsItem_87 ?_
              refine Gx_ireturn dX2_readsItem_88 (Or.inl rfl) ?_
              exact k0 qS vS (by unfold pItem; rw [if_neg (by omega), if_neg (by omega), if_neg (by omega), if_neg (by omega), if_pos c72, cS]; rfl) (fun a j hn => hFS a j (by omega)) hqS
              -- done
        · refine Gx_aload_n (i := 0) dX2_readsItem_61 rfl rfl ?_
          refine Gx_iload_n (i := 1) dX2_readsItem_62 rfl rfl ?_
          refine cl_X2_179 dX2_readsItem_63 rfl rfl ⟨(Nat.le_of_ble_eq_true rfl), (Nat.le_of_ble_eq_true rfl)⟩ rfl ?_
          refine ct_X2_readsCalendar hr hs hb hq hp (fun vS cS hFS hqS hnS f0 => ?_) (fun vS cS hFS hqS => ?_)
          · refine Gx_goto (tgt := 88) dX2_readsItem_66 (by decide) ?_
            refine Gx_ireturn dX2_readsItem_88 (Or.inr rfl) ?_
            exact k1 _ (pPutC s b (q0 + 1) (pCnt b 8 (q0 + 1))) vS (by unfold pItem; rw [if_neg (by omega), if_neg (by omega), if_neg (by omega), if_pos c58, if_pos cS]) (RP_C hRP hBP (pCnt_le b 8 (q0 + 1)) hFS hnS f0) (fun a j hn => hFS a j (by omega)) hqS
            -- done
          · refine Gx_goto (tgt := 88) dX2_readsItem_66 (by decide) ?_
            refine Gx_ireturn dX2_readsItem_88 (Or.inl rfl) ?_
            exact k0 _ vS (by unfold pItem; rw [if_neg (by omega), if_neg (by omega), if_neg (by omega), if_pos c58, if_neg (by omega)]) (fun a j hn => hFS a j (by omega)) hqS
            -- done
      · refine Gx_aload_n (i := 0) dX2_readsItem_47 rfl rfl ?_
        refine Gx_iload_n (i := 1) dX2_readsItem_48 rfl rfl ?_
        refine cl_X2_176 dX2_readsItem_49 rfl rfl ⟨(Nat.le_of_ble_eq_true rfl), (Nat.le_of_ble_eq_true rfl)⟩ rfl ?_
        refine ct_X2_readsJay hr hs hb hq hp (fun qS x0 x1 vS cS hFS hqS f0 f1 => ?_) (fun qS vS cS hFS hqS => ?_)
        · refine Gx_goto (tgt := 88) dX2_readsItem_52 (by decide) ?_
          refine Gx_ireturn dX2_readsItem_88 (Or.inr rfl) ?_
          exact k1 qS (pPutJ s x0 x1) vS (by unfold pItem; rw [if_neg (by omega), if_neg (by omega), if_pos c44, cS]; rfl) (RP_J hRP hBP hFS f0 f1) (fun a j hn => hFS a j (by omega)) hqS
          -- done
        · refine Gx_goto (tgt := 88) dX2_readsItem_52 (by decide) ?_
          refine Gx_ireturn dX2_readsItem_88 (Or.inl rfl) ?_
          exact k0 qS vS (by unfold pItem; rw [if_neg (by omega), if_neg (by omega), if_pos c44, cS]; rfl) (fun a j hn => hFS a j (by omega)) hqS
          -- done
    · refine Gx_aload_n (i := 0) dX2_readsItem_33 rfl rfl ?_
      refine Gx_iload_n (i := 1) dX2_readsItem_34 rfl rfl ?_
      refine cl_X2_173 dX2_readsItem_35 rfl rfl ⟨(Nat.le_of_ble_eq_true rfl), (Nat.le_of_ble_eq_true rfl)⟩ rfl ?_
      refine ct_X2_readsEaterC hr hs hb hq hp hRP.2.1 hBP.2.1 (fun h6 qS x0 x1 x2 x3 vS cS hFS hqS hnS f0 f1 f2 f3 => ?_) (fun h6 qS vS cS hFS hqS hnS => ?_) (fun h6 => ?_)
      · refine Gx_goto (tgt := 88) dX2_readsItem_38 (by decide) ?_
        refine Gx_ireturn dX2_readsItem_88 (Or.inr rfl) ?_
        exact k1 qS (pPutE s x0 x1 x2 x3) vS (by unfold pItem; rw [if_neg (by omega), if_pos c30, if_neg h6, cS]; rfl) (RP_E hRP hBP hFS hnS f0 f1 f2 f3) (fun a j hn => hFS a j (by omega)) hqS
        -- done
      · refine Gx_goto (tgt := 88) dX2_readsItem_38 (by decide) ?_
        refine Gx_ireturn dX2_readsItem_88 (Or.inl rfl) ?_
        exact k0 qS vS (by unfold pItem; rw [if_neg (by omega), if_pos c30, if_neg h6, cS]; rfl) (fun a j hn => hFS a j (by omega)) hqS
        -- done
      · refine Gx_goto (tgt := 88) dX2_readsItem_38 (by decide) ?_
        refine Gx_ireturn dX2_readsItem_88 (Or.inl rfl) ?_
        exact k0 q0 v (by unfold pItem; rw [if_neg (by omega), if_pos c30, if_pos h6]) (fun a j hn => rfl) hq
        -- done
  · refine Gx_aload_n (i := 0) dX2_readsItem_17 rfl rfl ?_
    refine Gx_iload_n (i := 1) dX2_readsItem_18 rfl rfl ?_
    refine Gx_iload_n (i := 2) dX2_readsItem_19 rfl rfl ?_
    refine cl_X2_167 dX2_readsItem_20 rfl ⟨(Nat.le_of_ble_eq_true rfl), (Nat.le_of_ble_eq_true rfl)⟩ rfl ?_
    refine ct_X2_kindP ?_
    refine cl_X2_170 dX2_readsItem_23 rfl rfl ⟨(Nat.le_of_ble_eq_true rfl), (Nat.le_of_ble_eq_true rfl)⟩ rfl ?_
    refine ct_X2_readsSortC hr hs hb hq hp hRP.1 hBP.1 (by omega) (fun h6 qS fS vS cS hFS hqS hnS hfS => ?_) (fun h6 qS vS cS hFS hqS hnS => ?_) (fun h6 => ?_)
    · refine Gx_ireturn dX2_readsItem_26 (Or.inr rfl) ?_
      exact k1 qS (pPutS s fS) vS (by unfold pItem; rw [if_pos c14, if_neg h6, cS]; rfl) (RP_S hRP hBP hFS hnS hfS) (fun a j hn => hFS a j (by omega)) hqS
      -- done
    · refine Gx_ireturn dX2_readsItem_26 (Or.inl rfl) ?_
      exact k0 qS vS (by unfold pItem; rw [if_pos c14, if_neg h6, cS]; rfl) (fun a j hn => hFS a j (by omega)) hqS
      -- done
    · refine Gx_ireturn dX2_readsItem_26 (Or.inl rfl) ?_
      exact k0 q0 v (by unfold pItem; rw [if_pos c14, if_pos h6]) (fun a j hn => rfl) hq
      -- done
end
