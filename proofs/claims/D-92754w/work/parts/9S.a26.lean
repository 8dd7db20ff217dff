/-! AcornYears: wood -/
section
variable {Γ : gC} {v : gM} {K : gH} {t : Nat} {Q : gQ}
/-- a sort's cell may lie in an array of sorts -/
theorem aSd_el {h : gH} {o : Int} (hk : 3 ≤ (h o).1 ∧ (h o).1 ≤ 7) : ∃ (ko : Nat) (no : Int), h o = (ko, no) ∧ gO ko = true ∧ ∃ (C1 : String) (T1 : u_T) (N1 : Nat), gCl[gCi ko]? = some (C1, T1, N1) ∧ Cond.castable C1 "AcornYears$Sort" ∈ lw_tbl := by
  refine ⟨(h o).1, (h o).2, rfl, ?_⟩
  generalize (h o).1 = k at hk
  rcases (by omega : k = 3 ∨ k = 4 ∨ k = 5 ∨ k = 6 ∨ k = 7) with z | z | z | z | z <;> subst z
  · exact ⟨rfl, RX4, TX4, 1, rfl, q1791⟩
  · exact ⟨rfl, RX5, TX5, 3, rfl, q1792⟩
  · exact ⟨rfl, RX6, TX6, 3, rfl, q1793⟩
  · exact ⟨rfl, RX7, TX7, 4, rfl, q1794⟩
  · exact ⟨rfl, RX8, TX8, 4, rfl, q1795⟩
/-- a wood is laid: s tells it -/
def oWa (v v1 : gM) (K K1 : gH) (t : Nat) (s : gM) : Prop := (∀ a k, a < (t : Int) → ¬ ((a = 0 ∧ (k = 7 ∨ k = 8 ∨ k = 10 ∨ k = 11 ∨ k = 12 ∨ k = 17 ∨ k = 32)) ∨ aRq a k ∨ (5 ≤ a ∧ a ≤ 9) ∨ (a = 17 ∧ k = 2) ∨ a = 19) → v1 a k = v a k) ∧ FHa K K1 t ∧ (66 ≤ v1 0 7 ∧ gHd K1 (v1 0 7) = (17, s 38 12)) ∧ (∀ i, 0 ≤ i → i < s 38 12 → aSd v1 (gHd K1) (v1 (v1 0 7) i) (fun k => s 45 (7 * i + k)) ∧ (t : Int) ≤ v1 (v1 (v1 0 7) i) 0 ∧ v1 (v1 (v1 0 7) i) 0 ≠ v1 0 8) ∧ ((66 ≤ v1 0 8 ∧ (t : Int) ≤ v1 0 8) ∧ gHd K1 (v1 0 8) = (11, s 38 17) ∧ ∀ j, 0 ≤ j → j < s 38 17 → v1 (v1 0 8) j = s 48 j) ∧ (∀ j, 0 ≤ j → j ≤ 2 → v1 5 j = s 49 j) ∧ v1 0 10 = s 47 0 ∧ v1 0 11 = s 47 1 ∧ v1 0 12 = s 38 14 ∧ (∀ e, 0 ≤ e → e < s 38 14 → v1 19 e = s 46 (4 * e) ∧ v1 7 e = s 46 (4 * e + 1) ∧ v1 8 e = s 46 (4 * e + 2) ∧ v1 9 e = s 46 (4 * e + 3)) ∧ v1 0 32 = 0 ∧ v1 17 2 = 0

theorem Q_name {r : gV} {h : gH} (k : ∀ v', v' = v → Q r v' h t) : Q r v h t := k v rfl

set_option maxHeartbeats 4000000 in
theorem ct_X0_wood {r n : Int} {b : pB} (hro : 0 ≤ r ∧ r ≤ 3 → v 3 r = -1 ∨ aTo v (gHd K) (v 3 r) n b) (h35 : v 0 35 < 0) (kB : ¬ (0 ≤ r ∧ r ≤ 3) → Q (0, -1) v (gHd K) t) (kN : 0 ≤ r ∧ r ≤ 3 → v 3 r = -1 → Q (0, -3) (aMet v 1) (gHd K) t) (kF : 0 ≤ r ∧ r ≤ 3 → aTo v (gHd K) (v 3 r) n b → pFault b n ≠ -9 → ∀ v1 K1 t1, (∀ a k, a < (t : Int) → ¬ (aRq a k ∨ (a = 0 ∧ k = 17)) → v1 a k = v a k) → FHa K K1 t → t ≤ t1 → Q (0, -4) v1 (gHd K1) t1) (kO : 0 ≤ r ∧ r ≤ 3 → aTo v (gHd K) (v 3 r) n b → ∀ s v1 K1 t1, pText b n = .ok s → s 38 12 ≠ 0 → BP s → oWa v v1 K K1 t s → Q (0, s 38 12) v1 (gHd K1) t1) : Ctr Γ mX0_wood [(2, 0), (0, r)] v (gHd K) t Q := by
  refine Ctr.ofG (ls := [(2, 0), (0, r)]) rfl rfl rfl rfl rfl ?_
  refine Gx_top (fun hK => ?_)
  have h66 := gHd_66 hK
  refine Gx_iload_n (i := 1) dX0_wood_0 rfl rfl ?_
  refine cl_X0_164 dX0_wood_1 rfl ⟨(Nat.le_of_ble_eq_true rfl), (Nat.le_of_ble_eq_true rfl)⟩ rfl ?_
  refine ct_X0_isText (fun hr => ?_) (fun hr => ?_)
  · refine Gx_if_ne (tgt := 9) dX0_wood_4 (by decide) (fun _ => ?_) (fun hz => absurd hz (by decide))
    refine Gx_aload_n (i := 0) dX0_wood_9 rfl rfl ?_
    refine gf_X0_34_20 dX0_wood_10 rfl rfl ?_
    refine Gx_iload_n (i := 1) dX0_wood_13 rfl rfl ?_
    refine Gx_aaload16 dX0_wood_14 rfl (by first | omega | (simp (disch := omega) only [w32_id]; omega)) ?_
    refine Gx_ifnonnull (tgt := 24) dX0_wood_15 (by decide) (fun c15 => ?_) (fun c15 => ?_)
    · refine Gx_aload_n (i := 0) dX0_wood_24 rfl rfl ?_
      refine Gx_aload_n (i := 0) dX0_wood_25 rfl rfl ?_
      refine gf_X0_34_20 dX0_wood_26 rfl rfl ?_
      refine Gx_iload_n (i := 1) dX0_wood_29 rfl rfl ?_
      refine Gx_aaload16 dX0_wood_30 rfl (by first | omega | (simp (disch := omega) only [w32_id]; omega)) ?_
      refine cl_X0_263 (bc' := 10) (bs' := 400) dX0_wood_31 rfl rfl ⟨(Nat.le_of_ble_eq_true rfl), (Nat.le_of_ble_eq_true rfl)⟩ rfl (by first | omega | decide) (by first | omega | decide) ?_
      have ho := (hro hr).resolve_left (by omega)
      refine ct_X0_goesOn (b := b) (n := n) ho h35 (fun q v1 K1 t1 hL hq0 f1 g1 l1 => ?_) (fun s v1 K1 t1 hL hR1 hB1 hK1 f1 g1 l1 => ?_)
      · refine Gx_bipush dX0_wood_34 ⟨by decide, by decide⟩ ?_
        refine Gx_icmp_eq (tgt := 42) dX0_wood_36 (by decide) (fun c36 => absurd c36 (by omega)) (fun c36 => ?_)
        refine Gx_bipush dX0_wood_39 ⟨by decide, by decide⟩ ?_
        refine Gx_ireturn dX0_wood_41 trivial ?_
        exact kF hr ho (by unfold pFault; rw [hL]; show q ≠ _; omega) v1 K1 t1 f1 g1 l1
      · obtain ⟨r1, r2, r3, r4, r5, r6, ⟨r7a, r7b, r7c⟩, r8⟩ := hR1
        have hb1 := hB1.1
        have h66b : 66 ≤ t1 := by omega
        by_cases h12 : s 38 12 = 0
        · rw [if_pos h12]
          refine Gx_bipush dX0_wood_34 ⟨by decide, by decide⟩ ?_
          refine Gx_icmp_eq (tgt := 42) dX0_wood_36 (by decide) (fun c36 => absurd c36 (by have := ho.2.2.1; omega)) (fun c36 => ?_)
          refine Gx_bipush dX0_wood_39 ⟨by decide, by decide⟩ ?_
          refine Gx_ireturn dX0_wood_41 trivial ?_
          exact kF hr ho (by unfold pFault; rw [hL]; show (if _ then _ else _) ≠ _; rw [if_pos h12]; have := ho.2.2.1; omega) v1 K1 t1 f1 g1 l1
        rw [if_neg h12]
        refine Gx_bipush dX0_wood_34 ⟨by decide, by decide⟩ ?_
        refine Gx_icmp_eq (tgt := 42) dX0_wood_36 (by decide) (fun c36 => ?_) (fun c36 => absurd rfl c36)
        refine Gx_aload_n (i := 0) dX0_wood_42 rfl rfl ?_
        refine Gx_aload_n (i := 0) dX0_wood_43 rfl rfl ?_
        refine gf_X0_196_20 dX0_wood_44 rfl rfl ?_
        rw [r1]
        refine Gx_anew17 (bc' := 9) (bs' := 394) dX0_wood_47 rfl q141 q142 (by first | omega | (simp (disch := omega) only [w32_id]; omega)) (by decide) (by omega) ?_
        rw [gHd_up (by omega)]
        refine pf_X0_40_20 dX0_wood_50 rfl rfl ?_
        refine Gx_aload_n (i := 0) dX0_wood_53 rfl rfl ?_
        refine gf_X0_59_20 dX0_wood_54 rfl rfl ?_
        refine Gx_iconst ⟨by decide, by decide⟩ dX0_wood_57 ?_
        refine Gx_aload_n (i := 0) dX0_wood_58 rfl rfl ?_
        refine gf_X0_40_20 dX0_wood_59 rfl rfl ?_
        simp (disch := omega) only [gUp_ne2, gUp_eq2, gNf_ne]
        refine Gx_iconst ⟨by decide, by decide⟩ dX0_wood_62 ?_
        refine Gx_aload_n (i := 0) dX0_wood_63 rfl rfl ?_
        refine gf_X0_196_20 dX0_wood_64 rfl rfl ?_
        simp (disch := omega) only [gUp_ne2, gUp_eq2, gNf_ne]
        rw [r1]
        refine Gx_acopy17 dX0_wood_67 rfl rfl (gHd_at (by omega)) q516 q518 q517 q118 (by omega) (fun j j0 j1 => ⟨_, rfl, by simp (disch := omega) only [gUp_ne2, gNf_ne]; rw [gHd_ne (by have := (gHd_lt hK1 (a := v1 10 j) (by have := (r2 j (by omega) (by omega)).1.2.1; omega)).2; omega)]; exact aSd_el (r2 j (by omega) (by omega)).1.2.1⟩) ⟨(Nat.le_of_ble_eq_true rfl), (Nat.le_of_ble_eq_true rfl)⟩ rfl ?_
        refine Gx_name (fun vB eB => ?_)
        have bF : ∀ a k, a ≠ (t1 : Int) → ¬ (a = 0 ∧ k = 7) → vB a k = v1 a k := fun a k ha hk => by
          rw [eB, gCpy_ne (by omega), gUp_ne2 hk, gNf_ne ha]
        have b7 : vB 0 7 = t1 := by rw [eB, gCpy_ne (by omega), gUp_eq2 rfl rfl]
        have bS : ∀ i, 0 ≤ i → i < s 38 12 → vB t1 i = v1 10 i := fun i i0 i1 => by
          rw [eB, gCpy_at ⟨rfl, i0, by omega⟩, gUp_ne2 (by omega), gNf_ne (by omega), show (0 : Int) + (i - 0) = i by omega]
        clear eB
        have c1 : vB 0 22 = v1 0 22 := bF _ _ (by omega) (by omega)
        have c2 : vB 0 24 = v1 0 24 := bF _ _ (by omega) (by omega)
        have c3 : vB 0 25 = v1 0 25 := bF _ _ (by omega) (by omega)
        have c4 : vB 0 26 = v1 0 26 := bF _ _ (by omega) (by omega)
        refine Gx_aload_n (i := 0) dX0_wood_70 rfl rfl ?_
        refine Gx_aload_n (i := 0) dX0_wood_71 rfl rfl ?_
        refine gf_X0_232_20 dX0_wood_72 rfl rfl ?_
        rw [c1]
        refine pf_X0_126_20 dX0_wood_75 rfl rfl ?_
        refine Gx_aload_n (i := 0) dX0_wood_78 rfl rfl ?_
        refine gf_X0_62_20 dX0_wood_79 rfl rfl ?_
        refine Gx_iconst ⟨by decide, by decide⟩ dX0_wood_82 ?_
        refine Gx_aload_n (i := 0) dX0_wood_83 rfl rfl ?_
        refine gf_X0_44_20 dX0_wood_84 rfl rfl ?_
        refine Gx_iconst ⟨by decide, by decide⟩ dX0_wood_87 ?_
        refine Gx_iconst ⟨by decide, by decide⟩ dX0_wood_88 ?_
        refine Gx_acopy10 dX0_wood_89 rfl rfl rfl q516 q518 q517 q118 (by first | omega | (simp (disch := omega) only [w32_id]; omega)) ⟨(Nat.le_of_ble_eq_true rfl), (Nat.le_of_ble_eq_true rfl)⟩ rfl ?_
        refine Gx_aload_n (i := 0) dX0_wood_92 rfl rfl ?_
        refine Gx_aload_n (i := 0) dX0_wood_93 rfl rfl ?_
        refine gf_X0_226_20 dX0_wood_94 rfl rfl ?_
        simp (disch := omega) only [gUp_ne2, gCpy_ne, c2]
        refine pf_X0_267_20 dX0_wood_97 rfl rfl ?_
        refine Gx_aload_n (i := 0) dX0_wood_100 rfl rfl ?_
        refine Gx_aload_n (i := 0) dX0_wood_101 rfl rfl ?_
        refine gf_X0_229_20 dX0_wood_102 rfl rfl ?_
        simp (disch := omega) only [gUp_ne2, gCpy_ne, c3]
        refine pf_X0_270_20 dX0_wood_105 rfl rfl ?_
        refine Gx_aload_n (i := 0) dX0_wood_108 rfl rfl ?_
        refine Gx_aload_n (i := 0) dX0_wood_109 rfl rfl ?_
        refine gf_X0_223_20 dX0_wood_110 rfl rfl ?_
        simp (disch := omega) only [gUp_ne2, gCpy_ne, c4]
        refine pf_X0_273_20 dX0_wood_113 rfl rfl ?_
        refine Gx_aload_n (i := 0) dX0_wood_116 rfl rfl ?_
        refine gf_X0_65_20 dX0_wood_117 rfl rfl ?_
        refine Gx_iconst ⟨by decide, by decide⟩ dX0_wood_120 ?_
        refine Gx_aload_n (i := 0) dX0_wood_121 rfl rfl ?_
        refine gf_X0_47_20 dX0_wood_122 rfl rfl ?_
        refine Gx_iconst ⟨by decide, by decide⟩ dX0_wood_125 ?_
        refine Gx_iconst ⟨by decide, by decide⟩ dX0_wood_126 ?_
        refine Gx_acopy10 dX0_wood_127 rfl rfl rfl q516 q518 q517 q118 (by first | omega | (simp (disch := omega) only [w32_id]; omega)) ⟨(Nat.le_of_ble_eq_true rfl), (Nat.le_of_ble_eq_true rfl)⟩ rfl ?_
        refine Gx_aload_n (i := 0) dX0_wood_130 rfl rfl ?_
        refine gf_X0_68_20 dX0_wood_131 rfl rfl ?_
        refine Gx_iconst ⟨by decide, by decide⟩ dX0_wood_134 ?_
        refine Gx_aload_n (i := 0) dX0_wood_135 rfl rfl ?_
        refine gf_X0_50_20 dX0_wood_136 rfl rfl ?_
        refine Gx_iconst ⟨by decide, by decide⟩ dX0_wood_139 ?_
        refine Gx_iconst ⟨by decide, by decide⟩ dX0_wood_140 ?_
        refine Gx_acopy10 dX0_wood_141 rfl rfl rfl q516 q518 q517 q118 (by first | omega | (simp (disch := omega) only [w32_id]; omega)) ⟨(Nat.le_of_ble_eq_true rfl), (Nat.le_of_ble_eq_true rfl)⟩ rfl ?_
        refine Gx_aload_n (i := 0) dX0_wood_144 rfl rfl ?_
        refine gf_X0_71_20 dX0_wood_145 rfl rfl ?_
        refine Gx_iconst ⟨by decide, by decide⟩ dX0_wood_148 ?_
        refine Gx_aload_n (i := 0) dX0_wood_149 rfl rfl ?_
        refine gf_X0_53_20 dX0_wood_150 rfl rfl ?_
        refine Gx_iconst ⟨by decide, by decide⟩ dX0_wood_153 ?_
        refine Gx_iconst ⟨by decide, by decide⟩ dX0_wood_154 ?_
        refine Gx_acopy10 dX0_wood_155 rfl rfl rfl q516 q518 q517 q118 (by first | omega | (simp (disch := omega) only [w32_id]; omega)) ⟨(Nat.le_of_ble_eq_true rfl), (Nat.le_of_ble_eq_true rfl)⟩ rfl ?_
        refine Gx_aload_n (i := 0) dX0_wood_158 rfl rfl ?_
        refine gf_X0_74_20 dX0_wood_159 rfl rfl ?_
        refine Gx_iconst ⟨by decide, by decide⟩ dX0_wood_162 ?_
        refine Gx_aload_n (i := 0) dX0_wood_163 rfl rfl ?_
        refine gf_X0_56_20 dX0_wood_164 rfl rfl ?_
        refine Gx_iconst ⟨by decide, by decide⟩ dX0_wood_167 ?_
        refine Gx_iconst ⟨by decide, by decide⟩ dX0_wood_168 ?_
        refine Gx_acopy10 dX0_wood_169 rfl rfl rfl q516 q518 q517 q118 (by first | omega | (simp (disch := omega) only [w32_id]; omega)) ⟨(Nat.le_of_ble_eq_true rfl), (Nat.le_of_ble_eq_true rfl)⟩ rfl ?_
        refine Gx_aload_n (i := 0) dX0_wood_172 rfl rfl ?_
        refine Gx_iconst ⟨by decide, by decide⟩ dX0_wood_173 ?_
        refine pf_X0_276_20 dX0_wood_174 rfl rfl ?_
        refine Gx_aload_n (i := 0) dX0_wood_177 rfl rfl ?_
        refine gf_X0_86_20 dX0_wood_178 rfl rfl ?_
        refine Gx_iconst ⟨by decide, by decide⟩ dX0_wood_181 ?_
        refine pf_X0_279_21 dX0_wood_182 rfl rfl ?_
        refine Gx_aload_n (i := 0) dX0_wood_185 rfl rfl ?_
        refine gf_X0_47_20 dX0_wood_186 rfl rfl ?_
        refine Gx_iconst ⟨by decide, by decide⟩ dX0_wood_189 ?_
        refine Gx_aload_n (i := 0) dX0_wood_190 rfl rfl ?_
        refine gf_X0_86_20 dX0_wood_191 rfl rfl ?_
        refine gf_X0_282_21 dX0_wood_194 rfl rfl ?_
        refine Gx_iconst ⟨by decide, by decide⟩ dX0_wood_197 ?_
        refine Gx_iconst ⟨by decide, by decide⟩ dX0_wood_198 ?_
        refine Gx_acopy10 dX0_wood_199 rfl rfl rfl q516 q518 q517 q118 (by first | omega | (simp (disch := omega) only [w32_id]; omega)) ⟨(Nat.le_of_ble_eq_true rfl), (Nat.le_of_ble_eq_true rfl)⟩ rfl ?_
        refine Gx_aload_n (i := 0) dX0_wood_202 rfl rfl ?_
        refine gf_X0_196_20 dX0_wood_203 rfl rfl ?_
        refine Gx_ireturn dX0_wood_206 trivial ?_
        have e21 : vB 0 21 = s 38 12 := by rw [bF _ _ (by omega) (by omega)]; exact r1
        simp (disch := omega) only [gUp_ne2, gCpy_ne]
        rw [e21]
        refine Q_name (fun vC eC => ?_)
        have cF : ∀ a k, ¬ ((a = 0 ∧ (k = 8 ∨ k = 10 ∨ k = 11 ∨ k = 12 ∨ k = 32)) ∨ (5 ≤ a ∧ a ≤ 9) ∨ (a = 17 ∧ k = 2) ∨ a = 19) → vC a k = vB a k := fun a k hk => by
          rw [eC]
          simp (disch := omega) only [gUp_ne2, gCpy_ne]
        have C8 : vC 0 8 = v1 0 22 := by rw [eC]; simp (disch := omega) only [gUp_ne2, gUp_eq2, gCpy_ne]
        have C10 : vC 0 10 = v1 0 24 := by rw [eC]; simp (disch := omega) only [gUp_ne2, gUp_eq2, gCpy_ne]
        have C11 : vC 0 11 = v1 0 25 := by rw [eC]; simp (disch := omega) only [gUp_ne2, gUp_eq2, gCpy_ne]
        have C12 : vC 0 12 = v1 0 26 := by rw [eC]; simp (disch := omega) only [gUp_ne2, gUp_eq2, gCpy_ne]
        have C32 : vC 0 32 = 0 := by rw [eC]; simp (disch := omega) only [gUp_ne2, gUp_eq2, gCpy_ne]
        have C172 : vC 17 2 = 0 := by rw [eC]; simp (disch := omega) only [gUp_ne2, gUp_eq2, gCpy_ne]
        have C5 : ∀ j, 0 ≤ j → j ≤ 2 → vC 5 j = v1 11 j := fun j j0 j1 => by
          rw [eC]
          simp (disch := omega) only [gUp_ne2, gUp_eq2, gCpy_ne, gCpy_at, Int.zero_add, Int.sub_zero]
          exact bF _ _ (by omega) (by omega)
        have CE : ∀ e, 0 ≤ e → e < 2 → vC 19 e = v1 12 e ∧ vC 7 e = v1 13 e ∧ vC 8 e = v1 14 e ∧ vC 9 e = v1 15 e := fun e e0 e1 => by
          rw [eC]
          simp (disch := omega) only [gUp_ne2, gUp_eq2, gCpy_ne, gCpy_at, Int.zero_add, Int.sub_zero]
          exact ⟨bF _ _ (by omega) (by omega), bF _ _ (by omega) (by omega), bF _ _ (by omega) (by omega), bF _ _ (by omega) (by omega)⟩
        clear eC
        have C7 : vC 0 7 = t1 := by rw [cF 0 7 (by omega)]; exact b7
        have hHU : FHa K1 (gUpH K1 t1 (17, s 38 12)) t1 := FHa_up
        have hi : ∀ a k, 66 ≤ a → a < (t1 : Int) → vC a k = v1 a k := fun a k a0 a1 => by rw [cF a k (by omega), bF a k (by omega) (by omega)]
        have C35 : vC 0 35 = v1 0 35 := by rw [cF 0 35 (by omega), bF 0 35 (by omega) (by omega)]
        have lc := (gHd_lh hK1 r7b (by decide)).2
        refine kO hr ho s vC _ (t1 + 1) hL h12 hB1 ⟨fun a k ha hk => ?_, ?_, ?_, fun i i0 i1 => ?_, ?_, ?_, ?_, ?_, ?_, ?_, C32, C172⟩
        · rw [cF a k (by omega), bF a k (by omega) (by omega)]
          exact f1 a k ha (by omega)
        · exact FHa.trans g1 FHa_up l1
        · exact ⟨by omega, by rw [C7]; exact gHd_at (by omega)⟩
        · have eo : vC (vC 0 7) i = v1 10 i := by rw [C7, cF _ _ (by omega), bS i i0 i1]
          obtain ⟨w1, w2, w3⟩ := r2 i i0 i1
          have lo := (gHd_lt hK1 (a := v1 10 i) (by have := w1.2.1; omega)).2
          rw [eo, C8, hi _ _ w1.1 lo]
          exact ⟨aSd_fr hK1 w1 C35 hi hHU (fun k _ _ => rfl), w2, w3⟩
        · rw [C8, gHd_ne (by omega)]
          refine ⟨r7a, r7b, fun j j0 j1 => ?_⟩
          rw [hi _ _ r7a.1 lc]
          exact r7c j j0 j1
        · intro j j0 j1
          rw [C5 j j0 j1]
          exact r8 j j0 j1
        · rw [C10]; exact r5
        · rw [C11]; exact r6
        · rw [C12]; exact r3
        · intro e e0 e1
          obtain ⟨z1, z2, z3, z4⟩ := CE e e0 (by have := hB1.2.1; omega)
          rw [z1, z2, z3, z4]
          exact r4 e e0 e1
    · refine Gx_aload_n (i := 0) dX0_wood_18 rfl rfl ?_
      refine Gx_iconst ⟨by decide, by decide⟩ dX0_wood_19 ?_
      refine cl_X0_139 dX0_wood_20 rfl rfl ⟨(Nat.le_of_ble_eq_true rfl), (Nat.le_of_ble_eq_true rfl)⟩ rfl ?_
      refine ct_X0_met (by omega) ?_
      refine Gx_ireturn dX0_wood_23 trivial ?_
      exact kN hr (by omega)
  · refine Gx_if_ne (tgt := 9) dX0_wood_4 (by decide) (fun hz => absurd hz (by decide)) (fun _ => ?_)
    refine Gx_iconst ⟨by decide, by decide⟩ dX0_wood_7 ?_
    refine Gx_ireturn dX0_wood_8 trivial ?_
    exact kB hr
end
