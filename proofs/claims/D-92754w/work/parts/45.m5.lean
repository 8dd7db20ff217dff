/-! AcornYearsModel reads a sort -/
section
variable {Γ : gC} {v : gM} {K : gH} {t : Nat} {Q : gQ}
set_option maxHeartbeats 4000000 in
theorem ct_X2_readsMore {r kd x0 q0 : Int} {b : pB} (hr : 0 ≤ r ∧ r ≤ 3) (hs : v 43 r ≤ 80) (hb : mB v r = b) (hq : v 38 10 = q0) (hp : 0 ≤ q0 ∧ q0 ≤ 500) (hx : 0 ≤ x0 ∧ x0 ≤ 35) (hk : 2 ≤ kd ∧ kd ≤ 5) (k1 : ∀ q x4 x5 x6 v1, pMore b kd q0 = .ok (q, x4, x5, x6) → (∀ a j, ¬ ((a = 38 ∧ (j = 10 ∨ j = 11)) ∨ (a = 45 ∧ x0 + 4 ≤ j ∧ j ≤ x0 + 6)) → v1 a j = v a j) → v1 38 10 = q → v1 45 (x0 + 4) = x4 → v1 45 (x0 + 5) = x5 → v1 45 (x0 + 6) = (if kd = 4 ∨ kd = 5 then x6 else v 45 (x0 + 6)) → Q (0, 1) v1 (gHd K) t) (k0 : ∀ q v1, pMore b kd q0 = .error q → (∀ a j, ¬ ((a = 38 ∧ (j = 10 ∨ j = 11)) ∨ (a = 45 ∧ x0 + 4 ≤ j ∧ j ≤ x0 + 6)) → v1 a j = v a j) → v1 38 10 = q → Q (0, 0) v1 (gHd K) t) : Ctr Γ mX2_readsMore [(2, 38), (0, r), (0, kd), (0, x0)] v (gHd K) t Q := by
  refine Ctr.ofG (ls := [(2, 38), (0, r), (0, kd), (0, x0), (9, 0), (9, 0)]) rfl rfl rfl rfl rfl ?_
  refine Gx_iload_n (i := 2) dX2_readsMore_0 rfl rfl ?_
  refine Gx_iconst ⟨by decide, by decide⟩ dX2_readsMore_1 ?_
  refine Gx_icmp_ne (tgt := 9) dX2_readsMore_2 (by decide) (fun c2 => ?_) (fun c2 => ?_)
  · refine Gx_iconst ⟨by decide, by decide⟩ dX2_readsMore_9 ?_
    refine Gx_istore_4 dX2_readsMore_10 (Nat.le_of_ble_eq_true rfl) (Nat.ne_of_beq_eq_false rfl) ?_
    refine Gx_aload_n (i := 0) dX2_readsMore_12 rfl rfl ?_
    refine Gx_iload_n (i := 1) dX2_readsMore_13 rfl rfl ?_
    refine Gx_iload dX2_readsMore_14 rfl ?_
    refine Gx_if_eq (tgt := 24) dX2_readsMore_16 (by decide) (fun _ => ?_) (fun hz => absurd hz (by decide))
    refine Gx_bipush dX2_readsMore_24 ⟨by decide, by decide⟩ ?_
    refine cl_X2_154 dX2_readsMore_26 rfl rfl ⟨(Nat.le_of_ble_eq_true rfl), (Nat.le_of_ble_eq_true rfl)⟩ rfl ?_
    refine ct_X2_signP (q0 := q0) hr hs hb hq (by omega) (fun v26 c26 hF26 hq26 hb26 hs26 => ?_) (fun v26 c26 hF26 hq26 hb26 hs26 => ?_)
    · refine Gx_if_eq (tgt := 62) dX2_readsMore_29 (by decide) (fun hz => absurd hz (by decide)) (fun _ => ?_)
      refine Gx_aload_n (i := 0) dX2_readsMore_32 rfl rfl ?_
      refine Gx_iload_n (i := 1) dX2_readsMore_33 rfl rfl ?_
      refine Gx_iload dX2_readsMore_34 rfl ?_
      refine Gx_if_eq (tgt := 43) dX2_readsMore_36 (by decide) (fun _ => ?_) (fun hz => absurd hz (by decide))
      refine Gx_iconst ⟨by decide, by decide⟩ dX2_readsMore_43 ?_
      refine Gx_iconst ⟨by decide, by decide⟩ dX2_readsMore_44 ?_
      refine Gx_iload dX2_readsMore_45 rfl ?_
      refine Gx_if_eq (tgt := 54) dX2_readsMore_47 (by decide) (fun _ => ?_) (fun hz => absurd hz (by decide))
      refine Gx_bipush dX2_readsMore_54 ⟨by decide, by decide⟩ ?_
      refine cl_X2_147 dX2_readsMore_56 rfl rfl ⟨(Nat.le_of_ble_eq_true rfl), (Nat.le_of_ble_eq_true rfl)⟩ rfl ?_
      first | refine ct_X2_readsP (q0 := (q0 + 1)) (f := 1) hr hs26 hb26 hq26 (by omega) rfl (by omega) (fun q56 x56 v56 c56 b56 hF56 hq56 hx56 hb56 hs56 => ?_) (fun q56 x56 v56 hz56 c56 b56 hF56 hq56 hx56 hb56 hs56 => ?_) | refine ct_X2_readsP (q0 := (q0 + 1)) (f := 2) hr hs26 hb26 hq26 (by omega) rfl (by omega) (fun q56 x56 v56 c56 b56 hF56 hq56 hx56 hb56 hs56 => ?_) (fun q56 x56 v56 hz56 c56 b56 hF56 hq56 hx56 hb56 hs56 => ?_)
      · refine Gx_if_ne (tgt := 64) dX2_readsMore_59 (by decide) (fun _ => ?_) (fun hz => absurd hz (by decide))
        refine Gx_aload_n (i := 0) dX2_readsMore_64 rfl rfl ?_
        refine gf_X2_29_22 dX2_readsMore_65 rfl rfl ?_
        refine Gx_iload_n (i := 3) dX2_readsMore_68 rfl rfl ?_
        refine Gx_iconst ⟨by decide, by decide⟩ dX2_readsMore_69 ?_
        refine Gx_iadd dX2_readsMore_70 ?_
        try simp (disch := omega) only [w32_id]
        refine Gx_aload_n (i := 0) dX2_readsMore_71 rfl rfl ?_
        refine gf_X2_138_22 dX2_readsMore_72 rfl rfl ?_
        refine Gx_iastore dX2_readsMore_75 rfl (by first | omega | (simp (disch := omega) only [w32_id]; omega)) ?_
        refine Gx_aload_n (i := 0) dX2_readsMore_76 rfl rfl ?_
        refine Gx_iload_n (i := 1) dX2_readsMore_77 rfl rfl ?_
        refine Gx_bipush dX2_readsMore_78 ⟨by decide, by decide⟩ ?_
        refine cl_X2_154 dX2_readsMore_80 rfl rfl ⟨(Nat.le_of_ble_eq_true rfl), (Nat.le_of_ble_eq_true rfl)⟩ rfl ?_
        refine ct_X2_signP (q0 := q56) hr hs56 hb56 hq56 (by omega) (fun v80 c80 hF80 hq80 hb80 hs80 => ?_) (fun v80 c80 hF80 hq80 hb80 hs80 => ?_)
        · refine Gx_if_eq (tgt := 121) dX2_readsMore_83 (by decide) (fun hz => absurd hz (by decide)) (fun _ => ?_)
          refine Gx_aload_n (i := 0) dX2_readsMore_86 rfl rfl ?_
          refine Gx_iload_n (i := 1) dX2_readsMore_87 rfl rfl ?_
          refine Gx_iconst ⟨by decide, by decide⟩ dX2_readsMore_88 ?_
          refine Gx_iconst ⟨by decide, by decide⟩ dX2_readsMore_89 ?_
          refine Gx_iload dX2_readsMore_90 rfl ?_
          refine Gx_if_eq (tgt := 100) dX2_readsMore_92 (by decide) (fun _ => ?_) (fun hz => absurd hz (by decide))
          refine Gx_bipush dX2_readsMore_100 ⟨by decide, by decide⟩ ?_
          refine Gx_aload_n (i := 0) dX2_readsMore_102 rfl rfl ?_
          refine gf_X2_29_22 dX2_readsMore_103 rfl rfl ?_
          refine Gx_iload_n (i := 3) dX2_readsMore_106 rfl rfl ?_
          refine Gx_iconst ⟨by decide, by decide⟩ dX2_readsMore_107 ?_
          refine Gx_iadd dX2_readsMore_108 ?_
          try simp (disch := omega) only [w32_id]
          refine Gx_iaload dX2_readsMore_109 rfl (by first | omega | (simp (disch := omega) only [w32_id]; omega)) ?_
          simp (disch := omega) only [gUp_ne2, gUp_eq2, hF26, hq26, hF56, hq56, hx56, hF80, hq80]
          refine Gx_iconst ⟨by decide, by decide⟩ dX2_readsMore_110 ?_
          refine Gx_iadd dX2_readsMore_111 ?_
          try simp (disch := omega) only [w32_id]
          refine cl_X2_158 dX2_readsMore_112 rfl ⟨(Nat.le_of_ble_eq_true rfl), (Nat.le_of_ble_eq_true rfl)⟩ rfl ?_
          refine ct_X2_lesser ?_
          refine cl_X2_147 dX2_readsMore_115 rfl rfl ⟨(Nat.le_of_ble_eq_true rfl), (Nat.le_of_ble_eq_true rfl)⟩ rfl ?_
          refine ct_X2_readsP (q0 := (q56 + 1)) (f := 2) hr hs80 hb80 hq80 (by omega) rfl (by omega) (fun q115 x115 v115 c115 b115 hF115 hq115 hx115 hb115 hs115 => ?_) (fun q115 x115 v115 hz115 c115 b115 hF115 hq115 hx115 hb115 hs115 => ?_)
          · refine Gx_if_ne (tgt := 123) dX2_readsMore_118 (by decide) (fun _ => ?_) (fun hz => absurd hz (by decide))
            refine Gx_aload_n (i := 0) dX2_readsMore_123 rfl rfl ?_
            refine gf_X2_29_22 dX2_readsMore_124 rfl rfl ?_
            refine Gx_iload_n (i := 3) dX2_readsMore_127 rfl rfl ?_
            refine Gx_iconst ⟨by decide, by decide⟩ dX2_readsMore_128 ?_
            refine Gx_iadd dX2_readsMore_129 ?_
            try simp (disch := omega) only [w32_id]
            refine Gx_aload_n (i := 0) dX2_readsMore_130 rfl rfl ?_
            refine gf_X2_138_22 dX2_readsMore_131 rfl rfl ?_
            refine Gx_iastore dX2_readsMore_134 rfl (by first | omega | (simp (disch := omega) only [w32_id]; omega)) ?_
            refine Gx_iload_n (i := 2) dX2_readsMore_135 rfl rfl ?_
            refine Gx_iconst ⟨by decide, by decide⟩ dX2_readsMore_136 ?_
            refine Gx_icmp_eq (tgt := 149) dX2_readsMore_137 (by decide) (fun c137 => ?_) (fun c137 => ?_)
            · refine Gx_iconst ⟨by decide, by decide⟩ dX2_readsMore_149 ?_
              refine Gx_istore_5 dX2_readsMore_150 (Nat.le_of_ble_eq_true rfl) (Nat.ne_of_beq_eq_false rfl) ?_
              refine Gx_iload dX2_readsMore_152 rfl ?_
              refine Gx_if_ne (tgt := 234) dX2_readsMore_154 (by decide) (fun hz => absurd hz (by decide)) (fun _ => ?_)
              refine Gx_iload_n (i := 2) dX2_readsMore_157 rfl rfl ?_
              refine Gx_iconst ⟨by decide, by decide⟩ dX2_readsMore_158 ?_
              refine Gx_icmp_ne (tgt := 192) dX2_readsMore_159 (by decide) (fun c159 => ?_) (fun c159 => ?_)
              · refine Gx_aload_n (i := 0) dX2_readsMore_192 rfl rfl ?_
                refine Gx_iload_n (i := 1) dX2_readsMore_193 rfl rfl ?_
                refine Gx_bipush dX2_readsMore_194 ⟨by decide, by decide⟩ ?_
                refine cl_X2_154 dX2_readsMore_196 rfl rfl ⟨(Nat.le_of_ble_eq_true rfl), (Nat.le_of_ble_eq_true rfl)⟩ rfl ?_
                refine ct_X2_signP (q0 := q115) hr hs115 hb115 hq115 (by omega) (fun v196 c196 hF196 hq196 hb196 hs196 => ?_) (fun v196 c196 hF196 hq196 hb196 hs196 => ?_)
                · refine Gx_if_eq (tgt := 218) dX2_readsMore_199 (by decide) (fun hz => absurd hz (by decide)) (fun _ => ?_)
                  refine Gx_aload_n (i := 0) dX2_readsMore_202 rfl rfl ?_
                  refine Gx_iload_n (i := 1) dX2_readsMore_203 rfl rfl ?_
                  refine Gx_iconst ⟨by decide, by decide⟩ dX2_readsMore_204 ?_
                  refine Gx_iconst ⟨by decide, by decide⟩ dX2_readsMore_205 ?_
                  refine Gx_bipush dX2_readsMore_206 ⟨by decide, by decide⟩ ?_
                  refine cl_X2_147 dX2_readsMore_208 rfl rfl ⟨(Nat.le_of_ble_eq_true rfl), (Nat.le_of_ble_eq_true rfl)⟩ rfl ?_
                  refine ct_X2_readsP (q0 := (q115 + 1)) (f := 1) hr hs196 hb196 hq196 (by omega) rfl (by omega) (fun q208 x208 v208 c208 b208 hF208 hq208 hx208 hb208 hs208 => ?_) (fun q208 x208 v208 hz208 c208 b208 hF208 hq208 hx208 hb208 hs208 => ?_)
                  · refine Gx_if_eq (tgt := 218) dX2_readsMore_211 (by decide) (fun hz => absurd hz (by decide)) (fun _ => ?_)
                    refine Gx_iconst ⟨by decide, by decide⟩ dX2_readsMore_214 ?_
                    refine Gx_goto (tgt := 219) dX2_readsMore_215 (by decide) ?_
                    refine Gx_istore_5 dX2_readsMore_219 (Nat.le_of_ble_eq_true rfl) (Nat.ne_of_beq_eq_false rfl) ?_
                    refine Gx_aload_n (i := 0) dX2_readsMore_221 rfl rfl ?_
                    refine gf_X2_29_22 dX2_readsMore_222 rfl rfl ?_
                    refine Gx_iload_n (i := 3) dX2_readsMore_225 rfl rfl ?_
                    refine Gx_bipush dX2_readsMore_226 ⟨by decide, by decide⟩ ?_
                    refine Gx_iadd dX2_readsMore_228 ?_
                    try simp (disch := omega) only [w32_id]
                    refine Gx_aload_n (i := 0) dX2_readsMore_229 rfl rfl ?_
                    refine gf_X2_138_22 dX2_readsMore_230 rfl rfl ?_
                    refine Gx_iastore dX2_readsMore_233 rfl (by first | omega | (simp (disch := omega) only [w32_id]; omega)) ?_
                    refine Gx_iload dX2_readsMore_234 rfl ?_
                    refine Gx_ireturn dX2_readsMore_236 (Or.inr rfl) ?_
                    first
                      | (exfalso; omega)
                      | (refine k0 q115 _ ?_ ?_ ?_
                         · simp [pMore, Bind.bind, Except.bind, Pure.pure, Except.pure, *]; done
                         · intro a j hn; simp (disch := omega) only [gUp_ne2, gUp_eq2, hF26, hq26, hF56, hq56, hx56, hF80, hq80, hF115, hq115, hx115, hF196, hq196, hF208, hq208, hx208]; done
                         · simp (disch := omega) only [gUp_ne2, gUp_eq2, hF26, hq26, hF56, hq56, hx56, hF80, hq80, hF115, hq115, hx115, hF196, hq196, hF208, hq208, hx208]; done)
                      | (refine k0 q178 _ ?_ ?_ ?_
                         · simp [pMore, Bind.bind, Except.bind, Pure.pure, Except.pure, *]; done
                         · intro a j hn; simp (disch := omega) only [gUp_ne2, gUp_eq2, hF26, hq26, hF56, hq56, hx56, hF80, hq80, hF115, hq115, hx115, hF196, hq196, hF208, hq208, hx208]; done
                         · simp (disch := omega) only [gUp_ne2, gUp_eq2, hF26, hq26, hF56, hq56, hx56, hF80, hq80, hF115, hq115, hx115, hF196, hq196, hF208, hq208, hx208]; done)
                      | (refine k0 q208 _ ?_ ?_ ?_
                         · simp [pMore, Bind.bind, Except.bind, Pure.pure, Except.pure, *]; done
                         · intro a j hn; simp (disch := omega) only [gUp_ne2, gUp_eq2, hF26, hq26, hF56, hq56, hx56, hF80, hq80, hF115, hq115, hx115, hF196, hq196, hF208, hq208, hx208]; done
                         · simp (disch := omega) only [gUp_ne2, gUp_eq2, hF26, hq26, hF56, hq56, hx56, hF80, hq80, hF115, hq115, hx115, hF196, hq196, hF208, hq208, hx208]; done)
                      | (refine k1 q115 x56 x115 0 _ ?_ ?_ ?_ ?_ ?_ ?_
                         · simp [pMore, Bind.bind, Except.bind, Pure.pure, Except.pure, *]; done
                         · intro a j hn; simp (disch := omega) only [gUp_ne2, gUp_eq2, hF26, hq26, hF56, hq56, hx56, hF80, hq80, hF115, hq115, hx115, hF196, hq196, hF208, hq208, hx208]; done
                         · simp (disch := omega) only [gUp_ne2, gUp_eq2, hF26, hq26, hF56, hq56, hx56, hF80, hq80, hF115, hq115, hx115, hF196, hq196, hF208, hq208, hx208]; done
                         · simp (disch := omega) only [gUp_ne2, gUp_eq2, hF26, hq26, hF56, hq56, hx56, hF80, hq80, hF115, hq115, hx115, hF196, hq196, hF208, hq208, hx208]; done
                         · simp (disch := omega) only [gUp_ne2, gUp_eq2, hF26, hq26, hF56, hq56, hx56, hF80, hq80, hF115, hq115, hx115, hF196, hq196, hF208, hq208, hx208]; done
                         · rw [if_neg (by omega)]; simp (disch := omega) only [gUp_ne2, gUp_eq2, hF26, hq26, hF56, hq56, hx56, hF80, hq80, hF115, hq115, hx115, hF196, hq196, hF208, hq208, hx208]; done)
                      | (refine k1 q178 x56 x115 x178 _ ?_ ?_ ?_ ?_ ?_ ?_
                         · simp [pMore, Bind.bind, Except.bind, Pure.pure, Except.pure, *]; done
                         · intro a j hn; simp (disch := omega) only [gUp_ne2, gUp_eq2, hF26, hq26, hF56, hq56, hx56, hF80, hq80, hF115, hq115, hx115, hF196, hq196, hF208, hq208, hx208]; done
                         · simp (disch := omega) only [gUp_ne2, gUp_eq2, hF26, hq26, hF56, hq56, hx56, hF80, hq80, hF115, hq115, hx115, hF196, hq196, hF208, hq208, hx208]; done
                         · simp (disch := omega) only [gUp_ne2, gUp_eq2, hF26, hq26, hF56, hq56, hx56, hF80, hq80, hF115, hq115, hx115, hF196, hq196, hF208, hq208, hx208]; done
                         · simp (disch := omega) only [gUp_ne2, gUp_eq2, hF26, hq26, hF56, hq56, hx56, hF80, hq80, hF115, hq115, hx115, hF196, hq196, hF208, hq208, hx208]; done
                         · rw [if_pos (by omega)]; simp (disch := omega) only [gUp_ne2, gUp_eq2, hF26, hq26, hF56, hq56, hx56, hF80, hq80, hF115, hq115, hx115, hF196, hq196, hF208, hq208, hx208]; done)
                      | (refine k1 q208 x56 x115 x208 _ ?_ ?_ ?_ ?_ ?_ ?_
                         · simp [pMore, Bind.bind, Except.bind, Pure.pure, Except.pure, *]; done
                         · intro a j hn; simp (disch := omega) only [gUp_ne2, gUp_eq2, hF26, hq26, hF56, hq56, hx56, hF80, hq80, hF115, hq115, hx115, hF196, hq196, hF208, hq208, hx208]; done
                         · simp (disch := omega) only [gUp_ne2, gUp_eq2, hF26, hq26, hF56, hq56, hx56, hF80, hq80, hF115, hq115, hx115, hF196, hq196, hF208, hq208, hx208]; done
                         · simp (disch := omega) only [gUp_ne2, gUp_eq2, hF26, hq26, hF56, hq56, hx56, hF80, hq80, hF115, hq115, hx115, hF196, hq196, hF208, hq208, hx208]; done
                         · simp (disch := omega) only [gUp_ne2, gUp_eq2, hF26, hq26, hF56, hq56, hx56, hF80, hq80, hF115, hq115, hx115, hF196, hq196, hF208, hq208, hx208]; done
                         · rw [if_pos (by omega)]; simp (disch := omega) only [gUp_ne2, gUp_eq2, hF26, hq26, hF56, hq56, hx56, hF80, hq80, hF115, hq115, hx115, hF196, hq196, hF208, hq208, hx208]; done)
                  · refine Gx_if_eq (tgt := 218) dX2_readsMore_211 (by decide) (fun _ => ?_) (fun hz => absurd hz (by decide))
                    refine Gx_iconst ⟨by decide, by decide⟩ dX2_readsMore_218 ?_
                    refine Gx_istore_5 dX2_readsMore_219 (Nat.le_of_ble_eq_true rfl) (Nat.ne_of_beq_eq_false rfl) ?_
                    refine Gx_aload_n (i := 0) dX2_readsMore_221 rfl rfl ?_
                    refine gf_X2_29_22 dX2_readsMore_222 rfl rfl ?_
                    refine Gx_iload_n (i := 3) dX2_readsMore_225 rfl rfl ?_
                    refine Gx_bipush dX2_readsMore_226 ⟨by decide, by decide⟩ ?_
                    refine Gx_iadd dX2_readsMore_228 ?_
                    try simp (disch := omega) only [w32_id]
                    refine Gx_aload_n (i := 0) dX2_readsMore_229 rfl rfl ?_
                    refine gf_X2_138_22 dX2_readsMore_230 rfl rfl ?_
                    refine Gx_iastore dX2_readsMore_233 rfl (by first | omega | (simp (disch := omega) only [w32_id]; omega)) ?_
                    refine Gx_iload dX2_readsMore_234 rfl ?_
                    refine Gx_ireturn dX2_readsMore_236 (Or.inl rfl) ?_
                    first
                      | (exfalso; omega)
                      | (refine k0 q115 _ ?_ ?_ ?_
                         · simp [pMore, Bind.bind, Except.bind, Pure.pure, Except.pure, *]; done
                         · intro a j hn; simp (disch := omega) only [gUp_ne2, gUp_eq2, hF26, hq26, hF56, hq56, hx56, hF80, hq80, hF115, hq115, hx115, hF196, hq196, hF208, hq208, hx208]; done
                         · simp (disch := omega) only [gUp_ne2, gUp_eq2, hF26, hq26, hF56, hq56, hx56, hF80, hq80, hF115, hq115, hx115, hF196, hq196, hF208, hq208, hx208]; done)
                      | (refine k0 q178 _ ?_ ?_ ?_
                         · simp [pMore, Bind.bind, Except.bind, Pure.pure, Except.pure, *]; done
                         · intro a j hn; simp (disch := omega) only [gUp_ne2, gUp_eq2, hF26, hq26, hF56, hq56, hx56, hF80, hq80, hF115, hq115, hx115, hF196, hq196, hF208, hq208, hx208]; done
                         · simp (disch := omega) only [gUp_ne2, gUp_eq2, hF26, hq26, hF56, hq56, hx56, hF80, hq80, hF115, hq115, hx115, hF196, hq196, hF208, hq208, hx208]; done)
                      | (refine k0 q208 _ ?_ ?_ ?_
                         · simp [pMore, Bind.bind, Except.bind, Pure.pure, Except.pure, *]; done
                         · intro a j hn; simp (disch := omega) only [gUp_ne2, gUp_eq2, hF26, hq26, hF56, hq56, hx56, hF80, hq80, hF115, hq115, hx115, hF196, hq196, hF208, hq208, hx208]; done
                         · simp (disch := omega) only [gUp_ne2, gUp_eq2, hF26, hq26, hF56, hq56, hx56, hF80, hq80, hF115, hq115, hx115, hF196, hq196, hF208, hq208, hx208]; done)
                      | (refine k1 q115 x56 x115 0 _ ?_ ?_ ?_ ?_ ?_ ?_
                         · simp [pMore, Bind.bind, Except.bind, Pure.pure, Except.pure, *]; done
                         · intro a j hn; simp (disch := omega) only [gUp_ne2, gUp_eq2, hF26, hq26, hF56, hq56, hx56, hF80, hq80, hF115, hq115, hx115, hF196, hq196, hF208, hq208, hx208]; done
                         · simp (disch := omega) only [gUp_ne2, gUp_eq2, hF26, hq26, hF56, hq56, hx56, hF80, hq80, hF115, hq115, hx115, hF196, hq196, hF208, hq208, hx208]; done
                         · simp (disch := omega) only [gUp_ne2, gUp_eq2, hF26, hq26, hF56, hq56, hx56, hF80, hq80, hF115, hq115, hx115, hF196, hq196, hF208, hq208, hx208]; done
                         · simp (disch := omega) only [gUp_ne2, gUp_eq2, hF26, hq26, hF56, hq56, hx56, hF80, hq80, hF115, hq115, hx115, hF196, hq196, hF208, hq208, hx208]; done
                         · rw [if_neg (by omega)]; simp (disch := omega) only [gUp_ne2, gUp_eq2, hF26, hq26, hF56, hq56, hx56, hF80, hq80, hF115, hq115, hx115, hF196, hq196, hF208, hq208, hx208]; done)
                      | (refine k1 q178 x56 x115 x178 _ ?_ ?_ ?_ ?_ ?_ ?_
                         · simp [pMore, Bind.bind, Except.bind, Pure.pure, Except.pure, *]; done
                         · intro a j hn; simp (disch := omega) only [gUp_ne2, gUp_eq2, hF26, hq26, hF56, hq56, hx56, hF80, hq80, hF115, hq115, hx115, hF196, hq196, hF208, hq208, hx208]; done
                         · simp (disch := omega) only [gUp_ne2, gUp_eq2, hF26, hq26, hF56, hq56, hx56, hF80, hq80, hF115, hq115, hx115, hF196, hq196, hF208, hq208, hx208]; done
                         · simp (disch := omega) only [gUp_ne2, gUp_eq2, hF26, hq26, hF56, hq56, hx56, hF80, hq80, hF115, hq115, hx115, hF196, hq196, hF208, hq208, hx208]; done
                         · simp (disch := omega) only [gUp_ne2, gUp_eq2, hF26, hq26, hF56, hq56, hx56, hF80, hq80, hF115, hq115, hx115, hF196, hq196, hF208, hq208, hx208]; done
                         · rw [if_pos (by omega)]; simp (disch := omega) only [gUp_ne2, gUp_eq2, hF26, hq26, hF56, hq56, hx56, hF80, hq80, hF115, hq115, hx115, hF196, hq196, hF208, hq208, hx208]; done)
                      | (refine k1 q208 x56 x115 x208 _ ?_ ?_ ?_ ?_ ?_ ?_
                         · simp [pMore, Bind.bind, Except.bind, Pure.pure, Except.pure, *]; done
                         · intro a j hn; simp (disch := omega) only [gUp_ne2, gUp_eq2, hF26, hq26, hF56, hq56, hx56, hF80, hq80, hF115, hq115, hx115, hF196, hq196, hF208, hq208, hx208]; done
                         · simp (disch := omega) only [gUp_ne2, gUp_eq2, hF26, hq26, hF56, hq56, hx56, hF80, hq80, hF115, hq115, hx115, hF196, hq196, hF208, hq208, hx208]; done
                         · simp (disch := omega) only [gUp_ne2, gUp_eq2, hF26, hq26, hF56, hq56, hx56, hF80, hq80, hF115, hq115, hx115, hF196, hq196, hF208, hq208, hx208]; done
                         · simp (disch := omega) only [gUp_ne2, gUp_eq2, hF26, hq26, hF56, hq56, hx56, hF80, hq80, hF115, hq115, hx115, hF196, hq196, hF208, hq208, hx208]; done
                         · rw [if_pos (by omega)]; simp (disch := omega) only [gUp_ne2, gUp_eq2, hF26, hq26, hF56, hq56, hx56, hF80, hq80, hF115, hq115, hx115, hF196, hq196, hF208, hq208, hx208]; done)
                · refine Gx_if_eq (tgt := 218) dX2_readsMore_199 (by decide) (fun _ => ?_) (fun hz => absurd hz (by decide))
                  refine Gx_iconst ⟨by decide, by decide⟩ dX2_readsMore_218 ?_
                  refine Gx_istore_5 dX2_readsMore_219 (Nat.le_of_ble_eq_true rfl) (Nat.ne_of_beq_eq_false rfl) ?_
                  refine Gx_aload_n (i := 0) dX2_readsMore_221 rfl rfl ?_
                  refine gf_X2_29_22 dX2_readsMore_222 rfl rfl ?_
                  refine Gx_iload_n (i := 3) dX2_readsMore_225 rfl rfl ?_
                  refine Gx_bipush dX2_readsMore_226 ⟨by decide, by decide⟩ ?_
                  refine Gx_iadd dX2_readsMore_228 ?_
                  try simp (disch := omega) only [w32_id]
                  refine Gx_aload_n (i := 0) dX2_readsMore_229 rfl rfl ?_
                  refine gf_X2_138_22 dX2_readsMore_230 rfl rfl ?_
                  refine Gx_iastore dX2_readsMore_233 rfl (by first | omega | (simp (disch := omega) only [w32_id]; omega)) ?_
                  refine Gx_iload dX2_readsMore_234 rfl ?_
                  refine Gx_ireturn dX2_readsMore_236 (Or.inl rfl) ?_
                  first
                    | (exfalso; omega)
                    | (refine k0 q115 _ ?_ ?_ ?_
                       · simp [pMore, Bind.bind, Except.bind, Pure.pure, Except.pure, *]; done
                       · intro a j hn; simp (disch := omega) only [gUp_ne2, gUp_eq2, hF26, hq26, hF56, hq56, hx56, hF80, hq80, hF115, hq115, hx115, hF196, hq196]; done
                       · simp (disch := omega) only [gUp_ne2, gUp_eq2, hF26, hq26, hF56, hq56, hx56, hF80, hq80, hF115, hq115, hx115, hF196, hq196]; done)
                    | (refine k0 q178 _ ?_ ?_ ?_
                       · simp [pMore, Bind.bind, Except.bind, Pure.pure, Except.pure, *]; done
                       · intro a j hn; simp (disch := omega) only [gUp_ne2, gUp_eq2, hF26, hq26, hF56, hq56, hx56, hF80, hq80, hF115, hq115, hx115, hF196, hq196]; done
                       · simp (disch := omega) only [gUp_ne2, gUp_eq2, hF26, hq26, hF56, hq56, hx56, hF80, hq80, hF115, hq115, hx115, hF196, hq196]; done)
                    | (refine k0 q208 _ ?_ ?_ ?_
                       · simp [pMore, Bind.bind, Except.bind, Pure.pure, Except.pure, *]; done
                       · intro a j hn; simp (disch := omega) only [gUp_ne2, gUp_eq2, hF26, hq26, hF56, hq56, hx56, hF80, hq80, hF115, hq115, hx115, hF196, hq196]; done
                       · simp (disch := omega) only [gUp_ne2, gUp_eq2, hF26, hq26, hF56, hq56, hx56, hF80, hq80, hF115, hq115, hx115, hF196, hq196]; done)
                    | (refine k1 q115 x56 x115 0 _ ?_ ?_ ?_ ?_ ?_ ?_
                       · simp [pMore, Bind.bind, Except.bind, Pure.pure, Except.pure, *]; done
                       · intro a j hn; simp (disch := omega) only [gUp_ne2, gUp_eq2, hF26, hq26, hF56, hq56, hx56, hF80, hq80, hF115, hq115, hx115, hF196, hq196]; done
                       · simp (disch := omega) only [gUp_ne2, gUp_eq2, hF26, hq26, hF56, hq56, hx56, hF80, hq80, hF115, hq115, hx115, hF196, hq196]; done
                       · simp (disch := omega) only [gUp_ne2, gUp_eq2, hF26, hq26, hF56, hq56, hx56, hF80, hq80, hF115, hq115, hx115, hF196, hq196]; done
                       · simp (disch := omega) only [gUp_ne2, gUp_eq2, hF26, hq26, hF56, hq56, hx56, hF80, hq80, hF115, hq115, hx115, hF196, hq196]; done
                       · rw [if_neg (by omega)]; simp (disch := omega) only [gUp_ne2, gUp_eq2, hF26, hq26, hF56, hq56, hx56, hF80, hq80, hF115, hq115, hx115, hF196, hq196]; done)
                    | (refine k1 q178 x56 x115 x178 _ ?_ ?_ ?_ ?_ ?_ ?_
                       · simp [pMore, Bind.bind, Except.bind, Pure.pure, Except.pure, *]; done
                       · intro a j hn; simp (disch := omega) only [gUp_ne2, gUp_eq2, hF26, hq26, hF56, hq56, hx56, hF80, hq80, hF115, hq115, hx115, hF196, hq196]; done
                       · simp (disch := omega) only [gUp_ne2, gUp_eq2, hF26, hq26, hF56, hq56, hx56, hF80, hq80, hF115, hq115, hx115, hF196, hq196]; done
                       · simp (disch := omega) only [gUp_ne2, gUp_eq2, hF26, hq26, hF56, hq56, hx56, hF80, hq80, hF115, hq115, hx115, hF196, hq196]; done
                       · simp (disch := omega) only [gUp_ne2, gUp_eq2, hF26, hq26, hF56, hq56, hx56, hF80, hq80, hF115, hq115, hx115, hF196, hq196]; done
                       · rw [if_pos (by omega)]; simp (disch := omega) only [gUp_ne2, gUp_eq2, hF26, hq26, hF56, hq56, hx56, hF80, hq80, hF115, hq115, hx115, hF196, hq196]; done)
                    | (refine k1 q208 x56 x115 x208 _ ?_ ?_ ?_ ?_ ?_ ?_
                       · simp [pMore, Bind.bind, Except.bind, Pure.pure, Except.pure, *]; done
                       · intro a j hn; simp (disch := omega) only [gUp_ne2, gUp_eq2, hF26, hq26, hF56, hq56, hx56, hF80, hq80, hF115, hq115, hx115, hF196, hq196]; done
                       · simp (disch := omega) only [gUp_ne2, gUp_eq2, hF26, hq26, hF56, hq56, hx56, hF80, hq80, hF115, hq115, hx115, hF196, hq196]; done
                       · simp (disch := omega) only [gUp_ne2, gUp_eq2, hF26, hq26, hF56, hq56, hx56, hF80, hq80, hF115, hq115, hx115, hF196, hq196]; done
                       · simp (disch := omega) only [gUp_ne2, gUp_eq2, hF26, hq26, hF56, hq56, hx56, hF80, hq80, hF115, hq115, hx115, hF196, hq196]; done
                       · rw [if_pos (by omega)]; simp (disch := omega) only [gUp_ne2, gUp_eq2, hF26, hq26, hF56, hq56, hx56, hF80, hq80, hF115, hq115, hx115, hF196, hq196]; done)
              · refine Gx_aload_n (i := 0) dX2_readsMore_162 rfl rfl ?_
                refine Gx_iload_n (i := 1) dX2_readsMore_163 rfl rfl ?_
                refine Gx_bipush dX2_readsMore_164 ⟨by decide, by decide⟩ ?_
                refine cl_X2_154 dX2_readsMore_166 rfl rfl ⟨(Nat.le_of_ble_eq_true rfl), (Nat.le_of_ble_eq_true rfl)⟩ rfl ?_
                refine ct_X2_signP (q0 := q115) hr hs115 hb115 hq115 (by omega) (fun v166 c166 hF166 hq166 hb166 hs166 => ?_) (fun v166 c166 hF166 hq166 hb166 hs166 => ?_)
                · refine Gx_if_eq (tgt := 188) dX2_readsMore_169 (by decide) (fun hz => absurd hz (by decide)) (fun _ => ?_)
                  refine Gx_aload_n (i := 0) dX2_readsMore_172 rfl rfl ?_
                  refine Gx_iload_n (i := 1) dX2_readsMore_173 rfl rfl ?_
                  refine Gx_iconst ⟨by decide, by decide⟩ dX2_readsMore_174 ?_
                  refine Gx_iconst ⟨by decide, by decide⟩ dX2_readsMore_175 ?_
                  refine Gx_bipush dX2_readsMore_176 ⟨by decide, by decide⟩ ?_
                  refine cl_X2_147 dX2_readsMore_178 rfl rfl ⟨(Nat.le_of_ble_eq_true rfl), (Nat.le_of_ble_eq_true rfl)⟩ rfl ?_
                  refine ct_X2_readsP (q0 := (q115 + 1)) (f := 2) hr hs166 hb166 hq166 (by omega) rfl (by omega) (fun q178 x178 v178 c178 b178 hF178 hq178 hx178 hb178 hs178 => ?_) (fun q178 x178 v178 hz178 c178 b178 hF178 hq178 hx178 hb178 hs178 => ?_)
                  · refine Gx_if_eq (tgt := 188) dX2_readsMore_181 (by decide) (fun hz => absurd hz (by decide)) (fun _ => ?_)
                    refine Gx_iconst ⟨by decide, by decide⟩ dX2_readsMore_184 ?_
                    refine Gx_goto (tgt := 219) dX2_readsMore_185 (by decide) ?_
                    refine Gx_istore_5 dX2_readsMore_219 (Nat.le_of_ble_eq_true rfl) (Nat.ne_of_beq_eq_false rfl) ?_
                    refine Gx_aload_n (i := 0) dX2_readsMore_221 rfl rfl ?_
                    refine gf_X2_29_22 dX2_readsMore_222 rfl rfl ?_
                    refine Gx_iload_n (i := 3) dX2_readsMore_225 rfl rfl ?_
                    refine Gx_bipush dX2_readsMore_226 ⟨by decide, by decide⟩ ?_
                    refine Gx_iadd dX2_readsMore_228 ?_
                    try simp (disch := omega) only [w32_id]
                    refine Gx_aload_n (i := 0) dX2_readsMore_229 rfl rfl ?_
                    refine gf_X2_138_22 dX2_readsMore_230 rfl rfl ?_
                    refine Gx_iastore dX2_readsMore_233 rfl (by first | omega | (simp (disch := omega) only [w32_id]; omega)) ?_
                    refine Gx_iload dX2_readsMore_234 rfl ?_
                    refine Gx_ireturn dX2_readsMore_236 (Or.inr rfl) ?_
                    first
                      | (exfalso; omega)
                      | (refine k0 q115 _ ?_ ?_ ?_
                         · simp [pMore, Bind.bind, Except.bind, Pure.pure, Except.pure, *]; done
                         · intro a j hn; simp (disch := omega) only [gUp_ne2, gUp_eq2, hF26, hq26, hF56, hq56, hx56, hF80, hq80, hF115, hq115, hx115, hF166, hq166, hF178, hq178, hx178]; done
                         · simp (disch := omega) only [gUp_ne2, gUp_eq2, hF26, hq26, hF56, hq56, hx56, hF80, hq80, hF115, hq115, hx115, hF166, hq166, hF178, hq178, hx178]; done)
                      | (refine k0 q178 _ ?_ ?_ ?_
                         · simp [pMore, Bind.bind, Except.bind, Pure.pure, Except.pure, *]; done
                         · intro a j hn; simp (disch := omega) only [gUp_ne2, gUp_eq2, hF26, hq26, hF56, hq56, hx56, hF80, hq80, hF115, hq115, hx115, hF166, hq166, hF178, hq178, hx178]; done
                         · simp (disch := omega) only [gUp_ne2, gUp_eq2, hF26, hq26, hF56, hq56, hx56, hF80, hq80, hF115, hq115, hx115, hF166, hq166, hF178, hq178, hx178]; done)
                      | (refine k0 q208 _ ?_ ?_ ?_
                         · simp [pMore, Bind.bind, Except.bind, Pure.pure, Except.pure, *]; done
                         · intro a j hn; simp (disch := omega) only [gUp_ne2, gUp_eq2, hF26, hq26, hF56, hq56, hx56, hF80, hq80, hF115, hq115, hx115, hF166, hq166, hF178, hq178, hx178]; done
                         · simp (disch := omega) only [gUp_ne2, gUp_eq2, hF26, hq26, hF56, hq56, hx56, hF80, hq80, hF115, hq115, hx115, hF166, hq166, hF178, hq178, hx178]; done)
                      | (refine k1 q115 x56 x115 0 _ ?_ ?_ ?_ ?_ ?_ ?_
                         · simp [pMore, Bind.bind, Except.bind, Pure.pure, Except.pure, *]; done
                         · intro a j hn; simp (disch := omega) only [gUp_ne2, gUp_eq2, hF26, hq26, hF56, hq56, hx56, hF80, hq80, hF115, hq115, hx115, hF166, hq166, hF178, hq178, hx178]; done
                         · simp (disch := omega) only [gUp_ne2, gUp_eq2, hF26, hq26, hF56, hq56, hx56, hF80, hq80, hF115, hq115, hx115, hF166, hq166, hF178, hq178, hx178]; done
                         · simp (disch := omega) only [gUp_ne2, gUp_eq2, hF26, hq26, hF56, hq56, hx56, hF80, hq80, hF115, hq115, hx115, hF166, hq166, hF178, hq178, hx178]; done
                         · simp (disch := omega) only [gUp_ne2, gUp_eq2, hF26, hq26, hF56, hq56, hx56, hF80, hq80, hF115, hq115, hx115, hF166, hq166, hF178, hq178, hx178]; done
                         · rw [if_neg (by omega)]; simp (disch := omega) only [gUp_ne2, gUp_eq2, hF26, hq26, hF56, hq56, hx56, hF80, hq80, hF115, hq115, hx115, hF166, hq166, hF178, hq178, hx178]; done)
                      | (refine k1 q178 x56 x115 x178 _ ?_ ?_ ?_ ?_ ?_ ?_
                         · simp [pMore, Bind.bind, Except.bind, Pure.pure, Except.pure, *]; done
                         · intro a j hn; simp (disch := omega) only [gUp_ne2, gUp_eq2, hF26, hq26, hF56, hq56, hx56, hF80, hq80, hF115, hq115, hx115, hF166, hq166, hF178, hq178, hx178]; done
                         · simp (disch := omega) only [gUp_ne2, gUp_eq2, hF26, hq26, hF56, hq56, hx56, hF80, hq80, hF115, hq115, hx115, hF166, hq166, hF178, hq178, hx178]; done
                         · simp (disch := omega) only [gUp_ne2, gUp_eq2, hF26, hq26, hF56, hq56, hx56, hF80, hq80, hF115, hq115, hx115, hF166, hq166, hF178, hq178, hx178]; done
                         · simp (disch := omega) only [gUp_ne2, gUp_eq2, hF26, hq26, hF56, hq56, hx56, hF80, hq80, hF115, hq115, hx115, hF166, hq166, hF178, hq178, hx178]; done
                         · rw [if_pos (by omega)]; simp (disch := omega) only [gUp_ne2, gUp_eq2, hF26, hq26, hF56, hq56, hx56, hF80, hq80, hF115, hq115, hx115, hF166, hq166, hF178, hq178, hx178]; done)
                      | (refine k1 q208 x56 x115 x208 _ ?_ ?_ ?_ ?_ ?_ ?_
                         · simp [pMore, Bind.bind, Except.bind, Pure.pure, Except.pure, *]; done
                         · intro a j hn; simp (disch := omega) only [gUp_ne2, gUp_eq2, hF26, hq26, hF56, hq56, hx56, hF80, hq80, hF115, hq115, hx115, hF166, hq166, hF178, hq178, hx178]; done
                         · simp (disch := omega) only [gUp_ne2, gUp_eq2, hF26, hq26, hF56, hq56, hx56, hF80, hq80, hF115, hq115, hx115, hF166, hq166, hF178, hq178, hx178]; done
                         · simp (disch := omega) only [gUp_ne2, gUp_eq2, hF26, hq26, hF56, hq56, hx56, hF80, hq80, hF115, hq115, hx115, hF166, hq166, hF178, hq178, hx178]; done
                         · simp (disch := omega) only [gUp_ne2, gUp_eq2, hF26, hq26, hF56, hq56, hx56, hF80, hq80, hF115, hq115, hx115, hF166, hq166, hF178, hq178, hx178]; done
                         · rw [if_pos (by omega)]; simp (disch := omega) only [gUp_ne2, gUp_eq2, hF26, hq26, hF56, hq56, hx56, hF80, hq80, hF115, hq115, hx115, hF166, hq166, hF178, hq178, hx178]; done)
                  · refine Gx_if_eq (tgt := 188) dX2_readsMore_181 (by decide) (fun _ => ?_) (fun hz => absurd hz (by decide))
                    refine Gx_iconst ⟨by decide, by decide⟩ dX2_readsMore_188 ?_
                    refine Gx_goto (tgt := 219) dX2_readsMore_189 (by decide) ?_
                    refine Gx_istore_5 dX2_readsMore_219 (Nat.le_of_ble_eq_true rfl) (Nat.ne_of_beq_eq_false rfl) ?_
                    refine Gx_aload_n (i := 0) dX2_readsMore_221 rfl rfl ?_
                    refine gf_X2_29_22 dX2_readsMore_222 rfl rfl ?_
                    refine Gx_iload_n (i := 3) dX2_readsMore_225 rfl rfl ?_
                    refine Gx_bipush dX2_readsMore_226 ⟨by decide, by decide⟩ ?_
                    refine Gx_iadd dX2_readsMore_228 ?_
                    try simp (disch := omega) only [w32_id]
                    refine Gx_aload_n (i := 0) dX2_readsMore_229 rfl rfl ?_
                    refine gf_X2_138_22 dX2_readsMore_230 rfl rfl ?_
                    refine Gx_iastore dX2_readsMore_233 rfl (by first | omega | (simp (disch := omega) only [w32_id]; omega)) ?_
                    refine Gx_iload dX2_readsMore_234 rfl ?_
                    refine Gx_ireturn dX2_readsMore_236 (Or.inl rfl) ?_
                    first
                      | (exfalso; omega)
                      | (refine k0 q115 _ ?_ ?_ ?_
                         · simp [pMore, Bind.bind, Except.bind, Pure.pure, Except.pure, *]; done
                         · intro a j hn; simp (disch := omega) only [gUp_ne2, gUp_eq2, hF26, hq26, hF56, hq56, hx56, hF80, hq80, hF115, hq115, hx115, hF166, hq166, hF178, hq178, hx178]; done
                         · simp (disch := omega) only [gUp_ne2, gUp_eq2, hF26, hq26, hF56, hq56, hx56, hF80, hq80, hF115, hq115, hx115, hF166, hq166, hF178, hq178, hx178]; done)
                      | (refine k0 q178 _ ?_ ?_ ?_
                         · simp [pMore, Bind.bind, Except.bind, Pure.pure, Except.pure, *]; done
                         · intro a j hn; simp (disch := omega) only [gUp_ne2, gUp_eq2, hF26, hq26, hF56, hq56, hx56, hF80, hq80, hF115, hq115, hx115, hF166, hq166, hF178, hq178, hx178]; done
                         · simp (disch := omega) only [gUp_ne2, gUp_eq2, hF26, hq26, hF56, hq56, hx56, hF80, hq80, hF115, hq115, hx115, hF166, hq166, hF178, hq178, hx178]; done)
                      | (refine k0 q208 _ ?_ ?_ ?_
                         · simp [pMore, Bind.bind, Except.bind, Pure.pure, Except.pure, *]; done
                         · intro a j hn; simp (disch := omega) only [gUp_ne2, gUp_eq2, hF26, hq26, hF56, hq56, hx56, hF80, hq80, hF115, hq115, hx115, hF166, hq166, hF178, hq178, hx178]; done
                         · simp (disch := omega) only [gUp_ne2, gUp_eq2, hF26, hq26, hF56, hq56, hx56, hF80, hq80, hF115, hq115, hx115, hF166, hq166, hF178, hq178, hx178]; done)
                      | (refine k1 q115 x56 x115 0 _ ?_ ?_ ?_ ?_ ?_ ?_
                         · simp [pMore, Bind.bind, Except.bind, Pure.pure, Except.pure, *]; done
                         · intro a j hn; simp (disch := omega) only [gUp_ne2, gUp_eq2, hF26, hq26, hF56, hq56, hx56, hF80, hq80, hF115, hq115, hx115, hF166, hq166, hF178, hq178, hx178]; done
                         · simp (disch := omega) only [gUp_ne2, gUp_eq2, hF26, hq26, hF56, hq56, hx56, hF80, hq80, hF115, hq115, hx115, hF166, hq166, hF178, hq178, hx178]; done
                         · simp (disch := omega) only [gUp_ne2, gUp_eq2, hF26, hq26, hF56, hq56, hx56, hF80, hq80, hF115, hq115, hx115, hF166, hq166, hF178, hq178, hx178]; done
                         · simp (disch := omega) only [gUp_ne2, gUp_eq2, hF26, hq26, hF56, hq56, hx56, hF80, hq80, hF115, hq115, hx115, hF166, hq166, hF178, hq178, hx178]; done
                         · rw [if_neg (by omega)]; simp (disch := omega) only [gUp_ne2, gUp_eq2, hF26, hq26, hF56, hq56, hx56, hF80, hq80, hF115, hq115, hx115, hF166, hq166, hF178, hq178, hx178]; done)
                      | (refine k1 q178 x56 x115 x178 _ ?_ ?_ ?_ ?_ ?_ ?_
                         · simp [pMore, Bind.bind, Except.bind, Pure.pure, Except.pure, *]; done
                         · intro a j hn; simp (disch := omega) only [gUp_ne2, gUp_eq2, hF26, hq26, hF56, hq56, hx56, hF80, hq80, hF115, hq115, hx115, hF166, hq166, hF178, hq178, hx178]; done
                         · simp (disch := omega) only [gUp_ne2, gUp_eq2, hF26, hq26, hF56, hq56, hx56, hF80, hq80, hF115, hq115, hx115, hF166, hq166, hF178, hq178, hx178]; done
                         · simp (disch := omega) only [gUp_ne2, gUp_eq2, hF26, hq26, hF56, hq56, hx56, hF80, hq80, hF115, hq115, hx115, hF166, hq166, hF178, hq178, hx178]; done
                         · simp (disch := omega) only [gUp_ne2, gUp_eq2, hF26, hq26, hF56, hq56, hx56, hF80, hq80, hF115, hq115, hx115, hF166, hq166, hF178, hq178, hx178]; done
                         · rw [if_pos (by omega)]; simp (disch := omega) only [gUp_ne2, gUp_eq2, hF26, hq26, hF56, hq56, hx56, hF80, hq80, hF115, hq115, hx115, hF166, hq166, hF178, hq178, hx178]; done)
                      | (refine k1 q208 x56 x115 x208 _ ?_ ?_ ?_ ?_ ?_ ?_
                         · simp [pMore, Bind.bind, Except.bind, Pure.pure, Except.pure, *]; done
                         · intro a j hn; simp (disch := omega) only [gUp_ne2, gUp_eq2, hF26, hq26, hF56, hq56, hx56, hF80, hq80, hF115, hq115, hx115, hF166, hq166, hF178, hq178, hx178]; done
                         · simp (disch := omega) only [gUp_ne2, gUp_eq2, hF26, hq26, hF56, hq56, hx56, hF80, hq80, hF115, hq115, hx115, hF166, hq166, hF178, hq178, hx178]; done
                         · simp (disch := omega) only [gUp_ne2, gUp_eq2, hF26, hq26, hF56, hq56, hx56, hF80, hq80, hF115, hq115, hx115, hF166, hq166, hF178, hq178, hx178]; done
                         · simp (disch := omega) only [gUp_ne2, gUp_eq2, hF26, hq26, hF56, hq56, hx56, hF80, hq80, hF115, hq115, hx115, hF166, hq166, hF178, hq178, hx178]; done
                         · rw [if_pos (by omega)]; simp (disch := omega) only [gUp_ne2, gUp_eq2, hF26, hq26, hF56, hq56, hx56, hF80, hq80, hF115, hq115, hx115, hF166, hq166, hF178, hq178, hx178]; done)
                · refine Gx_if_eq (tgt := 188) dX2_readsMore_169 (by decide) (fun _ => ?_) (fun hz => absurd hz (by decide))
                  refine Gx_iconst ⟨by decide, by decide⟩ dX2_readsMore_188 ?_
                  refine Gx_goto (tgt := 219) dX2_readsMore_189 (by decide) ?_
                  refine Gx_istore_5 dX2_readsMore_219 (Nat.le_of_ble_eq_true rfl) (Nat.ne_of_beq_eq_false rfl) ?_
                  refine Gx_aload_n (i := 0) dX2_readsMore_221 rfl rfl ?_
                  refine gf_X2_29_22 dX2_readsMore_222 rfl rfl ?_
                  refine Gx_iload_n (i := 3) dX2_readsMore_225 rfl rfl ?_
                  refine Gx_bipush dX2_readsMore_226 ⟨by decide, by decide⟩ ?_
                  refine Gx_iadd dX2_readsMore_228 ?_
                  try simp (disch := omega) only [w32_id]
                  refine Gx_aload_n (i := 0) dX2_readsMore_229 rfl rfl ?_
                  refine gf_X2_138_22 dX2_readsMore_230 rfl rfl ?_
                  refine Gx_iastore dX2_readsMore_233 rfl (by first | omega | (simp (disch := omega) only [w32_id]; omega)) ?_
                  refine Gx_iload dX2_readsMore_234 rfl ?_
                  refine Gx_ireturn dX2_readsMore_236 (Or.inl rfl) ?_
                  first
                    | (exfalso; omega)
                    | (refine k0 q115 _ ?_ ?_ ?_
                       · simp [pMore, Bind.bind, Except.bind, Pure.pure, Except.pure, *]; done
                       · intro a j hn; simp (disch := omega) only [gUp_ne2, gUp_eq2, hF26, hq26, hF56, hq56, hx56, hF80, hq80, hF115, hq115, hx115, hF166, hq166]; done
                       · simp (disch := omega) only [gUp_ne2, gUp_eq2, hF26, hq26, hF56, hq56, hx56, hF80, hq80, hF115, hq115, hx115, hF166, hq166]; done)
                    | (refine k0 q178 _ ?_ ?_ ?_
                       · simp [pMore, Bind.bind, Except.bind, Pure.pure, Except.pure, *]; done
                       · intro a j hn; simp (disch := omega) only [gUp_ne2, gUp_eq2, hF26, hq26, hF56, hq56, hx56, hF80, hq80, hF115, hq115, hx115, hF166, hq166]; done
                       · simp (disch := omega) only [gUp_ne2, gUp_eq2, hF26, hq26, hF56, hq56, hx56, hF80, hq80, hF115, hq115, hx115, hF166, hq166]; done)
                    | (refine k0 q208 _ ?_ ?_ ?_
                       · simp [pMore, Bind.bind, Except.bind, Pure.pure, Except.pure, *]; done
                       · intro a j hn; simp (disch := omega) only [gUp_ne2, gUp_eq2, hF26, hq26, hF56, hq56, hx56, hF80, hq80, hF115, hq115, hx115, hF166, hq166]; done
                       · simp (disch := omega) only [gUp_ne2, gUp_eq2, hF26, hq26, hF56, hq56, hx56, hF80, hq80, hF115, hq115, hx115, hF166, hq166]; done)
                    | (refine k1 q115 x56 x115 0 _ ?_ ?_ ?_ ?_ ?_ ?_
                       · simp [pMore, Bind.bind, Except.bind, Pure.pure, Except.pure, *]; done
                       · intro a j hn; simp (disch := omega) only [gUp_ne2, gUp_eq2, hF26, hq26, hF56, hq56, hx56, hF80, hq80, hF115, hq115, hx115, hF166, hq166]; done
                       · simp (disch := omega) only [gUp_ne2, gUp_eq2, hF26, hq26, hF56, hq56, hx56, hF80, hq80, hF115, hq115, hx115, hF166, hq166]; done
                       · simp (disch := omega) only [gUp_ne2, gUp_eq2, hF26, hq26, hF56, hq56, hx56, hF80, hq80, hF115, hq115, hx115, hF166, hq166]; done
                       · simp (disch := omega) only [gUp_ne2, gUp_eq2, hF26, hq26, hF56, hq56, hx56, hF80, hq80, hF115, hq115, hx115, hF166, hq166]; done
                       · rw [if_neg (by omega)]; simp (disch := omega) only [gUp_ne2, gUp_eq2, hF26, hq26, hF56, hq56, hx56, hF80, hq80, hF115, hq115, hx115, hF166, hq166]; done)
                    | (refine k1 q178 x56 x115 x178 _ ?_ ?_ ?_ ?_ ?_ ?_
                       · simp [pMore, Bind.bind, Except.bind, Pure.pure, Except.pure, *]; done
                       · intro a j hn; simp (disch := omega) only [gUp_ne2, gUp_eq2, hF26, hq26, hF56, hq56, hx56, hF80, hq80, hF115, hq115, hx115, hF166, hq166]; done
                       · simp (disch := omega) only [gUp_ne2, gUp_eq2, hF26, hq26, hF56, hq56, hx56, hF80, hq80, hF115, hq115, hx115, hF166, hq166]; done
                       · simp (disch := omega) only [gUp_ne2, gUp_eq2, hF26, hq26, hF56, hq56, hx56, hF80, hq80, hF115, hq115, hx115, hF166, hq166]; done
                       · simp (disch := omega) only [gUp_ne2, gUp_eq2, hF26, hq26, hF56, hq56, hx56, hF80, hq80, hF115, hq115, hx115, hF166, hq166]; done
                       · rw [if_pos (by omega)]; simp (disch := omega) only [gUp_ne2, gUp_eq2, hF26, hq26, hF56, hq56, hx56, hF80, hq80, hF115, hq115, hx115, hF166, hq166]; done)
                    | (refine k1 q208 x56 x115 x208 _ ?_ ?_ ?_ ?_ ?_ ?_
                       · simp [pMore, Bind.bind, Except.bind, Pure.pure, Except.pure, *]; done
                       · intro a j hn; simp (disch := omega) only [gUp_ne2, gUp_eq2, hF26, hq26, hF56, hq56, hx56, hF80, hq80, hF115, hq115, hx115, hF166, hq166]; done
                       · simp (disch := omega) only [gUp_ne2, gUp_eq2, hF26, hq26, hF56, hq56, hx56, hF80, hq80, hF115, hq115, hx115, hF166, hq166]; done
                       · simp (disch := omega) only [gUp_ne2, gUp_eq2, hF26, hq26, hF56, hq56, hx56, hF80, hq80, hF115, hq115, hx115, hF166, hq166]; done
                       · simp (disch := omega) only [gUp_ne2, gUp_eq2, hF26, hq26, hF56, hq56, hx56, hF80, hq80, hF115, hq115, hx115, hF166, hq166]; done
                       · rw [if_pos (by omega)]; simp (disch := omega) only [gUp_ne2, gUp_eq2, hF26, hq26, hF56, hq56, hx56, hF80, hq80, hF115, hq115, hx115, hF166, hq166]; done)
            · refine Gx_iload_n (i := 2) dX2_readsMore_140 rfl rfl ?_
              refine Gx_iconst ⟨by decide, by decide⟩ dX2_readsMore_141 ?_
              refine Gx_icmp_eq (tgt := 149) dX2_readsMore_142 (by decide) (fun c142 => ?_) (fun c142 => ?_)
              · refine Gx_iconst ⟨by decide, by decide⟩ dX2_readsMore_149 ?_
                refine Gx_istore_5 dX2_readsMore_150 (Nat.le_of_ble_eq_true rfl) (Nat.ne_of_beq_eq_false rfl) ?_
                refine Gx_iload dX2_readsMore_152 rfl ?_
                refine Gx_if_ne (tgt := 234) dX2_readsMore_154 (by decide) (fun hz => absurd hz (by decide)) (fun _ => ?_)
                refine Gx_iload_n (i := 2) dX2_readsMore_157 rfl rfl ?_
                refine Gx_iconst ⟨by decide, by decide⟩ dX2_readsMore_158 ?_
                refine Gx_icmp_ne (tgt := 192) dX2_readsMore_159 (by decide) (fun c159 => ?_) (fun c159 => ?_)
                · refine Gx_aload_n (i := 0) dX2_readsMore_192 rfl rfl ?_
                  refine Gx_iload_n (i := 1) dX2_readsMore_193 rfl rfl ?_
                  refine Gx_bipush dX2_readsMore_194 ⟨by decide, by decide⟩ ?_
                  refine cl_X2_154 dX2_readsMore_196 rfl rfl ⟨(Nat.le_of_ble_eq_true rfl), (Nat.le_of_ble_eq_true rfl)⟩ rfl ?_
                  refine ct_X2_signP (q0 := q115) hr hs115 hb115 hq115 (by omega) (fun v196 c196 hF196 hq196 hb196 hs196 => ?_) (fun v196 c196 hF196 hq196 hb196 hs196 => ?_)
                  · refine Gx_if_eq (tgt := 218) dX2_readsMore_199 (by decide) (fun hz => absurd hz (by decide)) (fun _ => ?_)
                    refine Gx_aload_n (i := 0) dX2_readsMore_202 rfl rfl ?_
                    refine Gx_iload_n (i := 1) dX2_readsMore_203 rfl rfl ?_
                    refine Gx_iconst ⟨by decide, by decide⟩ dX2_readsMore_204 ?_
                    refine Gx_iconst ⟨by decide, by decide⟩ dX2_readsMore_205 ?_
                    refine Gx_bipush dX2_readsMore_206 ⟨by decide, by decide⟩ ?_
                    refine cl_X2_147 dX2_readsMore_208 rfl rfl ⟨(Nat.le_of_ble_eq_true rfl), (Nat.le_of_ble_eq_true rfl)⟩ rfl ?_
                    refine ct_X2_readsP (q0 := (q115 + 1)) (f := 1) hr hs196 hb196 hq196 (by omega) rfl (by omega) (fun q208 x208 v208 c208 b208 hF208 hq208 hx208 hb208 hs208 => ?_) (fun q208 x208 v208 hz208 c208 b208 hF208 hq208 hx208 hb208 hs208 => ?_)
                    · refine Gx_if_eq (tgt := 218) dX2_readsMore_211 (by decide) (fun hz => absurd hz (by decide)) (fun _ => ?_)
                      refine Gx_iconst ⟨by decide, by decide⟩ dX2_readsMore_214 ?_
                      refine Gx_goto (tgt := 219) dX2_readsMore_215 (by decide) ?_
                      refine Gx_istore_5 dX2_readsMore_219 (Nat.le_of_ble_eq_true rfl) (Nat.ne_of_beq_eq_false rfl) ?_
                      refine Gx_aload_n (i := 0) dX2_readsMore_221 rfl rfl ?_
                      refine gf_X2_29_22 dX2_readsMore_222 rfl rfl ?_
                      refine Gx_iload_n (i := 3) dX2_readsMore_225 rfl rfl ?_
                      refine Gx_bipush dX2_readsMore_226 ⟨by decide, by decide⟩ ?_
                      refine Gx_iadd dX2_readsMore_228 ?_
                      try simp (disch := omega) only [w32_id]
                      refine Gx_aload_n (i := 0) dX2_readsMore_229 rfl rfl ?_
                      refine gf_X2_138_22 dX2_readsMore_230 rfl rfl ?_
                      refine Gx_iastore dX2_readsMore_233 rfl (by first | omega | (simp (disch := omega) only [w32_id]; omega)) ?_
                      refine Gx_iload dX2_readsMore_234 rfl ?_
                      refine Gx_ireturn dX2_readsMore_236 (Or.inr rfl) ?_
                      first
                        | (exfalso; omega)
                        | (refine k0 q115 _ ?_ ?_ ?_
                           · simp [pMore, Bind.bind, Except.bind, Pure.pure, Except.pure, *]; done
                           · intro a j hn; simp (disch := omega) only [gUp_ne2, gUp_eq2, hF26, hq26, hF56, hq56, hx56, hF80, hq80, hF115, hq115, hx115, hF196, hq196, hF208, hq208, hx208]; done
                           · simp (disch := omega) only [gUp_ne2, gUp_eq2, hF26, hq26, hF56, hq56, hx56, hF80, hq80, hF115, hq115, hx115, hF196, hq196, hF208, hq208, hx208]; done)
                        | (refine k0 q178 _ ?_ ?_ ?_
                           · simp [pMore, Bind.bind, Except.bind, Pure.pure, Except.pure, *]; done
                           · intro a j hn; simp (disch := omega) only [gUp_ne2, gUp_eq2, hF26, hq26, hF56, hq56, hx56, hF80, hq80, hF115, hq115, hx115, hF196, hq196, hF208, hq208, hx208]; done
                           · simp (disch := omega) only [gUp_ne2, gUp_eq2, hF26, hq26, hF56, hq56, hx56, hF80, hq80, hF115, hq115, hx115, hF196, hq196, hF208, hq208, hx208]; done)
                        | (refine k0 q208 _ ?_ ?_ ?_
                           · simp [pMore, Bind.bind, Except.bind, Pure.pure, Except.pure, *]; done
                           · intro a j hn; simp (disch := omega) only [gUp_ne2, gUp_eq2, hF26, hq26, hF56, hq56, hx56, hF80, hq80, hF115, hq115, hx115, hF196, hq196, hF208, hq208, hx208]; done
                           · simp (disch := omega) only [gUp_ne2, gUp_eq2, hF26, hq26, hF56, hq56, hx56, hF80, hq80, hF115, hq115, hx115, hF196, hq196, hF208, hq208, hx208]; done)
                        | (refine k1 q115 x56 x115 0 _ ?_ ?_ ?_ ?_ ?_ ?_
                           · simp [pMore, Bind.bind, Except.bind, Pure.pure, Except.pure, *]; done
                           · intro a j hn; simp (disch := omega) only [gUp_ne2, gUp_eq2, hF26, hq26, hF56, hq56, hx56, hF80, hq80, hF115, hq115, hx115, hF196, hq196, hF208, hq208, hx208]; done
                           · simp (disch := omega) only [gUp_ne2, gUp_eq2, hF26, hq26, hF56, hq56, hx56, hF80, hq80, hF115, hq115, hx115, hF196, hq196, hF208, hq208, hx208]; done
                           · simp (disch := omega) only [gUp_ne2, gUp_eq2, hF26, hq26, hF56, hq56, hx56, hF80, hq80, hF115, hq115, hx115, hF196, hq196, hF208, hq208, hx208]; done
                           · simp (disch := omega) only [gUp_ne2, gUp_eq2, hF26, hq26, hF56, hq56, hx56, hF80, hq80, hF115, hq115, hx115, hF196, hq196, hF208, hq208, hx208]; done
                           · rw [if_neg (by omega)]; simp (disch := omega) only [gUp_ne2, gUp_eq2, hF26, hq26, hF56, hq56, hx56, hF80, hq80, hF115, hq115, hx115, hF196, hq196, hF208, hq208, hx208]; done)
                        | (refine k1 q178 x56 x115 x178 _ ?_ ?_ ?_ ?_ ?_ ?_
                           · simp [pMore, Bind.bind, Except.bind, Pure.pure, Except.pure, *]; done
                           · intro a j hn; simp (disch := omega) only [gUp_ne2, gUp_eq2, hF26, hq26, hF56, hq56, hx56, hF80, hq80, hF115, hq115, hx115, hF196, hq196, hF208, hq208, hx208]; done
                           · simp (disch := omega) only [gUp_ne2, gUp_eq2, hF26, hq26, hF56, hq56, hx56, hF80, hq80, hF115, hq115, hx115, hF196, hq196, hF208, hq208, hx208]; done
                           · simp (disch := omega) only [gUp_ne2, gUp_eq2, hF26, hq26, hF56, hq56, hx56, hF80, hq80, hF115, hq115, hx115, hF196, hq196, hF208, hq208, hx208]; done
                           · simp (disch := omega) only [gUp_ne2, gUp_eq2, hF26, hq26, hF56, hq56, hx56, hF80, hq80, hF115, hq115, hx115, hF196, hq196, hF208, hq208, hx208]; done
                           · rw [if_pos (by omega)]; simp (disch := omega) only [gUp_ne2, gUp_eq2, hF26, hq26, hF56, hq56, hx56, hF80, hq80, hF115, hq115, hx115, hF196, hq196, hF208, hq208, hx208]; done)
                        | (refine k1 q208 x56 x115 x208 _ ?_ ?_ ?_ ?_ ?_ ?_
                           · simp [pMore, Bind.bind, Except.bind, Pure.pure, Except.pure, *]; done
                           · intro a j hn; simp (disch := omega) only [gUp_ne2, gUp_eq2, hF26, hq26, hF56, hq56, hx56, hF80, hq80, hF115, hq115, hx115, hF196, hq196, hF208, hq208, hx208]; done
                           · simp (disch := omega) only [gUp_ne2, gUp_eq2, hF26, hq26, hF56, hq56, hx56, hF80, hq80, hF115, hq115, hx115, hF196, hq196, hF208, hq208, hx208]; done
                           · simp (disch := omega) only [gUp_ne2, gUp_eq2, hF26, hq26, hF56, hq56, hx56, hF80, hq80, hF115, hq115, hx115, hF196, hq196, hF208, hq208, hx208]; done
                           · simp (disch := omega) only [gUp_ne2, gUp_eq2, hF26, hq26, hF56, hq56, hx56, hF80, hq80, hF115, hq115, hx115, hF196, hq196, hF208, hq208, hx208]; done
                           · rw [if_pos (by omega)]; simp (disch := omega) only [gUp_ne2, gUp_eq2, hF26, hq26, hF56, hq56, hx56, hF80, hq80, hF115, hq115, hx115, hF196, hq196, hF208, hq208, hx208]; done)
                    · refine Gx_if_eq (tgt := 218) dX2_readsMore_211 (by decide) (fun _ => ?_) (fun hz => absurd hz (by decide))
                      refine Gx_iconst ⟨by decide, by decide⟩ dX2_readsMore_218 ?_
                      refine Gx_istore_5 dX2_readsMore_219 (Nat.le_of_ble_eq_true rfl) (Nat.ne_of_beq_eq_false rfl) ?_
                      refine Gx_aload_n (i := 0) dX2_readsMore_221 rfl rfl ?_
                      refine gf_X2_29_22 dX2_readsMore_222 rfl rfl ?_
                      refine Gx_iload_n (i := 3) dX2_readsMore_225 rfl rfl ?_
                      refine Gx_bipush dX2_readsMore_226 ⟨by decide, by decide⟩ ?_
                      refine Gx_iadd dX2_readsMore_228 ?_
                      try simp (disch := omega) only [w32_id]
                      refine Gx_aload_n (i := 0) dX2_readsMore_229 rfl rfl ?_
                      refine gf_X2_138_22 dX2_readsMore_230 rfl rfl ?_
                      refine Gx_iastore dX2_readsMore_233 rfl (by first | omega | (simp (disch := omega) only [w32_id]; omega)) ?_
                      refine Gx_iload dX2_readsMore_234 rfl ?_
                      refine Gx_ireturn dX2_readsMore_236 (Or.inl rfl) ?_
                      first
                        | (exfalso; omega)
                        | (refine k0 q115 _ ?_ ?_ ?_
                           · simp [pMore, Bind.bind, Except.bind, Pure.pure, Except.pure, *]; done
                           · intro a j hn; simp (disch := omega) only [gUp_ne2, gUp_eq2, hF26, hq26, hF56, hq56, hx56, hF80, hq80, hF115, hq115, hx115, hF196, hq196, hF208, hq208, hx208]; done
                           · simp (disch := omega) only [gUp_ne2, gUp_eq2, hF26, hq26, hF56, hq56, hx56, hF80, hq80, hF115, hq115, hx115, hF196, hq196, hF208, hq208, hx208]; done)
                        | (refine k0 q178 _ ?_ ?_ ?_
                           · simp [pMore, Bind.bind, Except.bind, Pure.pure, Except.pure, *]; done
                           · intro a j hn; simp (disch := omega) only [gUp_ne2, gUp_eq2, hF26, hq26, hF56, hq56, hx56, hF80, hq80, hF115, hq115, hx115, hF196, hq196, hF208, hq208, hx208]; done
                           · simp (disch := omega) only [gUp_ne2, gUp_eq2, hF26, hq26, hF56, hq56, hx56, hF80, hq80, hF115, hq115, hx115, hF196, hq196, hF208, hq208, hx208]; done)
                        | (refine k0 q208 _ ?_ ?_ ?_
                           · simp [pMore, Bind.bind, Except.bind, Pure.pure, Except.pure, *]; done
                           · intro a j hn; simp (disch := omega) only [gUp_ne2, gUp_eq2, hF26, hq26, hF56, hq56, hx56, hF80, hq80, hF115, hq115, hx115, hF196, hq196, hF208, hq208, hx208]; done
                           · simp (disch := omega) only [gUp_ne2, gUp_eq2, hF26, hq26, hF56, hq56, hx56, hF80, hq80, hF115, hq115, hx115, hF196, hq196, hF208, hq208, hx208]; done)
                        | (refine k1 q115 x56 x115 0 _ ?_ ?_ ?_ ?_ ?_ ?_
                           · simp [pMore, Bind.bind, Except.bind, Pure.pure, Except.pure, *]; done
                           · intro a j hn; simp (disch := omega) only [gUp_ne2, gUp_eq2, hF26, hq26, hF56, hq56, hx56, hF80, hq80, hF115, hq115, hx115, hF196, hq196, hF208, hq208, hx208]; done
                           · simp (disch := omega) only [gUp_ne2, gUp_eq2, hF26, hq26, hF56, hq56, hx56, hF80, hq80, hF115, hq115, hx115, hF196, hq196, hF208, hq208, hx208]; done
                           · simp (disch := omega) only [gUp_ne2, gUp_eq2, hF26, hq26, hF56, hq56, hx56, hF80, hq80, hF115, hq115, hx115, hF196, hq196, hF208, hq208, hx208]; done
                           · simp (disch := omega) only [gUp_ne2, gUp_eq2, hF26, hq26, hF56, hq56, hx56, hF80, hq80, hF115, hq115, hx115, hF196, hq196, hF208, hq208, hx208]; done
                           · rw [if_neg (by omega)]; simp (disch := omega) only [gUp_ne2, gUp_eq2, hF26, hq26, hF56, hq56, hx56, hF80, hq80, hF115, hq115, hx115, hF196, hq196, hF208, hq208, hx208]; done)
                        | (refine k1 q178 x56 x115 x178 _ ?_ ?_ ?_ ?_ ?_ ?_
                           · simp [pMore, Bind.bind, Except.bind, Pure.pure, Except.pure, *]; done
                           · intro a j hn; simp (disch := omega) only [gUp_ne2, gUp_eq2, hF26, hq26, hF56, hq56, hx56, hF80, hq80, hF115, hq115, hx115, hF196, hq196, hF208, hq208, hx208]; done
                           · simp (disch := omega) only [gUp_ne2, gUp_eq2, hF26, hq26, hF56, hq56, hx56, hF80, hq80, hF115, hq115, hx115, hF196, hq196, hF208, hq208, hx208]; done
                           · simp (disch := omega) only [gUp_ne2, gUp_eq2, hF26, hq26, hF56, hq56, hx56, hF80, hq80, hF115, hq115, hx115, hF196, hq196, hF208, hq208, hx208]; done
                           · simp (disch := omega) only [gUp_ne2, gUp_eq2, hF26, hq26, hF56, hq56, hx56, hF80, hq80, hF115, hq115, hx115, hF196, hq196, hF208, hq208, hx208]; done
                           · rw [if_pos (by omega)]; simp (disch := omega) only [gUp_ne2, gUp_eq2, hF26, hq26, hF56, hq56, hx56, hF80, hq80, hF115, hq115, hx115, hF196, hq196, hF208, hq208, hx208]; done)
                        | (refine k1 q208 x56 x115 x208 _ ?_ ?_ ?_ ?_ ?_ ?_
                           · simp [pMore, Bind.bind, Except.bind, Pure.pure, Except.pure, *]; done
                           · intro a j hn; simp (disch := omega) only [gUp_ne2, gUp_eq2, hF26, hq26, hF56, hq56, hx56, hF80, hq80, hF115, hq115, hx115, hF196, hq196, hF208, hq208, hx208]; done
                           · simp (disch := omega) only [gUp_ne2, gUp_eq2, hF26, hq26, hF56, hq56, hx56, hF80, hq80, hF115, hq115, hx115, hF196, hq196, hF208, hq208, hx208]; done
                           · simp (disch := omega) only [gUp_ne2, gUp_eq2, hF26, hq26, hF56, hq56, hx56, hF80, hq80, hF115, hq115, hx115, hF196, hq196, hF208, hq208, hx208]; done
                           · simp (disch := omega) only [gUp_ne2, gUp_eq2, hF26, hq26, hF56, hq56, hx56, hF80, hq80, hF115, hq115, hx115, hF196, hq196, hF208, hq208, hx208]; done
                           · rw [if_pos (by omega)]; simp (disch := omega) only [gUp_ne2, gUp_eq2, hF26, hq26, hF56, hq56, hx56, hF80, hq80, hF115, hq115, hx115, hF196, hq196, hF208, hq208, hx208]; done)
                  · refine Gx_if_eq (tgt := 218) dX2_readsMore_199 (by decide) (fun _ => ?_) (fun hz => absurd hz (by decide))
                    refine Gx_iconst ⟨by decide, by decide⟩ dX2_readsMore_218 ?_
                    refine Gx_istore_5 dX2_readsMore_219 (Nat.le_of_ble_eq_true rfl) (Nat.ne_of_beq_eq_false rfl) ?_
                    refine Gx_aload_n (i := 0) dX2_readsMore_221 rfl rfl ?_
                    refine gf_X2_29_22 dX2_readsMore_222 rfl rfl ?_
                    refine Gx_iload_n (i := 3) dX2_readsMore_225 rfl rfl ?_
                    refine Gx_bipush dX2_readsMore_226 ⟨by decide, by decide⟩ ?_
                    refine Gx_iadd dX2_readsMore_228 ?_
                    try simp (disch := omega) only [w32_id]
                    refine Gx_aload_n (i := 0) dX2_readsMore_229 rfl rfl ?_
                    refine gf_X2_138_22 dX2_readsMore_230 rfl rfl ?_
                    refine Gx_iastore dX2_readsMore_233 rfl (by first | omega | (simp (disch := omega) only [w32_id]; omega)) ?_
                    refine Gx_iload dX2_readsMore_234 rfl ?_
                    refine Gx_ireturn dX2_readsMore_236 (Or.inl rfl) ?_
                    first
                      | (exfalso; omega)
                      | (refine k0 q115 _ ?_ ?_ ?_
                         · simp [pMore, Bind.bind, Except.bind, Pure.pure, Except.pure, *]; done
                         · intro a j hn; simp (disch := omega) only [gUp_ne2, gUp_eq2, hF26, hq26, hF56, hq56, hx56, hF80, hq80, hF115, hq115, hx115, hF196, hq196]; done
                         · simp (disch := omega) only [gUp_ne2, gUp_eq2, hF26, hq26, hF56, hq56, hx56, hF80, hq80, hF115, hq115, hx115, hF196, hq196]; done)
                      | (refine k0 q178 _ ?_ ?_ ?_
                         · simp [pMore, Bind.bind, Except.bind, Pure.pure, Except.pure, *]; done
                         · intro a j hn; simp (disch := omega) only [gUp_ne2, gUp_eq2, hF26, hq26, hF56, hq56, hx56, hF80, hq80, hF115, hq115, hx115, hF196, hq196]; done
                         · simp (disch := omega) only [gUp_ne2, gUp_eq2, hF26, hq26, hF56, hq56, hx56, hF80, hq80, hF115, hq115, hx115, hF196, hq196]; done)
                      | (refine k0 q208 _ ?_ ?_ ?_
                         · simp [pMore, Bind.bind, Except.bind, Pure.pure, Except.pure, *]; done
                         · intro a j hn; simp (disch := omega) only [gUp_ne2, gUp_eq2, hF26, hq26, hF56, hq56, hx56, hF80, hq80, hF115, hq115, hx115, hF196, hq196]; done
                         · simp (disch := omega) only [gUp_ne2, gUp_eq2, hF26, hq26, hF56, hq56, hx56, hF80, hq80, hF115, hq115, hx115, hF196, hq196]; done)
                      | (refine k1 q115 x56 x115 0 _ ?_ ?_ ?_ ?_ ?_ ?_
                         · simp [pMore, Bind.bind, Except.bind, Pure.pure, Except.pure, *]; done
                         · intro a j hn; simp (disch := omega) only [gUp_ne2, gUp_eq2, hF26, hq26, hF56, hq56, hx56, hF80, hq80, hF115, hq115, hx115, hF196, hq196]; done
                         · simp (disch := omega) only [gUp_ne2, gUp_eq2, hF26, hq26, hF56, hq56, hx56, hF80, hq80, hF115, hq115, hx115, hF196, hq196]; done
                         · simp (disch := omega) only [gUp_ne2, gUp_eq2, hF26, hq26, hF56, hq56, hx56, hF80, hq80, hF115, hq115, hx115, hF196, hq196]; done
                         · simp (disch := omega) only [gUp_ne2, gUp_eq2, hF26, hq26, hF56, hq56, hx56, hF80, hq80, hF115, hq115, hx115, hF196, hq196]; done
                         · rw [if_neg (by omega)]; simp (disch := omega) only [gUp_ne2, gUp_eq2, hF26, hq26, hF56, hq56, hx56, hF80, hq80, hF115, hq115, hx115, hF196, hq196]; done)
                      | (refine k1 q178 x56 x115 x178 _ ?_ ?_ ?_ ?_ ?_ ?_
                         · simp [pMore, Bind.bind, Except.bind, Pure.pure, Except.pure, *]; done
                         · intro a j hn; simp (disch := omega) only [gUp_ne2, gUp_eq2, hF26, hq26, hF56, hq56, hx56, hF80, hq80, hF115, hq115, hx115, hF196, hq196]; done
                         · simp (disch := omega) only [gUp_ne2, gUp_eq2, hF26, hq26, hF56, hq56, hx56, hF80, hq80, hF115, hq115, hx115, hF196, hq196]; done
                         · simp (disch := omega) only [gUp_ne2, gUp_eq2, hF26, hq26, hF56, hq56, hx56, hF80, hq80, hF115, hq115, hx115, hF196, hq196]; done
                         · simp (disch := omega) only [gUp_ne2, gUp_eq2, hF26, hq26, hF56, hq56, hx56, hF80, hq80, hF115, hq115, hx115, hF196, hq196]; done
                         · rw [if_pos (by omega)]; simp (disch := omega) only [gUp_ne2, gUp_eq2, hF26, hq26, hF56, hq56, hx56, hF80, hq80, hF115, hq115, hx115, hF196, hq196]; done)
                      | (refine k1 q208 x56 x115 x208 _ ?_ ?_ ?_ ?_ ?_ ?_
                         · simp [pMore, Bind.bind, Except.bind, Pure.pure, Except.pure, *]; done
                         · intro a j hn; simp (disch := omega) only [gUp_ne2, gUp_eq2, hF26, hq26, hF56, hq56, hx56, hF80, hq80, hF115, hq115, hx115, hF196, hq196]; done
                         · simp (disch := omega) only [gUp_ne2, gUp_eq2, hF26, hq26, hF56, hq56, hx56, hF80, hq80, hF115, hq115, hx115, hF196, hq196]; done
                         · simp (disch := omega) only [gUp_ne2, gUp_eq2, hF26, hq26, hF56, hq56, hx56, hF80, hq80, hF115, hq115, hx115, hF196, hq196]; done
                         · simp (disch := omega) only [gUp_ne2, gUp_eq2, hF26, hq26, hF56, hq56, hx56, hF80, hq80, hF115, hq115, hx115, hF196, hq196]; done
                         · rw [if_pos (by omega)]; simp (disch := omega) only [gUp_ne2, gUp_eq2, hF26, hq26, hF56, hq56, hx56, hF80, hq80, hF115, hq115, hx115, hF196, hq196]; done)
                · refine Gx_aload_n (i := 0) dX2_readsMore_162 rfl rfl ?_
                  refine Gx_iload_n (i := 1) dX2_readsMore_163 rfl rfl ?_
                  refine Gx_bipush dX2_readsMore_164 ⟨by decide, by decide⟩ ?_
                  refine cl_X2_154 dX2_readsMore_166 rfl rfl ⟨(Nat.le_of_ble_eq_true rfl), (Nat.le_of_ble_eq_true rfl)⟩ rfl ?_
                  refine ct_X2_signP (q0 := q115) hr hs115 hb115 hq115 (by omega) (fun v166 c166 hF166 hq166 hb166 hs166 => ?_) (fun v166 c166 hF166 hq166 hb166 hs166 => ?_)
                  · refine Gx_if_eq (tgt := 188) dX2_readsMore_169 (by decide) (fun hz => absurd hz (by decide)) (fun _ => ?_)
                    refine Gx_aload_n (i := 0) dX2_readsMore_172 rfl rfl ?_
                    refine Gx_iload_n (i := 1) dX2_readsMore_173 rfl rfl ?_
                    refine Gx_iconst ⟨by decide, by decide⟩ dX2_readsMore_174 ?_
                    refine Gx_iconst ⟨by decide, by decide⟩ dX2_readsMore_175 ?_
                    refine Gx_bipush dX2_readsMore_176 ⟨by decide, by decide⟩ ?_
                    refine cl_X2_147 dX2_readsMore_178 rfl rfl ⟨(Nat.le_of_ble_eq_true rfl), (Nat.le_of_ble_eq_true rfl)⟩ rfl ?_
                    refine ct_X2_readsP (q0 := (q115 + 1)) (f := 2) hr hs166 hb166 hq166 (by omega) rfl (by omega) (fun q178 x178 v178 c178 b178 hF178 hq178 hx178 hb178 hs178 => ?_) (fun q178 x178 v178 hz178 c178 b178 hF178 hq178 hx178 hb178 hs178 => ?_)
                    · refine Gx_if_eq (tgt := 188) dX2_readsMore_181 (by decide) (fun hz => absurd hz (by decide)) (fun _ => ?_)
                      refine Gx_iconst ⟨by decide, by decide⟩ dX2_readsMore_184 ?_
                      refine Gx_goto (tgt := 219) dX2_readsMore_185 (by decide) ?_
                      refine Gx_istore_5 dX2_readsMore_219 (Nat.le_of_ble_eq_true rfl) (Nat.ne_of_beq_eq_false rfl) ?_
                      refine Gx_aload_n (i := 0) dX2_readsMore_221 rfl rfl ?_
                      refine gf_X2_29_22 dX2_readsMore_222 rfl rfl ?_
                      refine Gx_iload_n (i := 3) dX2_readsMore_225 rfl rfl ?_
                      refine Gx_bipush dX2_readsMore_226 ⟨by decide, by decide⟩ ?_
                      refine Gx_iadd dX2_readsMore_228 ?_
                      try simp (disch := omega) only [w32_id]
                      refine Gx_aload_n (i := 0) dX2_readsMore_229 rfl rfl ?_
                      refine gf_X2_138_22 dX2_readsMore_230 rfl rfl ?_
                      refine Gx_iastore dX2_readsMore_233 rfl (by first | omega | (simp (disch := omega) only [w32_id]; omega)) ?_
                      refine Gx_iload dX2_readsMore_234 rfl ?_
                      refine Gx_ireturn dX2_readsMore_236 (Or.inr rfl) ?_
                      first
                        | (exfalso; omega)
                        | (refine k0 q115 _ ?_ ?_ ?_
                           · simp [pMore, Bind.bind, Except.bind, Pure.pure, Except.pure, *]; done
                           · intro a j hn; simp (disch := omega) only [gUp_ne2, gUp_eq2, hF26, hq26, hF56, hq56, hx56, hF80, hq80, hF115, hq115, hx115, hF166, hq166, hF178, hq178, hx178]; done
                           · simp (disch := omega) only [gUp_ne2, gUp_eq2, hF26, hq26, hF56, hq56, hx56, hF80, hq80, hF115, hq115, hx115, hF166, hq166, hF178, hq178, hx178]; done)
                        | (refine k0 q178 _ ?_ ?_ ?_
                           · simp [pMore, Bind.bind, Except.bind, Pure.pure, Except.pure, *]; done
                           · intro a j hn; simp (disch := omega) only [gUp_ne2, gUp_eq2, hF26, hq26, hF56, hq56, hx56, hF80, hq80, hF115, hq115, hx115, hF166, hq166, hF178, hq178, hx178]; done
                           · simp (disch := omega) only [gUp_ne2, gUp_eq2, hF26, hq26, hF56, hq56, hx56, hF80, hq80, hF115, hq115, hx115, hF166, hq166, hF178, hq178, hx178]; done)
                        | (refine k0 q208 _ ?_ ?_ ?_
                           · simp [pMore, Bind.bind, Except.bind, Pure.pure, Except.pure, *]; done
                           · intro a j hn; simp (disch := omega) only [gUp_ne2, gUp_eq2, hF26, hq26, hF56, hq56, hx56, hF80, hq80, hF115, hq115, hx115, hF166, hq166, hF178, hq178, hx178]; done
                           · simp (disch := omega) only [gUp_ne2, gUp_eq2, hF26, hq26, hF56, hq56, hx56, hF80, hq80, hF115, hq115, hx115, hF166, hq166, hF178, hq178, hx178]; done)
                        | (refine k1 q115 x56 x115 0 _ ?_ ?_ ?_ ?_ ?_ ?_
                           · simp [pMore, Bind.bind, Except.bind, Pure.pure, Except.pure, *]; done
                           · intro a j hn; simp (disch := omega) only [gUp_ne2, gUp_eq2, hF26, hq26, hF56, hq56, hx56, hF80, hq80, hF115, hq115, hx115, hF166, hq166, hF178, hq178, hx178]; done
                           · simp (disch := omega) only [gUp_ne2, gUp_eq2, hF26, hq26, hF56, hq56, hx56, hF80, hq80, hF115, hq115, hx115, hF166, hq166, hF178, hq178, hx178]; done
                           · simp (disch := omega) only [gUp_ne2, gUp_eq2, hF26, hq26, hF56, hq56, hx56, hF80, hq80, hF115, hq115, hx115, hF166, hq166, hF178, hq178, hx178]; done
                           · simp (disch := omega) only [gUp_ne2, gUp_eq2, hF26, hq26, hF56, hq56, hx56, hF80, hq80, hF115, hq115, hx115, hF166, hq166, hF178, hq178, hx178]; done
                           · rw [if_neg (by omega)]; simp (disch := omega) only [gUp_ne2, gUp_eq2, hF26, hq26, hF56, hq56, hx56, hF80, hq80, hF115, hq115, hx115, hF166, hq166, hF178, hq178, hx178]; done)
                        | (refine k1 q178 x56 x115 x178 _ ?_ ?_ ?_ ?_ ?_ ?_
                           · simp [pMore, Bind.bind, Except.bind, Pure.pure, Except.pure, *]; done
                           · intro a j hn; simp (disch := omega) only [gUp_ne2, gUp_eq2, hF26, hq26, hF56, hq56, hx56, hF80, hq80, hF115, hq115, hx115, hF166, hq166, hF178, hq178, hx178]; done
                           · simp (disch := omega) only [gUp_ne2, gUp_eq2, hF26, hq26, hF56, hq56, hx56, hF80, hq80, hF115, hq115, hx115, hF166, hq166, hF178, hq178, hx178]; done
                           · simp (disch := omega) only [gUp_ne2, gUp_eq2, hF26, hq26, hF56, hq56, hx56, hF80, hq80, hF115, hq115, hx115, hF166, hq166, hF178, hq178, hx178]; done
                           · simp (disch := omega) only [gUp_ne2, gUp_eq2, hF26, hq26, hF56, hq56, hx56, hF80, hq80, hF115, hq115, hx115, hF166, hq166, hF178, hq178, hx178]; done
                           · rw [if_pos (by omega)]; simp (disch := omega) only [gUp_ne2, gUp_eq2, hF26, hq26, hF56, hq56, hx56, hF80, hq80, hF115, hq115, hx115, hF166, hq166, hF178, hq178, hx178]; done)
                        | (refine k1 q208 x56 x115 x208 _ ?_ ?_ ?_ ?_ ?_ ?_
                           · simp [pMore, Bind.bind, Except.bind, Pure.pure, Except.pure, *]; done
                           · intro a j hn; simp (disch := omega) only [gUp_ne2, gUp_eq2, hF26, hq26, hF56, hq56, hx56, hF80, hq80, hF115, hq115, hx115, hF166, hq166, hF178, hq178, hx178]; done
                           · simp (disch := omega) only [gUp_ne2, gUp_eq2, hF26, hq26, hF56, hq56, hx56, hF80, hq80, hF115, hq115, hx115, hF166, hq166, hF178, hq178, hx178]; done
                           · simp (disch := omega) only [gUp_ne2, gUp_eq2, hF26, hq26, hF56, hq56, hx56, hF80, hq80, hF115, hq115, hx115, hF166, hq166, hF178, hq178, hx178]; done
                           · simp (disch := omega) only [gUp_ne2, gUp_eq2, hF26, hq26, hF56, hq56, hx56, hF80, hq80, hF115, hq115, hx115, hF166, hq166, hF178, hq178, hx178]; done
                           · rw [if_pos (by omega)]; simp (disch := omega) only [gUp_ne2, gUp_eq2, hF26, hq26, hF56, hq56, hx56, hF80, hq80, hF115, hq115, hx115, hF166, hq166, hF178, hq178, hx178]; done)
                    · refine Gx_if_eq (tgt := 188) dX2_readsMore_181 (by decide) (fun _ => ?_) (fun hz => absurd hz (by decide))
                      refine Gx_iconst ⟨by decide, by decide⟩ dX2_readsMore_188 ?_
                      refine Gx_goto (tgt := 219) dX2_readsMore_189 (by decide) ?_
                      refine Gx_istore_5 dX2_readsMore_219 (Nat.le_of_ble_eq_true rfl) (Nat.ne_of_beq_eq_false rfl) ?_
                      refine Gx_aload_n (i := 0) dX2_readsMore_221 rfl rfl ?_
                      refine gf_X2_29_22 dX2_readsMore_222 rfl rfl ?_
                      refine Gx_iload_n (i := 3) dX2_readsMore_225 rfl rfl ?_
                      refine Gx_bipush dX2_readsMore_226 ⟨by decide, by decide⟩ ?_
                      refine Gx_iadd dX2_readsMore_228 ?_
                      try simp (disch := omega) only [w32_id]
                      refine Gx_aload_n (i := 0) dX2_readsMore_229 rfl rfl ?_
                      refine gf_X2_138_22 dX2_readsMore_230 rfl rfl ?_
                      refine Gx_iastore dX2_readsMore_233 rfl (by first | omega | (simp (disch := omega) only [w32_id]; omega)) ?_
                      refine Gx_iload dX2_readsMore_234 rfl ?_
                      refine Gx_ireturn dX2_readsMore_236 (Or.inl rfl) ?_
                      first
                        | (exfalso; omega)
                        | (refine k0 q115 _ ?_ ?_ ?_
                           · simp [pMore, Bind.bind, Except.bind, Pure.pure, Except.pure, *]; done
                           · intro a j hn; simp (disch := omega) only [gUp_ne2, gUp_eq2, hF26, hq26, hF56, hq56, hx56, hF80, hq80, hF115, hq115, hx115, hF166, hq166, hF178, hq178, hx178]; done
                           · simp (disch := omega) only [gUp_ne2, gUp_eq2, hF26, hq26, hF56, hq56, hx56, hF80, hq80, hF115, hq115, hx115, hF166, hq166, hF178, hq178, hx178]; done)
                        | (refine k0 q178 _ ?_ ?_ ?_
                           · simp [pMore, Bind.bind, Except.bind, Pure.pure, Except.pure, *]; done
                           · intro a j hn; simp (disch := omega) only [gUp_ne2, gUp_eq2, hF26, hq26, hF56, hq56, hx56, hF80, hq80, hF115, hq115, hx115, hF166, hq166, hF178, hq178, hx178]; done
                           · simp (disch := omega) only [gUp_ne2, gUp_eq2, hF26, hq26, hF56, hq56, hx56, hF80, hq80, hF115, hq115, hx115, hF166, hq166, hF178, hq178, hx178]; done)
                        | (refine k0 q208 _ ?_ ?_ ?_
                           · simp [pMore, Bind.bind, Except.bind, Pure.pure, Except.pure, *]; done
                           · intro a j hn; simp (disch := omega) only [gUp_ne2, gUp_eq2, hF26, hq26, hF56, hq56, hx56, hF80, hq80, hF115, hq115, hx115, hF166, hq166, hF178, hq178, hx178]; done
                           · simp (disch := omega) only [gUp_ne2, gUp_eq2, hF26, hq26, hF56, hq56, hx56, hF80, hq80, hF115, hq115, hx115, hF166, hq166, hF178, hq178, hx178]; done)
                        | (refine k1 q115 x56 x115 0 _ ?_ ?_ ?_ ?_ ?_ ?_
                           · simp [pMore, Bind.bind, Except.bind, Pure.pure, Except.pure, *]; done
                           · intro a j hn; simp (disch := omega) only [gUp_ne2, gUp_eq2, hF26, hq26, hF56, hq56, hx56, hF80, hq80, hF115, hq115, hx115, hF166, hq166, hF178, hq178, hx178]; done
                           · simp (disch := omega) only [gUp_ne2, gUp_eq2, hF26, hq26, hF56, hq56, hx56, hF80, hq80, hF115, hq115, hx115, hF166, hq166, hF178, hq178, hx178]; done
                           · simp (disch := omega) only [gUp_ne2, gUp_eq2, hF26, hq26, hF56, hq56, hx56, hF80, hq80, hF115, hq115, hx115, hF166, hq166, hF178, hq178, hx178]; done
                           · simp (disch := omega) only [gUp_ne2, gUp_eq2, hF26, hq26, hF56, hq56, hx56, hF80, hq80, hF115, hq115, hx115, hF166, hq166, hF178, hq178, hx178]; done
                           · rw [if_neg (by omega)]; simp (disch := omega) only [gUp_ne2, gUp_eq2, hF26, hq26, hF56, hq56, hx56, hF80, hq80, hF115, hq115, hx115, hF166, hq166, hF178, hq178, hx178]; done)
                        | (refine k1 q178 x56 x115 x178 _ ?_ ?_ ?_ ?_ ?_ ?_
                           · simp [pMore, Bind.bind, Except.bind, Pure.pure, Except.pure, *]; done
                           · intro a j hn; simp (disch := omega) only [gUp_ne2, gUp_eq2, hF26, hq26, hF56, hq56, hx56, hF80, hq80, hF115, hq115, hx115, hF166, hq166, hF178, hq178, hx178]; done
                           · simp (disch := omega) only [gUp_ne2, gUp_eq2, hF26, hq26, hF56, hq56, hx56, hF80, hq80, hF115, hq115, hx115, hF166, hq166, hF178, hq178, hx178]; done
                           · simp (disch := omega) only [gUp_ne2, gUp_eq2, hF26, hq26, hF56, hq56, hx56, hF80, hq80, hF115, hq115, hx115, hF166, hq166, hF178, hq178, hx178]; done
                           · simp (disch := omega) only [gUp_ne2, gUp_eq2, hF26, hq26, hF56, hq56, hx56, hF80, hq80, hF115, hq115, hx115, hF166, hq166, hF178, hq178, hx178]; done
                           · rw [if_pos (by omega)]; simp (disch := omega) only [gUp_ne2, gUp_eq2, hF26, hq26, hF56, hq56, hx56, hF80, hq80, hF115, hq115, hx115, hF166, hq166, hF178, hq178, hx178]; done)
                        | (refine k1 q208 x56 x115 x208 _ ?_ ?_ ?_ ?_ ?_ ?_
                           · simp [pMore, Bind.bind, Except.bind, Pure.pure, Except.pure, *]; done
                           · intro a j hn; simp (disch := omega) only [gUp_ne2, gUp_eq2, hF26, hq26, hF56, hq56, hx56, hF80, hq80, hF115, hq115, hx115, hF166, hq166, hF178, hq178, hx178]; done
                           · simp (disch := omega) only [gUp_ne2, gUp_eq2, hF26, hq26, hF56, hq56, hx56, hF80, hq80, hF115, hq115, hx115, hF166, hq166, hF178, hq178, hx178]; done
                           · simp (disch := omega) only [gUp_ne2, gUp_eq2, hF26, hq26, hF56, hq56, hx56, hF80, hq80, hF115, hq115, hx115, hF166, hq166, hF178, hq178, hx178]; done
                           · simp (disch := omega) only [gUp_ne2, gUp_eq2, hF26, hq26, hF56, hq56, hx56, hF80, hq80, hF115, hq115, hx115, hF166, hq166, hF178, hq178, hx178]; done
                           · rw [if_pos (by omega)]; simp (disch := omega) only [gUp_ne2, gUp_eq2, hF26, hq26, hF56, hq56, hx56, hF80, hq80, hF115, hq115, hx115, hF166, hq166, hF178, hq178, hx178]; done)
                  · refine Gx_if_eq (tgt := 188) dX2_readsMore_169 (by decide) (fun _ => ?_) (fun hz => absurd hz (by decide))
                    refine Gx_iconst ⟨by decide, by decide⟩ dX2_readsMore_188 ?_
                    refine Gx_goto (tgt := 219) dX2_readsMore_189 (by decide) ?_
                    refine Gx_istore_5 dX2_readsMore_219 (Nat.le_of_ble_eq_true rfl) (Nat.ne_of_beq_eq_false rfl) ?_
                    refine Gx_aload_n (i := 0) dX2_readsMore_221 rfl rfl ?_
                    refine gf_X2_29_22 dX2_readsMore_222 rfl rfl ?_
                    refine Gx_iload_n (i := 3) dX2_readsMore_225 rfl rfl ?_
                    refine Gx_bipush dX2_readsMore_226 ⟨by decide, by decide⟩ ?_
                    refine Gx_iadd dX2_readsMore_228 ?_
                    try simp (disch := omega) only [w32_id]
                    refine Gx_aload_n (i := 0) dX2_readsMore_229 rfl rfl ?_
                    refine gf_X2_138_22 dX2_readsMore_230 rfl rfl ?_
                    refine Gx_iastore dX2_readsMore_233 rfl (by first | omega | (simp (disch := omega) only [w32_id]; omega)) ?_
                    refine Gx_iload dX2_readsMore_234 rfl ?_
                    refine Gx_ireturn dX2_readsMore_236 (Or.inl rfl) ?_
                    first
                      | (exfalso; omega)
                      | (refine k0 q115 _ ?_ ?_ ?_
                         · simp [pMore, Bind.bind, Except.bind, Pure.pure, Except.pure, *]; done
                         · intro a j hn; simp (disch := omega) only [gUp_ne2, gUp_eq2, hF26, hq26, hF56, hq56, hx56, hF80, hq80, hF115, hq115, hx115, hF166, hq166]; done
                         · simp (disch := omega) only [gUp_ne2, gUp_eq2, hF26, hq26, hF56, hq56, hx56, hF80, hq80, hF115, hq115, hx115, hF166, hq166]; done)
                      | (refine k0 q178 _ ?_ ?_ ?_
                         · simp [pMore, Bind.bind, Except.bind, Pure.pure, Except.pure, *]; done
                         · intro a j hn; simp (disch := omega) only [gUp_ne2, gUp_eq2, hF26, hq26, hF56, hq56, hx56, hF80, hq80, hF115, hq115, hx115, hF166, hq166]; done
                         · simp (disch := omega) only [gUp_ne2, gUp_eq2, hF26, hq26, hF56, hq56, hx56, hF80, hq80, hF115, hq115, hx115, hF166, hq166]; done)
                      | (refine k0 q208 _ ?_ ?_ ?_
                         · simp [pMore, Bind.bind, Except.bind, Pure.pure, Except.pure, *]; done
                         · intro a j hn; simp (disch := omega) only [gUp_ne2, gUp_eq2, hF26, hq26, hF56, hq56, hx56, hF80, hq80, hF115, hq115, hx115, hF166, hq166]; done
                         · simp (disch := omega) only [gUp_ne2, gUp_eq2, hF26, hq26, hF56, hq56, hx56, hF80, hq80, hF115, hq115, hx115, hF166, hq166]; done)
                      | (refine k1 q115 x56 x115 0 _ ?_ ?_ ?_ ?_ ?_ ?_
                         · simp [pMore, Bind.bind, Except.bind, Pure.pure, Except.pure, *]; done
                         · intro a j hn; simp (disch := omega) only [gUp_ne2, gUp_eq2, hF26, hq26, hF56, hq56, hx56, hF80, hq80, hF115, hq115, hx115, hF166, hq166]; done
                         · simp (disch := omega) only [gUp_ne2, gUp_eq2, hF26, hq26, hF56, hq56, hx56, hF80, hq80, hF115, hq115, hx115, hF166, hq166]; done
                         · simp (disch := omega) only [gUp_ne2, gUp_eq2, hF26, hq26, hF56, hq56, hx56, hF80, hq80, hF115, hq115, hx115, hF166, hq166]; done
                         · simp (disch := omega) only [gUp_ne2, gUp_eq2, hF26, hq26, hF56, hq56, hx56, hF80, hq80, hF115, hq115, hx115, hF166, hq166]; done
                         · rw [if_neg (by omega)]; simp (disch := omega) only [gUp_ne2, gUp_eq2, hF26, hq26, hF56, hq56, hx56, hF80, hq80, hF115, hq115, hx115, hF166, hq166]; done)
                      | (refine k1 q178 x56 x115 x178 _ ?_ ?_ ?_ ?_ ?_ ?_
                         · simp [pMore, Bind.bind, Except.bind, Pure.pure, Except.pure, *]; done
                         · intro a j hn; simp (disch := omega) only [gUp_ne2, gUp_eq2, hF26, hq26, hF56, hq56, hx56, hF80, hq80, hF115, hq115, hx115, hF166, hq166]; done
                         · simp (disch := omega) only [gUp_ne2, gUp_eq2, hF26, hq26, hF56, hq56, hx56, hF80, hq80, hF115, hq115, hx115, hF166, hq166]; done
                         · simp (disch := omega) only [gUp_ne2, gUp_eq2, hF26, hq26, hF56, hq56, hx56, hF80, hq80, hF115, hq115, hx115, hF166, hq166]; done
                         · simp (disch := omega) only [gUp_ne2, gUp_eq2, hF26, hq26, hF56, hq56, hx56, hF80, hq80, hF115, hq115, hx115, hF166, hq166]; done
                         · rw [if_pos (by omega)]; simp (disch := omega) only [gUp_ne2, gUp_eq2, hF26, hq26, hF56, hq56, hx56, hF80, hq80, hF115, hq115, hx115, hF166, hq166]; done)
                      | (refine k1 q208 x56 x115 x208 _ ?_ ?_ ?_ ?_ ?_ ?_
                         · simp [pMore, Bind.bind, Except.bind, Pure.pure, Except.pure, *]; done
                         · intro a j hn; simp (disch := omega) only [gUp_ne2, gUp_eq2, hF26, hq26, hF56, hq56, hx56, hF80, hq80, hF115, hq115, hx115, hF166, hq166]; done
                         · simp (disch := omega) only [gUp_ne2, gUp_eq2, hF26, hq26, hF56, hq56, hx56, hF80, hq80, hF115, hq115, hx115, hF166, hq166]; done
                         · simp (disch := omega) only [gUp_ne2, gUp_eq2, hF26, hq26, hF56, hq56, hx56, hF80, hq80, hF115, hq115, hx115, hF166, hq166]; done
                         · simp (disch := omega) only [gUp_ne2, gUp_eq2, hF26, hq26, hF56, hq56, hx56, hF80, hq80, hF115, hq115, hx115, hF166, hq166]; done
                         · rw [if_pos (by omega)]; simp (disch := omega) only [gUp_ne2, gUp_eq2, hF26, hq26, hF56, hq56, hx56, hF80, hq80, hF115, hq115, hx115, hF166, hq166]; done)
              · refine Gx_iconst ⟨by decide, by decide⟩ dX2_readsMore_145 ?_
                refine Gx_goto (tgt := 150) dX2_readsMore_146 (by decide) ?_
                refine Gx_istore_5 dX2_readsMore_150 (Nat.le_of_ble_eq_true rfl) (Nat.ne_of_beq_eq_false rfl) ?_
                refine Gx_iload dX2_readsMore_152 rfl ?_
                refine Gx_if_ne (tgt := 234) dX2_readsMore_154 (by decide) (fun _ => ?_) (fun hz => absurd hz (by decide))
                refine Gx_iload dX2_readsMore_234 rfl ?_
                refine Gx_ireturn dX2_readsMore_236 (Or.inr rfl) ?_
                first
                  | (exfalso; omega)
                  | (refine k0 q115 _ ?_ ?_ ?_
                     · simp [pMore, Bind.bind, Except.bind, Pure.pure, Except.pure, *]; done
                     · intro a j hn; simp (disch := omega) only [gUp_ne2, gUp_eq2, hF26, hq26, hF56, hq56, hx56, hF80, hq80, hF115, hq115, hx115]; done
                     · simp (disch := omega) only [gUp_ne2, gUp_eq2, hF26, hq26, hF56, hq56, hx56, hF80, hq80, hF115, hq115, hx115]; done)
                  | (refine k0 q178 _ ?_ ?_ ?_
                     · simp [pMore, Bind.bind, Except.bind, Pure.pure, Except.pure, *]; done
                     · intro a j hn; simp (disch := omega) only [gUp_ne2, gUp_eq2, hF26, hq26, hF56, hq56, hx56, hF80, hq80, hF115, hq115, hx115]; done
                     · simp (disch := omega) only [gUp_ne2, gUp_eq2, hF26, hq26, hF56, hq56, hx56, hF80, hq80, hF115, hq115, hx115]; done)
                  | (refine k0 q208 _ ?_ ?_ ?_
                     · simp [pMore, Bind.bind, Except.bind, Pure.pure, Except.pure, *]; done
                     · intro a j hn; simp (disch := omega) only [gUp_ne2, gUp_eq2, hF26, hq26, hF56, hq56, hx56, hF80, hq80, hF115, hq115, hx115]; done
                     · simp (disch := omega) only [gUp_ne2, gUp_eq2, hF26, hq26, hF56, hq56, hx56, hF80, hq80, hF115, hq115, hx115]; done)
                  | (refine k1 q115 x56 x115 0 _ ?_ ?_ ?_ ?_ ?_ ?_
                     · simp [pMore, Bind.bind, Except.bind, Pure.pure, Except.pure, *]; done
                     · intro a j hn; simp (disch := omega) only [gUp_ne2, gUp_eq2, hF26, hq26, hF56, hq56, hx56, hF80, hq80, hF115, hq115, hx115]; done
                     · simp (disch := omega) only [gUp_ne2, gUp_eq2, hF26, hq26, hF56, hq56, hx56, hF80, hq80, hF115, hq115, hx115]; done
                     · simp (disch := omega) only [gUp_ne2, gUp_eq2, hF26, hq26, hF56, hq56, hx56, hF80, hq80, hF115, hq115, hx115]; done
                     · simp (disch := omega) only [gUp_ne2, gUp_eq2, hF26, hq26, hF56, hq56, hx56, hF80, hq80, hF115, hq115, hx115]; done
                     · rw [if_neg (by omega)]; simp (disch := omega) only [gUp_ne2, gUp_eq2, hF26, hq26, hF56, hq56, hx56, hF80, hq80, hF115, hq115, hx115]; done)
                  | (refine k1 q178 x56 x115 x178 _ ?_ ?_ ?_ ?_ ?_ ?_
                     · simp [pMore, Bind.bind, Except.bind, Pure.pure, Except.pure, *]; done
                     · intro a j hn; simp (disch := omega) only [gUp_ne2, gUp_eq2, hF26, hq26, hF56, hq56, hx56, hF80, hq80, hF115, hq115, hx115]; done
                     · simp (disch := omega) only [gUp_ne2, gUp_eq2, hF26, hq26, hF56, hq56, hx56, hF80, hq80, hF115, hq115, hx115]; done
                     · simp (disch := omega) only [gUp_ne2, gUp_eq2, hF26, hq26, hF56, hq56, hx56, hF80, hq80, hF115, hq115, hx115]; done
                     · simp (disch := omega) only [gUp_ne2, gUp_eq2, hF26, hq26, hF56, hq56, hx56, hF80, hq80, hF115, hq115, hx115]; done
                     · rw [if_pos (by omega)]; simp (disch := omega) only [gUp_ne2, gUp_eq2, hF26, hq26, hF56, hq56, hx56, hF80, hq80, hF115, hq115, hx115]; done)
                  | (refine k1 q208 x56 x115 x208 _ ?_ ?_ ?_ ?_ ?_ ?_
                     · simp [pMore, Bind.bind, Except.bind, Pure.pure, Except.pure, *]; done
                     · intro a j hn; simp (disch := omega) only [gUp_ne2, gUp_eq2, hF26, hq26, hF56, hq56, hx56, hF80, hq80, hF115, hq115, hx115]; done
                     · simp (disch := omega) only [gUp_ne2, gUp_eq2, hF26, hq26, hF56, hq56, hx56, hF80, hq80, hF115, hq115, hx115]; done
                     · simp (disch := omega) only [gUp_ne2, gUp_eq2, hF26, hq26, hF56, hq56, hx56, hF80, hq80, hF115, hq115, hx115]; done
                     · simp (disch := omega) only [gUp_ne2, gUp_eq2, hF26, hq26, hF56, hq56, hx56, hF80, hq80, hF115, hq115, hx115]; done
                     · rw [if_pos (by omega)]; simp (disch := omega) only [gUp_ne2, gUp_eq2, hF26, hq26, hF56, hq56, hx56, hF80, hq80, hF115, hq115, hx115]; done)
          · refine Gx_if_ne (tgt := 123) dX2_readsMore_118 (by decide) (fun hz => absurd hz (by decide)) (fun _ => ?_)
            refine Gx_iconst ⟨by decide, by decide⟩ dX2_readsMore_121 ?_
            refine Gx_ireturn dX2_readsMore_122 (Or.inl rfl) ?_
            first
              | (exfalso; omega)
              | (refine k0 q56 _ ?_ ?_ ?_
                 · simp [pMore, Bind.bind, Except.bind, Pure.pure, Except.pure, *]; done
                 · intro a j hn; simp (disch := omega) only [gUp_ne2, gUp_eq2, hF26, hq26, hF56, hq56, hx56, hF80, hq80, hF115, hq115, hx115]; done
                 · simp (disch := omega) only [gUp_ne2, gUp_eq2, hF26, hq26, hF56, hq56, hx56, hF80, hq80, hF115, hq115, hx115]; done)
              | (refine k0 q115 _ ?_ ?_ ?_
                 · simp [pMore, Bind.bind, Except.bind, Pure.pure, Except.pure, *]; done
                 · intro a j hn; simp (disch := omega) only [gUp_ne2, gUp_eq2, hF26, hq26, hF56, hq56, hx56, hF80, hq80, hF115, hq115, hx115]; done
                 · simp (disch := omega) only [gUp_ne2, gUp_eq2, hF26, hq26, hF56, hq56, hx56, hF80, hq80, hF115, hq115, hx115]; done)
        · refine Gx_if_eq (tgt := 121) dX2_readsMore_83 (by decide) (fun _ => ?_) (fun hz => absurd hz (by decide))
          refine Gx_iconst ⟨by decide, by decide⟩ dX2_readsMore_121 ?_
          refine Gx_ireturn dX2_readsMore_122 (Or.inl rfl) ?_
          first
            | (exfalso; omega)
            | (refine k0 q56 _ ?_ ?_ ?_
               · simp [pMore, Bind.bind, Except.bind, Pure.pure, Except.pure, *]; done
               · intro a j hn; simp (disch := omega) only [gUp_ne2, gUp_eq2, hF26, hq26, hF56, hq56, hx56, hF80, hq80]; done
               · simp (disch := omega) only [gUp_ne2, gUp_eq2, hF26, hq26, hF56, hq56, hx56, hF80, hq80]; done)
            | (refine k0 q115 _ ?_ ?_ ?_
               · simp [pMore, Bind.bind, Except.bind, Pure.pure, Except.pure, *]; done
               · intro a j hn; simp (disch := omega) only [gUp_ne2, gUp_eq2, hF26, hq26, hF56, hq56, hx56, hF80, hq80]; done
               · simp (disch := omega) only [gUp_ne2, gUp_eq2, hF26, hq26, hF56, hq56, hx56, hF80, hq80]; done)
      · refine Gx_if_ne (tgt := 64) dX2_readsMore_59 (by decide) (fun hz => absurd hz (by decide)) (fun _ => ?_)
        refine Gx_iconst ⟨by decide, by decide⟩ dX2_readsMore_62 ?_
        refine Gx_ireturn dX2_readsMore_63 (Or.inl rfl) ?_
        first
          | (exfalso; omega)
          | (refine k0 q0 _ ?_ ?_ ?_
             · simp [pMore, Bind.bind, Except.bind, Pure.pure, Except.pure, *]; done
             · intro a j hn; simp (disch := omega) only [gUp_ne2, gUp_eq2, hF26, hq26, hF56, hq56, hx56]; done
             · simp (disch := omega) only [gUp_ne2, gUp_eq2, hF26, hq26, hF56, hq56, hx56]; done)
          | (refine k0 q56 _ ?_ ?_ ?_
             · simp [pMore, Bind.bind, Except.bind, Pure.pure, Except.pure, *]; done
             · intro a j hn; simp (disch := omega) only [gUp_ne2, gUp_eq2, hF26, hq26, hF56, hq56, hx56]; done
             · simp (disch := omega) only [gUp_ne2, gUp_eq2, hF26, hq26, hF56, hq56, hx56]; done)
    · refine Gx_if_eq (tgt := 62) dX2_readsMore_29 (by decide) (fun _ => ?_) (fun hz => absurd hz (by decide))
      refine Gx_iconst ⟨by decide, by decide⟩ dX2_readsMore_62 ?_
      refine Gx_ireturn dX2_readsMore_63 (Or.inl rfl) ?_
      first
        | (exfalso; omega)
        | (refine k0 q0 _ ?_ ?_ ?_
           · simp [pMore, Bind.bind, Except.bind, Pure.pure, Except.pure, *]; done
           · intro a j hn; simp (disch := omega) only [gUp_ne2, gUp_eq2, hF26, hq26]; done
           · simp (disch := omega) only [gUp_ne2, gUp_eq2, hF26, hq26]; done)
        | (refine k0 q56 _ ?_ ?_ ?_
           · simp [pMore, Bind.bind, Except.bind, Pure.pure, Except.pure, *]; done
           · intro a j hn; simp (disch := omega) only [gUp_ne2, gUp_eq2, hF26, hq26]; done
           · simp (disch := omega) only [gUp_ne2, gUp_eq2, hF26, hq26]; done)
  · refine Gx_iconst ⟨by decide, by decide⟩ dX2_readsMore_5 ?_
    refine Gx_goto (tgt := 10) dX2_readsMore_6 (by decide) ?_
    refine Gx_istore_4 dX2_readsMore_10 (Nat.le_of_ble_eq_true rfl) (Nat.ne_of_beq_eq_false rfl) ?_
    refine Gx_aload_n (i := 0) dX2_readsMore_12 rfl rfl ?_
    refine Gx_iload_n (i := 1) dX2_readsMore_13 rfl rfl ?_
    refine Gx_iload dX2_readsMore_14 rfl ?_
    refine Gx_if_eq (tgt := 24) dX2_readsMore_16 (by decide) (fun hz => absurd hz (by decide)) (fun _ => ?_)
    refine Gx_bipush dX2_readsMore_19 ⟨by decide, by decide⟩ ?_
    refine Gx_goto (tgt := 26) dX2_readsMore_21 (by decide) ?_
    refine cl_X2_154 dX2_readsMore_26 rfl rfl ⟨(Nat.le_of_ble_eq_true rfl), (Nat.le_of_ble_eq_true rfl)⟩ rfl ?_
    refine ct_X2_signP (q0 := q0) hr hs hb hq (by omega) (fun v26 c26 hF26 hq26 hb26 hs26 => ?_) (fun v26 c26 hF26 hq26 hb26 hs26 => ?_)
    · refine Gx_if_eq (tgt := 62) dX2_readsMore_29 (by decide) (fun hz => absurd hz (by decide)) (fun _ => ?_)
      refine Gx_aload_n (i := 0) dX2_readsMore_32 rfl rfl ?_
      refine Gx_iload_n (i := 1) dX2_readsMore_33 rfl rfl ?_
      refine Gx_iload dX2_readsMore_34 rfl ?_
      refine Gx_if_eq (tgt := 43) dX2_readsMore_36 (by decide) (fun hz => absurd hz (by decide)) (fun _ => ?_)
      refine Gx_iconst ⟨by decide, by decide⟩ dX2_readsMore_39 ?_
      refine Gx_goto (tgt := 44) dX2_readsMore_40 (by decide) ?_
      refine Gx_iconst ⟨by decide, by decide⟩ dX2_readsMore_44 ?_
      refine Gx_iload dX2_readsMore_45 rfl ?_
      refine Gx_if_eq (tgt := 54) dX2_readsMore_47 (by decide) (fun hz => absurd hz (by decide)) (fun _ => ?_)
      refine Gx_iconst ⟨by decide, by decide⟩ dX2_readsMore_50 ?_
      refine Gx_goto (tgt := 56) dX2_readsMore_51 (by decide) ?_
      refine cl_X2_147 dX2_readsMore_56 rfl rfl ⟨(Nat.le_of_ble_eq_true rfl), (Nat.le_of_ble_eq_true rfl)⟩ rfl ?_
      first | refine ct_X2_readsP (q0 := (q0 + 1)) (f := 1) hr hs26 hb26 hq26 (by omega) rfl (by omega) (fun q56 x56 v56 c56 b56 hF56 hq56 hx56 hb56 hs56 => ?_) (fun q56 x56 v56 hz56 c56 b56 hF56 hq56 hx56 hb56 hs56 => ?_) | refine ct_X2_readsP (q0 := (q0 + 1)) (f := 2) hr hs26 hb26 hq26 (by omega) rfl (by omega) (fun q56 x56 v56 c56 b56 hF56 hq56 hx56 hb56 hs56 => ?_) (fun q56 x56 v56 hz56 c56 b56 hF56 hq56 hx56 hb56 hs56 => ?_)
      · refine Gx_if_ne (tgt := 64) dX2_readsMore_59 (by decide) (fun _ => ?_) (fun hz => absurd hz (by decide))
        refine Gx_aload_n (i := 0) dX2_readsMore_64 rfl rfl ?_
        refine gf_X2_29_22 dX2_readsMore_65 rfl rfl ?_
        refine Gx_iload_n (i := 3) dX2_readsMore_68 rfl rfl ?_
        refine Gx_iconst ⟨by decide, by decide⟩ dX2_readsMore_69 ?_
        refine Gx_iadd dX2_readsMore_70 ?_
        try simp (disch := omega) only [w32_id]
        refine Gx_aload_n (i := 0) dX2_readsMore_71 rfl rfl ?_
        refine gf_X2_138_22 dX2_readsMore_72 rfl rfl ?_
        refine Gx_iastore dX2_readsMore_75 rfl (by first | omega | (simp (disch := omega) only [w32_id]; omega)) ?_
        refine Gx_aload_n (i := 0) dX2_readsMore_76 rfl rfl ?_
        refine Gx_iload_n (i := 1) dX2_readsMore_77 rfl rfl ?_
        refine Gx_bipush dX2_readsMore_78 ⟨by decide, by decide⟩ ?_
        refine cl_X2_154 dX2_readsMore_80 rfl rfl ⟨(Nat.le_of_ble_eq_true rfl), (Nat.le_of_ble_eq_true rfl)⟩ rfl ?_
        refine ct_X2_signP (q0 := q56) hr hs56 hb56 hq56 (by omega) (fun v80 c80 hF80 hq80 hb80 hs80 => ?_) (fun v80 c80 hF80 hq80 hb80 hs80 => ?_)
        · refine Gx_if_eq (tgt := 121) dX2_readsMore_83 (by decide) (fun hz => absurd hz (by decide)) (fun _ => ?_)
          refine Gx_aload_n (i := 0) dX2_readsMore_86 rfl rfl ?_
          refine Gx_iload_n (i := 1) dX2_readsMore_87 rfl rfl ?_
          refine Gx_iconst ⟨by decide, by decide⟩ dX2_readsMore_88 ?_
          refine Gx_iconst ⟨by decide, by decide⟩ dX2_readsMore_89 ?_
          refine Gx_iload dX2_readsMore_90 rfl ?_
          refine Gx_if_eq (tgt := 100) dX2_readsMore_92 (by decide) (fun hz => absurd hz (by decide)) (fun _ => ?_)
          refine Gx_bipush dX2_readsMore_95 ⟨by decide, by decide⟩ ?_
          refine Gx_goto (tgt := 115) dX2_readsMore_97 (by decide) ?_
          refine cl_X2_147 dX2_readsMore_115 rfl rfl ⟨(Nat.le_of_ble_eq_true rfl), (Nat.le_of_ble_eq_true rfl)⟩ rfl ?_
          refine ct_X2_readsP (q0 := (q56 + 1)) (f := 2) hr hs80 hb80 hq80 (by omega) rfl (by omega) (fun q115 x115 v115 c115 b115 hF115 hq115 hx115 hb115 hs115 => ?_) (fun q115 x115 v115 hz115 c115 b115 hF115 hq115 hx115 hb115 hs115 => ?_)
          · refine Gx_if_ne (tgt := 123) dX2_readsMore_118 (by decide) (fun _ => ?_) (fun hz => absurd hz (by decide))
            refine Gx_aload_n (i := 0) dX2_readsMore_123 rfl rfl ?_
            refine gf_X2_29_22 dX2_readsMore_124 rfl rfl ?_
            refine Gx_iload_n (i := 3) dX2_readsMore_127 rfl rfl ?_
            refine Gx_iconst ⟨by decide, by decide⟩ dX2_readsMore_128 ?_
            refine Gx_iadd dX2_readsMore_129 ?_
            try simp (disch := omega) only [w32_id]
            refine Gx_aload_n (i := 0) dX2_readsMore_130 rfl rfl ?_
            refine gf_X2_138_22 dX2_readsMore_131 rfl rfl ?_
            refine Gx_iastore dX2_readsMore_134 rfl (by first | omega | (simp (disch := omega) only [w32_id]; omega)) ?_
            refine Gx_iload_n (i := 2) dX2_readsMore_135 rfl rfl ?_
            refine Gx_iconst ⟨by decide, by decide⟩ dX2_readsMore_136 ?_
            refine Gx_icmp_eq (tgt := 149) dX2_readsMore_137 (by decide) (fun c137 => ?_) (fun c137 => ?_)
            · refine Gx_iconst ⟨by decide, by decide⟩ dX2_readsMore_149 ?_
              refine Gx_istore_5 dX2_readsMore_150 (Nat.le_of_ble_eq_true rfl) (Nat.ne_of_beq_eq_false rfl) ?_
              refine Gx_iload dX2_readsMore_152 rfl ?_
              refine Gx_if_ne (tgt := 234) dX2_readsMore_154 (by decide) (fun hz => absurd hz (by decide)) (fun _ => ?_)
              refine Gx_iload_n (i := 2) dX2_readsMore_157 rfl rfl ?_
              refine Gx_iconst ⟨by decide, by decide⟩ dX2_readsMore_158 ?_
              refine Gx_icmp_ne (tgt := 192) dX2_readsMore_159 (by decide) (fun c159 => ?_) (fun c159 => ?_)
              · refine Gx_aload_n (i := 0) dX2_readsMore_192 rfl rfl ?_
                refine Gx_iload_n (i := 1) dX2_readsMore_193 rfl rfl ?_
                refine Gx_bipush dX2_readsMore_194 ⟨by decide, by decide⟩ ?_
                refine cl_X2_154 dX2_readsMore_196 rfl rfl ⟨(Nat.le_of_ble_eq_true rfl), (Nat.le_of_ble_eq_true rfl)⟩ rfl ?_
                refine ct_X2_signP (q0 := q115) hr hs115 hb115 hq115 (by omega) (fun v196 c196 hF196 hq196 hb196 hs196 => ?_) (fun v196 c196 hF196 hq196 hb196 hs196 => ?_)
                · refine Gx_if_eq (tgt := 218) dX2_readsMore_199 (by decide) (fun hz => absurd hz (by decide)) (fun _ => ?_)
                  refine Gx_aload_n (i := 0) dX2_readsMore_202 rfl rfl ?_
                  refine Gx_iload_n (i := 1) dX2_readsMore_203 rfl rfl ?_
                  refine Gx_iconst ⟨by decide, by decide⟩ dX2_readsMore_204 ?_
                  refine Gx_iconst ⟨by decide, by decide⟩ dX2_readsMore_205 ?_
                  refine Gx_bipush dX2_readsMore_206 ⟨by decide, by decide⟩ ?_
                  refine cl_X2_147 dX2_readsMore_208 rfl rfl ⟨(Nat.le_of_ble_eq_true rfl), (Nat.le_of_ble_eq_true rfl)⟩ rfl ?_
                  refine ct_X2_readsP (q0 := (q115 + 1)) (f := 1) hr hs196 hb196 hq196 (by omega) rfl (by omega) (fun q208 x208 v208 c208 b208 hF208 hq208 hx208 hb208 hs208 => ?_) (fun q208 x208 v208 hz208 c208 b208 hF208 hq208 hx208 hb208 hs208 => ?_)
                  · refine Gx_if_eq (tgt := 218) dX2_readsMore_211 (by decide) (fun hz => absurd hz (by decide)) (fun _ => ?_)
                    refine Gx_iconst ⟨by decide, by decide⟩ dX2_readsMore_214 ?_
                    refine Gx_goto (tgt := 219) dX2_readsMore_215 (by decide) ?_
                    refine Gx_istore_5 dX2_readsMore_219 (Nat.le_of_ble_eq_true rfl) (Nat.ne_of_beq_eq_false rfl) ?_
                    refine Gx_aload_n (i := 0) dX2_readsMore_221 rfl rfl ?_
                    refine gf_X2_29_22 dX2_readsMore_222 rfl rfl ?_
                    refine Gx_iload_n (i := 3) dX2_readsMore_225 rfl rfl ?_
                    refine Gx_bipush dX2_readsMore_226 ⟨by decide, by decide⟩ ?_
                    refine Gx_iadd dX2_readsMore_228 ?_
                    try simp (disch := omega) only [w32_id]
                    refine Gx_aload_n (i := 0) dX2_readsMore_229 rfl rfl ?_
                    refine gf_X2_138_22 dX2_readsMore_230 rfl rfl ?_
                    refine Gx_iastore dX2_readsMore_233 rfl (by first | omega | (simp (disch := omega) only [w32_id]; omega)) ?_
                    refine Gx_iload dX2_readsMore_234 rfl ?_
                    refine Gx_ireturn dX2_readsMore_236 (Or.inr rfl) ?_
                    first
                      | (exfalso; omega)
                      | (refine k0 q115 _ ?_ ?_ ?_
                         · simp [pMore, Bind.bind, Except.bind, Pure.pure, Except.pure, *]; done
                         · intro a j hn; simp (disch := omega) only [gUp_ne2, gUp_eq2, hF26, hq26, hF56, hq56, hx56, hF80, hq80, hF115, hq115, hx115, hF196, hq196, hF208, hq208, hx208]; done
                         · simp (disch := omega) only [gUp_ne2, gUp_eq2, hF26, hq26, hF56, hq56, hx56, hF80, hq80, hF115, hq115, hx115, hF196, hq196, hF208, hq208, hx208]; done)
                      | (refine k0 q178 _ ?_ ?_ ?_
                         · simp [pMore, Bind.bind, Except.bind, Pure.pure, Except.pure, *]; done
                         · intro a j hn; simp (disch := omega) only [gUp_ne2, gUp_eq2, hF26, hq26, hF56, hq56, hx56, hF80, hq80, hF115, hq115, hx115, hF196, hq196, hF208, hq208, hx208]; done
                         · simp (disch := omega) only [gUp_ne2, gUp_eq2, hF26, hq26, hF56, hq56, hx56, hF80, hq80, hF115, hq115, hx115, hF196, hq196, hF208, hq208, hx208]; done)
                      | (refine k0 q208 _ ?_ ?_ ?_
                         · simp [pMore, Bind.bind, Except.bind, Pure.pure, Except.pure, *]; done
                         · intro a j hn; simp (disch := omega) only [gUp_ne2, gUp_eq2, hF26, hq26, hF56, hq56, hx56, hF80, hq80, hF115, hq115, hx115, hF196, hq196, hF208, hq208, hx208]; done
                         · simp (disch := omega) only [gUp_ne2, gUp_eq2, hF26, hq26, hF56, hq56, hx56, hF80, hq80, hF115, hq115, hx115, hF196, hq196, hF208, hq208, hx208]; done)
                      | (refine k1 q115 x56 x115 0 _ ?_ ?_ ?_ ?_ ?_ ?_
                         · simp [pMore, Bind.bind, Except.bind, Pure.pure, Except.pure, *]; done
                         · intro a j hn; simp (disch := omega) only [gUp_ne2, gUp_eq2, hF26, hq26, hF56, hq56, hx56, hF80, hq80, hF115, hq115, hx115, hF196, hq196, hF208, hq208, hx208]; done
                         · simp (disch := omega) only [gUp_ne2, gUp_eq2, hF26, hq26, hF56, hq56, hx56, hF80, hq80, hF115, hq115, hx115, hF196, hq196, hF208, hq208, hx208]; done
                         · simp (disch := omega) only [gUp_ne2, gUp_eq2, hF26, hq26, hF56, hq56, hx56, hF80, hq80, hF115, hq115, hx115, hF196, hq196, hF208, hq208, hx208]; done
                         · simp (disch := omega) only [gUp_ne2, gUp_eq2, hF26, hq26, hF56, hq56, hx56, hF80, hq80, hF115, hq115, hx115, hF196, hq196, hF208, hq208, hx208]; done
                         · rw [if_neg (by omega)]; simp (disch := omega) only [gUp_ne2, gUp_eq2, hF26, hq26, hF56, hq56, hx56, hF80, hq80, hF115, hq115, hx115, hF196, hq196, hF208, hq208, hx208]; done)
                      | (refine k1 q178 x56 x115 x178 _ ?_ ?_ ?_ ?_ ?_ ?_
                         · simp [pMore, Bind.bind, Except.bind, Pure.pure, Except.pure, *]; done
                         · intro a j hn; simp (disch := omega) only [gUp_ne2, gUp_eq2, hF26, hq26, hF56, hq56, hx56, hF80, hq80, hF115, hq115, hx115, hF196, hq196, hF208, hq208, hx208]; done
                         · simp (disch := omega) only [gUp_ne2, gUp_eq2, hF26, hq26, hF56, hq56, hx56, hF80, hq80, hF115, hq115, hx115, hF196, hq196, hF208, hq208, hx208]; done
                         · simp (disch := omega) only [gUp_ne2, gUp_eq2, hF26, hq26, hF56, hq56, hx56, hF80, hq80, hF115, hq115, hx115, hF196, hq196, hF208, hq208, hx208]; done
                         · simp (disch := omega) only [gUp_ne2, gUp_eq2, hF26, hq26, hF56, hq56, hx56, hF80, hq80, hF115, hq115, hx115, hF196, hq196, hF208, hq208, hx208]; done
                         · rw [if_pos (by omega)]; simp (disch := omega) only [gUp_ne2, gUp_eq2, hF26, hq26, hF56, hq56, hx56, hF80, hq80, hF115, hq115, hx115, hF196, hq196, hF208, hq208, hx208]; done)
                      | (refine k1 q208 x56 x115 x208 _ ?_ ?_ ?_ ?_ ?_ ?_
                         · simp [pMore, Bind.bind, Except.bind, Pure.pure, Except.pure, *]; done
                         · intro a j hn; simp (disch := omega) only [gUp_ne2, gUp_eq2, hF26, hq26, hF56, hq56, hx56, hF80, hq80, hF115, hq115, hx115, hF196, hq196, hF208, hq208, hx208]; done
                         · simp (disch := omega) only [gUp_ne2, gUp_eq2, hF26, hq26, hF56, hq56, hx56, hF80, hq80, hF115, hq115, hx115, hF196, hq196, hF208, hq208, hx208]; done
                         · simp (disch := omega) only [gUp_ne2, gUp_eq2, hF26, hq26, hF56, hq56, hx56, hF80, hq80, hF115, hq115, hx115, hF196, hq196, hF208, hq208, hx208]; done
                         · simp (disch := omega) only [gUp_ne2, gUp_eq2, hF26, hq26, hF56, hq56, hx56, hF80, hq80, hF115, hq115, hx115, hF196, hq196, hF208, hq208, hx208]; done
                         · rw [if_pos (by omega)]; simp (disch := omega) only [gUp_ne2, gUp_eq2, hF26, hq26, hF56, hq56, hx56, hF80, hq80, hF115, hq115, hx115, hF196, hq196, hF208, hq208, hx208]; done)
                  · refine Gx_if_eq (tgt := 218) dX2_readsMore_211 (by decide) (fun _ => ?_) (fun hz => absurd hz (by decide))
                    refine Gx_iconst ⟨by decide, by decide⟩ dX2_readsMore_218 ?_
                    refine Gx_istore_5 dX2_readsMore_219 (Nat.le_of_ble_eq_true rfl) (Nat.ne_of_beq_eq_false rfl) ?_
                    refine Gx_aload_n (i := 0) dX2_readsMore_221 rfl rfl ?_
                    refine gf_X2_29_22 dX2_readsMore_222 rfl rfl ?_
                    refine Gx_iload_n (i := 3) dX2_readsMore_225 rfl rfl ?_
                    refine Gx_bipush dX2_readsMore_226 ⟨by decide, by decide⟩ ?_
                    refine Gx_iadd dX2_readsMore_228 ?_
                    try simp (disch := omega) only [w32_id]
                    refine Gx_aload_n (i := 0) dX2_readsMore_229 rfl rfl ?_
                    refine gf_X2_138_22 dX2_readsMore_230 rfl rfl ?_
                    refine Gx_iastore dX2_readsMore_233 rfl (by first | omega | (simp (disch := omega) only [w32_id]; omega)) ?_
                    refine Gx_iload dX2_readsMore_234 rfl ?_
                    refine Gx_ireturn dX2_readsMore_236 (Or.inl rfl) ?_
                    first
                      | (exfalso; omega)
                      | (refine k0 q115 _ ?_ ?_ ?_
                         · simp [pMore, Bind.bind, Except.bind, Pure.pure, Except.pure, *]; done
                         · intro a j hn; simp (disch := omega) only [gUp_ne2, gUp_eq2, hF26, hq26, hF56, hq56, hx56, hF80, hq80, hF115, hq115, hx115, hF196, hq196, hF208, hq208, hx208]; done
                         · simp (disch := omega) only [gUp_ne2, gUp_eq2, hF26, hq26, hF56, hq56, hx56, hF80, hq80, hF115, hq115, hx115, hF196, hq196, hF208, hq208, hx208]; done)
                      | (refine k0 q178 _ ?_ ?_ ?_
                         · simp [pMore, Bind.bind, Except.bind, Pure.pure, Except.pure, *]; done
                         · intro a j hn; simp (disch := omega) only [gUp_ne2, gUp_eq2, hF26, hq26, hF56, hq56, hx56, hF80, hq80, hF115, hq115, hx115, hF196, hq196, hF208, hq208, hx208]; done
                         · simp (disch := omega) only [gUp_ne2, gUp_eq2, hF26, hq26, hF56, hq56, hx56, hF80, hq80, hF115, hq115, hx115, hF196, hq196, hF208, hq208, hx208]; done)
                      | (refine k0 q208 _ ?_ ?_ ?_
                         · simp [pMore, Bind.bind, Except.bind, Pure.pure, Except.pure, *]; done
                         · intro a j hn; simp (disch := omega) only [gUp_ne2, gUp_eq2, hF26, hq26, hF56, hq56, hx56, hF80, hq80, hF115, hq115, hx115, hF196, hq196, hF208, hq208, hx208]; done
                         · simp (disch := omega) only [gUp_ne2, gUp_eq2, hF26, hq26, hF56, hq56, hx56, hF80, hq80, hF115, hq115, hx115, hF196, hq196, hF208, hq208, hx208]; done)
                      | (refine k1 q115 x56 x115 0 _ ?_ ?_ ?_ ?_ ?_ ?_
                         · simp [pMore, Bind.bind, Except.bind, Pure.pure, Except.pure, *]; done
                         · intro a j hn; simp (disch := omega) only [gUp_ne2, gUp_eq2, hF26, hq26, hF56, hq56, hx56, hF80, hq80, hF115, hq115, hx115, hF196, hq196, hF208, hq208, hx208]; done
                         · simp (disch := omega) only [gUp_ne2, gUp_eq2, hF26, hq26, hF56, hq56, hx56, hF80, hq80, hF115, hq115, hx115, hF196, hq196, hF208, hq208, hx208]; done
                         · simp (disch := omega) only [gUp_ne2, gUp_eq2, hF26, hq26, hF56, hq56, hx56, hF80, hq80, hF115, hq115, hx115, hF196, hq196, hF208, hq208, hx208]; done
                         · simp (disch := omega) only [gUp_ne2, gUp_eq2, hF26, hq26, hF56, hq56, hx56, hF80, hq80, hF115, hq115, hx115, hF196, hq196, hF208, hq208, hx208]; done
                         · rw [if_neg (by omega)]; simp (disch := omega) only [gUp_ne2, gUp_eq2, hF26, hq26, hF56, hq56, hx56, hF80, hq80, hF115, hq115, hx115, hF196, hq196, hF208, hq208, hx208]; done)
                      | (refine k1 q178 x56 x115 x178 _ ?_ ?_ ?_ ?_ ?_ ?_
                         · simp [pMore, Bind.bind, Except.bind, Pure.pure, Except.pure, *]; done
                         · intro a j hn; simp (disch := omega) only [gUp_ne2, gUp_eq2, hF26, hq26, hF56, hq56, hx56, hF80, hq80, hF115, hq115, hx115, hF196, hq196, hF208, hq208, hx208]; done
                         · simp (disch := omega) only [gUp_ne2, gUp_eq2, hF26, hq26, hF56, hq56, hx56, hF80, hq80, hF115, hq115, hx115, hF196, hq196, hF208, hq208, hx208]; done
                         · simp (disch := omega) only [gUp_ne2, gUp_eq2, hF26, hq26, hF56, hq56, hx56, hF80, hq80, hF115, hq115, hx115, hF196, hq196, hF208, hq208, hx208]; done
                         · simp (disch := omega) only [gUp_ne2, gUp_eq2, hF26, hq26, hF56, hq56, hx56, hF80, hq80, hF115, hq115, hx115, hF196, hq196, hF208, hq208, hx208]; done
                         · rw [if_pos (by omega)]; simp (disch := omega) only [gUp_ne2, gUp_eq2, hF26, hq26, hF56, hq56, hx56, hF80, hq80, hF115, hq115, hx115, hF196, hq196, hF208, hq208, hx208]; done)
                      | (refine k1 q208 x56 x115 x208 _ ?_ ?_ ?_ ?_ ?_ ?_
                         · simp [pMore, Bind.bind, Except.bind, Pure.pure, Except.pure, *]; done
                         · intro a j hn; simp (disch := omega) only [gUp_ne2, gUp_eq2, hF26, hq26, hF56, hq56, hx56, hF80, hq80, hF115, hq115, hx115, hF196, hq196, hF208, hq208, hx208]; done
                         · simp (disch := omega) only [gUp_ne2, gUp_eq2, hF26, hq26, hF56, hq56, hx56, hF80, hq80, hF115, hq115, hx115, hF196, hq196, hF208, hq208, hx208]; done
                         · simp (disch := omega) only [gUp_ne2, gUp_eq2, hF26, hq26, hF56, hq56, hx56, hF80, hq80, hF115, hq115, hx115, hF196, hq196, hF208, hq208, hx208]; done
                         · simp (disch := omega) only [gUp_ne2, gUp_eq2, hF26, hq26, hF56, hq56, hx56, hF80, hq80, hF115, hq115, hx115, hF196, hq196, hF208, hq208, hx208]; done
                         · rw [if_pos (by omega)]; simp (disch := omega) only [gUp_ne2, gUp_eq2, hF26, hq26, hF56, hq56, hx56, hF80, hq80, hF115, hq115, hx115, hF196, hq196, hF208, hq208, hx208]; done)
                · refine Gx_if_eq (tgt := 218) dX2_readsMore_199 (by decide) (fun _ => ?_) (fun hz => absurd hz (by decide))
                  refine Gx_iconst ⟨by decide, by decide⟩ dX2_readsMore_218 ?_
                  refine Gx_istore_5 dX2_readsMore_219 (Nat.le_of_ble_eq_true rfl) (Nat.ne_of_beq_eq_false rfl) ?_
                  refine Gx_aload_n (i := 0) dX2_readsMore_221 rfl rfl ?_
                  refine gf_X2_29_22 dX2_readsMore_222 rfl rfl ?_
                  refine Gx_iload_n (i := 3) dX2_readsMore_225 rfl rfl ?_
                  refine Gx_bipush dX2_readsMore_226 ⟨by decide, by decide⟩ ?_
                  refine Gx_iadd dX2_readsMore_228 ?_
                  try simp (disch := omega) only [w32_id]
                  refine Gx_aload_n (i := 0) dX2_readsMore_229 rfl rfl ?_
                  refine gf_X2_138_22 dX2_readsMore_230 rfl rfl ?_
                  refine Gx_iastore dX2_readsMore_233 rfl (by first | omega | (simp (disch := omega) only [w32_id]; omega)) ?_
                  refine Gx_iload dX2_readsMore_234 rfl ?_
                  refine Gx_ireturn dX2_readsMore_236 (Or.inl rfl) ?_
                  first
                    | (exfalso; omega)
                    | (refine k0 q115 _ ?_ ?_ ?_
                       · simp [pMore, Bind.bind, Except.bind, Pure.pure, Except.pure, *]; done
                       · intro a j hn; simp (disch := omega) only [gUp_ne2, gUp_eq2, hF26, hq26, hF56, hq56, hx56, hF80, hq80, hF115, hq115, hx115, hF196, hq196]; done
                       · simp (disch := omega) only [gUp_ne2, gUp_eq2, hF26, hq26, hF56, hq56, hx56, hF80, hq80, hF115, hq115, hx115, hF196, hq196]; done)
                    | (refine k0 q178 _ ?_ ?_ ?_
                       · simp [pMore, Bind.bind, Except.bind, Pure.pure, Except.pure, *]; done
                       · intro a j hn; simp (disch := omega) only [gUp_ne2, gUp_eq2, hF26, hq26, hF56, hq56, hx56, hF80, hq80, hF115, hq115, hx115, hF196, hq196]; done
                       · simp (disch := omega) only [gUp_ne2, gUp_eq2, hF26, hq26, hF56, hq56, hx56, hF80, hq80, hF115, hq115, hx115, hF196, hq196]; done)
                    | (refine k0 q208 _ ?_ ?_ ?_
                       · simp [pMore, Bind.bind, Except.bind, Pure.pure, Except.pure, *]; done
                       · intro a j hn; simp (disch := omega) only [gUp_ne2, gUp_eq2, hF26, hq26, hF56, hq56, hx56, hF80, hq80, hF115, hq115, hx115, hF196, hq196]; done
                       · simp (disch := omega) only [gUp_ne2, gUp_eq2, hF26, hq26, hF56, hq56, hx56, hF80, hq80, hF115, hq115, hx115, hF196, hq196]; done)
                    | (refine k1 q115 x56 x115 0 _ ?_ ?_ ?_ ?_ ?_ ?_
                       · simp [pMore, Bind.bind, Except.bind, Pure.pure, Except.pure, *]; done
                       · intro a j hn; simp (disch := omega) only [gUp_ne2, gUp_eq2, hF26, hq26, hF56, hq56, hx56, hF80, hq80, hF115, hq115, hx115, hF196, hq196]; done
                       · simp (disch := omega) only [gUp_ne2, gUp_eq2, hF26, hq26, hF56, hq56, hx56, hF80, hq80, hF115, hq115, hx115, hF196, hq196]; done
                       · simp (disch := omega) only [gUp_ne2, gUp_eq2, hF26, hq26, hF56, hq56, hx56, hF80, hq80, hF115, hq115, hx115, hF196, hq196]; done
                       · simp (disch := omega) only [gUp_ne2, gUp_eq2, hF26, hq26, hF56, hq56, hx56, hF80, hq80, hF115, hq115, hx115, hF196, hq196]; done
                       · rw [if_neg (by omega)]; simp (disch := omega) only [gUp_ne2, gUp_eq2, hF26, hq26, hF56, hq56, hx56, hF80, hq80, hF115, hq115, hx115, hF196, hq196]; done)
                    | (refine k1 q178 x56 x115 x178 _ ?_ ?_ ?_ ?_ ?_ ?_
                       · simp [pMore, Bind.bind, Except.bind, Pure.pure, Except.pure, *]; done
                       · intro a j hn; simp (disch := omega) only [gUp_ne2, gUp_eq2, hF26, hq26, hF56, hq56, hx56, hF80, hq80, hF115, hq115, hx115, hF196, hq196]; done
                       · simp (disch := omega) only [gUp_ne2, gUp_eq2, hF26, hq26, hF56, hq56, hx56, hF80, hq80, hF115, hq115, hx115, hF196, hq196]; done
                       · simp (disch := omega) only [gUp_ne2, gUp_eq2, hF26, hq26, hF56, hq56, hx56, hF80, hq80, hF115, hq115, hx115, hF196, hq196]; done
                       · simp (disch := omega) only [gUp_ne2, gUp_eq2, hF26, hq26, hF56, hq56, hx56, hF80, hq80, hF115, hq115, hx115, hF196, hq196]; done
                       · rw [if_pos (by omega)]; simp (disch := omega) only [gUp_ne2, gUp_eq2, hF26, hq26, hF56, hq56, hx56, hF80, hq80, hF115, hq115, hx115, hF196, hq196]; done)
                    | (refine k1 q208 x56 x115 x208 _ ?_ ?_ ?_ ?_ ?_ ?_
                       · simp [pMore, Bind.bind, Except.bind, Pure.pure, Except.pure, *]; done
                       · intro a j hn; simp (disch := omega) only [gUp_ne2, gUp_eq2, hF26, hq26, hF56, hq56, hx56, hF80, hq80, hF115, hq115, hx115, hF196, hq196]; done
                       · simp (disch := omega) only [gUp_ne2, gUp_eq2, hF26, hq26, hF56, hq56, hx56, hF80, hq80, hF115, hq115, hx115, hF196, hq196]; done
                       · simp (disch := omega) only [gUp_ne2, gUp_eq2, hF26, hq26, hF56, hq56, hx56, hF80, hq80, hF115, hq115, hx115, hF196, hq196]; done
                       · simp (disch := omega) only [gUp_ne2, gUp_eq2, hF26, hq26, hF56, hq56, hx56, hF80, hq80, hF115, hq115, hx115, hF196, hq196]; done
                       · rw [if_pos (by omega)]; simp (disch := omega) only [gUp_ne2, gUp_eq2, hF26, hq26, hF56, hq56, hx56, hF80, hq80, hF115, hq115, hx115, hF196, hq196]; done)
              · refine Gx_aload_n (i := 0) dX2_readsMore_162 rfl rfl ?_
                refine Gx_iload_n (i := 1) dX2_readsMore_163 rfl rfl ?_
                refine Gx_bipush dX2_readsMore_164 ⟨by decide, by decide⟩ ?_
                refine cl_X2_154 dX2_readsMore_166 rfl rfl ⟨(Nat.le_of_ble_eq_true rfl), (Nat.le_of_ble_eq_true rfl)⟩ rfl ?_
                refine ct_X2_signP (q0 := q115) hr hs115 hb115 hq115 (by omega) (fun v166 c166 hF166 hq166 hb166 hs166 => ?_) (fun v166 c166 hF166 hq166 hb166 hs166 => ?_)
                · refine Gx_if_eq (tgt := 188) dX2_readsMore_169 (by decide) (fun hz => absurd hz (by decide)) (fun _ => ?_)
                  refine Gx_aload_n (i := 0) dX2_readsMore_172 rfl rfl ?_
                  refine Gx_iload_n (i := 1) dX2_readsMore_173 rfl rfl ?_
                  refine Gx_iconst ⟨by decide, by decide⟩ dX2_readsMore_174 ?_
                  refine Gx_iconst ⟨by decide, by decide⟩ dX2_readsMore_175 ?_
                  refine Gx_bipush dX2_readsMore_176 ⟨by decide, by decide⟩ ?_
                  refine cl_X2_147 dX2_readsMore_178 rfl rfl ⟨(Nat.le_of_ble_eq_true rfl), (Nat.le_of_ble_eq_true rfl)⟩ rfl ?_
                  refine ct_X2_readsP (q0 := (q115 + 1)) (f := 2) hr hs166 hb166 hq166 (by omega) rfl (by omega) (fun q178 x178 v178 c178 b178 hF178 hq178 hx178 hb178 hs178 => ?_) (fun q178 x178 v178 hz178 c178 b178 hF178 hq178 hx178 hb178 hs178 => ?_)
                  · refine Gx_if_eq (tgt := 188) dX2_readsMore_181 (by decide) (fun hz => absurd hz (by decide)) (fun _ => ?_)
                    refine Gx_iconst ⟨by decide, by decide⟩ dX2_readsMore_184 ?_
                    refine Gx_goto (tgt := 219) dX2_readsMore_185 (by decide) ?_
                    refine Gx_istore_5 dX2_readsMore_219 (Nat.le_of_ble_eq_true rfl) (Nat.ne_of_beq_eq_false rfl) ?_
                    refine Gx_aload_n (i := 0) dX2_readsMore_221 rfl rfl ?_
                    refine gf_X2_29_22 dX2_readsMore_222 rfl rfl ?_
                    refine Gx_iload_n (i := 3) dX2_readsMore_225 rfl rfl ?_
                    refine Gx_bipush dX2_readsMore_226 ⟨by decide, by decide⟩ ?_
                    refine Gx_iadd dX2_readsMore_228 ?_
                    try simp (disch := omega) only [w32_id]
                    refine Gx_aload_n (i := 0) dX2_readsMore_229 rfl rfl ?_
                    refine gf_X2_138_22 dX2_readsMore_230 rfl rfl ?_
                    refine Gx_iastore dX2_readsMore_233 rfl (by first | omega | (simp (disch := omega) only [w32_id]; omega)) ?_
                    refine Gx_iload dX2_readsMore_234 rfl ?_
                    refine Gx_ireturn dX2_readsMore_236 (Or.inr rfl) ?_
                    first
                      | (exfalso; omega)
                      | (refine k0 q115 _ ?_ ?_ ?_
                         · simp [pMore, Bind.bind, Except.bind, Pure.pure, Except.pure, *]; done
                         · intro a j hn; simp (disch := omega) only [gUp_ne2, gUp_eq2, hF26, hq26, hF56, hq56, hx56, hF80, hq80, hF115, hq115, hx115, hF166, hq166, hF178, hq178, hx178]; done
                         · simp (disch := omega) only [gUp_ne2, gUp_eq2, hF26, hq26, hF56, hq56, hx56, hF80, hq80, hF115, hq115, hx115, hF166, hq166, hF178, hq178, hx178]; done)
                      | (refine k0 q178 _ ?_ ?_ ?_
                         · simp [pMore, Bind.bind, Except.bind, Pure.pure, Except.pure, *]; done
                         · intro a j hn; simp (disch := omega) only [gUp_ne2, gUp_eq2, hF26, hq26, hF56, hq56, hx56, hF80, hq80, hF115, hq115, hx115, hF166, hq166, hF178, hq178, hx178]; done
                         · simp (disch := omega) only [gUp_ne2, gUp_eq2, hF26, hq26, hF56, hq56, hx56, hF80, hq80, hF115, hq115, hx115, hF166, hq166, hF178, hq178, hx178]; done)
                      | (refine k0 q208 _ ?_ ?_ ?_
                         · simp [pMore, Bind.bind, Except.bind, Pure.pure, Except.pure, *]; done
                         · intro a j hn; simp (disch := omega) only [gUp_ne2, gUp_eq2, hF26, hq26, hF56, hq56, hx56, hF80, hq80, hF115, hq115, hx115, hF166, hq166, hF178, hq178, hx178]; done
                         · simp (disch := omega) only [gUp_ne2, gUp_eq2, hF26, hq26, hF56, hq56, hx56, hF80, hq80, hF115, hq115, hx115, hF166, hq166, hF178, hq178, hx178]; done)
                      | (refine k1 q115 x56 x115 0 _ ?_ ?_ ?_ ?_ ?_ ?_
                         · simp [pMore, Bind.bind, Except.bind, Pure.pure, Except.pure, *]; done
                         · intro a j hn; simp (disch := omega) only [gUp_ne2, gUp_eq2, hF26, hq26, hF56, hq56, hx56, hF80, hq80, hF115, hq115, hx115, hF166, hq166, hF178, hq178, hx178]; done
                         · simp (disch := omega) only [gUp_ne2, gUp_eq2, hF26, hq26, hF56, hq56, hx56, hF80, hq80, hF115, hq115, hx115, hF166, hq166, hF178, hq178, hx178]; done
                         · simp (disch := omega) only [gUp_ne2, gUp_eq2, hF26, hq26, hF56, hq56, hx56, hF80, hq80, hF115, hq115, hx115, hF166, hq166, hF178, hq178, hx178]; done
                         · simp (disch := omega) only [gUp_ne2, gUp_eq2, hF26, hq26, hF56, hq56, hx56, hF80, hq80, hF115, hq115, hx115, hF166, hq166, hF178, hq178, hx178]; done
                         · rw [if_neg (by omega)]; simp (disch := omega) only [gUp_ne2, gUp_eq2, hF26, hq26, hF56, hq56, hx56, hF80, hq80, hF115, hq115, hx115, hF166, hq166, hF178, hq178, hx178]; done)
                      | (refine k1 q178 x56 x115 x178 _ ?_ ?_ ?_ ?_ ?_ ?_
                         · simp [pMore, Bind.bind, Except.bind, Pure.pure, Except.pure, *]; done
                         · intro a j hn; simp (disch := omega) only [gUp_ne2, gUp_eq2, hF26, hq26, hF56, hq56, hx56, hF80, hq80, hF115, hq115, hx115, hF166, hq166, hF178, hq178, hx178]; done
                         · simp (disch := omega) only [gUp_ne2, gUp_eq2, hF26, hq26, hF56, hq56, hx56, hF80, hq80, hF115, hq115, hx115, hF166, hq166, hF178, hq178, hx178]; done
                         · simp (disch := omega) only [gUp_ne2, gUp_eq2, hF26, hq26, hF56, hq56, hx56, hF80, hq80, hF115, hq115, hx115, hF166, hq166, hF178, hq178, hx178]; done
                         · simp (disch := omega) only [gUp_ne2, gUp_eq2, hF26, hq26, hF56, hq56, hx56, hF80, hq80, hF115, hq115, hx115, hF166, hq166, hF178, hq178, hx178]; done
                         · rw [if_pos (by omega)]; simp (disch := omega) only [gUp_ne2, gUp_eq2, hF26, hq26, hF56, hq56, hx56, hF80, hq80, hF115, hq115, hx115, hF166, hq166, hF178, hq178, hx178]; done)
                      | (refine k1 q208 x56 x115 x208 _ ?_ ?_ ?_ ?_ ?_ ?_
                         · simp [pMore, Bind.bind, Except.bind, Pure.pure, Except.pure, *]; done
                         · intro a j hn; simp (disch := omega) only [gUp_ne2, gUp_eq2, hF26, hq26, hF56, hq56, hx56, hF80, hq80, hF115, hq115, hx115, hF166, hq166, hF178, hq178, hx178]; done
                         · simp (disch := omega) only [gUp_ne2, gUp_eq2, hF26, hq26, hF56, hq56, hx56, hF80, hq80, hF115, hq115, hx115, hF166, hq166, hF178, hq178, hx178]; done
                         · simp (disch := omega) only [gUp_ne2, gUp_eq2, hF26, hq26, hF56, hq56, hx56, hF80, hq80, hF115, hq115, hx115, hF166, hq166, hF178, hq178, hx178]; done
                         · simp (disch := omega) only [gUp_ne2, gUp_eq2, hF26, hq26, hF56, hq56, hx56, hF80, hq80, hF115, hq115, hx115, hF166, hq166, hF178, hq178, hx178]; done
                         · rw [if_pos (by omega)]; simp (disch := omega) only [gUp_ne2, gUp_eq2, hF26, hq26, hF56, hq56, hx56, hF80, hq80, hF115, hq115, hx115, hF166, hq166, hF178, hq178, hx178]; done)
                  · refine Gx_if_eq (tgt := 188) dX2_readsMore_181 (by decide) (fun _ => ?_) (fun hz => absurd hz (by decide))
                    refine Gx_iconst ⟨by decide, by decide⟩ dX2_readsMore_188 ?_
                    refine Gx_goto (tgt := 219) dX2_readsMore_189 (by decide) ?_
                    refine Gx_istore_5 dX2_readsMore_219 (Nat.le_of_ble_eq_true rfl) (Nat.ne_of_beq_eq_false rfl) ?_
                    refine Gx_aload_n (i := 0) dX2_readsMore_221 rfl rfl ?_
                    refine gf_X2_29_22 dX2_readsMore_222 rfl rfl ?_
                    refine Gx_iload_n (i := 3) dX2_readsMore_225 rfl rfl ?_
                    refine Gx_bipush dX2_readsMore_226 ⟨by decide, by decide⟩ ?_
                    refine Gx_iadd dX2_readsMore_228 ?_
                    try simp (disch := omega) only [w32_id]
                    refine Gx_aload_n (i := 0) dX2_readsMore_229 rfl rfl ?_
                    refine gf_X2_138_22 dX2_readsMore_230 rfl rfl ?_
                    refine Gx_iastore dX2_readsMore_233 rfl (by first | omega | (simp (disch := omega) only [w32_id]; omega)) ?_
                    refine Gx_iload dX2_readsMore_234 rfl ?_
                    refine Gx_ireturn dX2_readsMore_236 (Or.inl rfl) ?_
                    first
                      | (exfalso; omega)
                      | (refine k0 q115 _ ?_ ?_ ?_
                         · simp [pMore, Bind.bind, Except.bind, Pure.pure, Except.pure, *]; done
                         · intro a j hn; simp (disch := omega) only [gUp_ne2, gUp_eq2, hF26, hq26, hF56, hq56, hx56, hF80, hq80, hF115, hq115, hx115, hF166, hq166, hF178, hq178, hx178]; done
                         · simp (disch := omega) only [gUp_ne2, gUp_eq2, hF26, hq26, hF56, hq56, hx56, hF80, hq80, hF115, hq115, hx115, hF166, hq166, hF178, hq178, hx178]; done)
                      | (refine k0 q178 _ ?_ ?_ ?_
                         · simp [pMore, Bind.bind, Except.bind, Pure.pure, Except.pure, *]; done
                         · intro a j hn; simp (disch := omega) only [gUp_ne2, gUp_eq2, hF26, hq26, hF56, hq56, hx56, hF80, hq80, hF115, hq115, hx115, hF166, hq166, hF178, hq178, hx178]; done
                         · simp (disch := omega) only [gUp_ne2, gUp_eq2, hF26, hq26, hF56, hq56, hx56, hF80, hq80, hF115, hq115, hx115, hF166, hq166, hF178, hq178, hx178]; done)
                      | (refine k0 q208 _ ?_ ?_ ?_
                         · simp [pMore, Bind.bind, Except.bind, Pure.pure, Except.pure, *]; done
                         · intro a j hn; simp (disch := omega) only [gUp_ne2, gUp_eq2, hF26, hq26, hF56, hq56, hx56, hF80, hq80, hF115, hq115, hx115, hF166, hq166, hF178, hq178, hx178]; done
                         · simp (disch := omega) only [gUp_ne2, gUp_eq2, hF26, hq26, hF56, hq56, hx56, hF80, hq80, hF115, hq115, hx115, hF166, hq166, hF178, hq178, hx178]; done)
                      | (refine k1 q115 x56 x115 0 _ ?_ ?_ ?_ ?_ ?_ ?_
                         · simp [pMore, Bind.bind, Except.bind, Pure.pure, Except.pure, *]; done
                         · intro a j hn; simp (disch := omega) only [gUp_ne2, gUp_eq2, hF26, hq26, hF56, hq56, hx56, hF80, hq80, hF115, hq115, hx115, hF166, hq166, hF178, hq178, hx178]; done
                         · simp (disch := omega) only [gUp_ne2, gUp_eq2, hF26, hq26, hF56, hq56, hx56, hF80, hq80, hF115, hq115, hx115, hF166, hq166, hF178, hq178, hx178]; done
                         · simp (disch := omega) only [gUp_ne2, gUp_eq2, hF26, hq26, hF56, hq56, hx56, hF80, hq80, hF115, hq115, hx115, hF166, hq166, hF178, hq178, hx178]; done
                         · simp (disch := omega) only [gUp_ne2, gUp_eq2, hF26, hq26, hF56, hq56, hx56, hF80, hq80, hF115, hq115, hx115, hF166, hq166, hF178, hq178, hx178]; done
                         · rw [if_neg (by omega)]; simp (disch := omega) only [gUp_ne2, gUp_eq2, hF26, hq26, hF56, hq56, hx56, hF80, hq80, hF115, hq115, hx115, hF166, hq166, hF178, hq178, hx178]; done)
                      | (refine k1 q178 x56 x115 x178 _ ?_ ?_ ?_ ?_ ?_ ?_
                         · simp [pMore, Bind.bind, Except.bind, Pure.pure, Except.pure, *]; done
                         · intro a j hn; simp (disch := omega) only [gUp_ne2, gUp_eq2, hF26, hq26, hF56, hq56, hx56, hF80, hq80, hF115, hq115, hx115, hF166, hq166, hF178, hq178, hx178]; done
                         · simp (disch := omega) only [gUp_ne2, gUp_eq2, hF26, hq26, hF56, hq56, hx56, hF80, hq80, hF115, hq115, hx115, hF166, hq166, hF178, hq178, hx178]; done
                         · simp (disch := omega) only [gUp_ne2, gUp_eq2, hF26, hq26, hF56, hq56, hx56, hF80, hq80, hF115, hq115, hx115, hF166, hq166, hF178, hq178, hx178]; done
                         · simp (disch := omega) only [gUp_ne2, gUp_eq2, hF26, hq26, hF56, hq56, hx56, hF80, hq80, hF115, hq115, hx115, hF166, hq166, hF178, hq178, hx178]; done
                         · rw [if_pos (by omega)]; simp (disch := omega) only [gUp_ne2, gUp_eq2, hF26, hq26, hF56, hq56, hx56, hF80, hq80, hF115, hq115, hx115, hF166, hq166, hF178, hq178, hx178]; done)
                      | (refine k1 q208 x56 x115 x208 _ ?_ ?_ ?_ ?_ ?_ ?_
                         · simp [pMore, Bind.bind, Except.bind, Pure.pure, Except.pure, *]; done
                         · intro a j hn; simp (disch := omega) only [gUp_ne2, gUp_eq2, hF26, hq26, hF56, hq56, hx56, hF80, hq80, hF115, hq115, hx115, hF166, hq166, hF178, hq178, hx178]; done
                         · simp (disch := omega) only [gUp_ne2, gUp_eq2, hF26, hq26, hF56, hq56, hx56, hF80, hq80, hF115, hq115, hx115, hF166, hq166, hF178, hq178, hx178]; done
                         · simp (disch := omega) only [gUp_ne2, gUp_eq2, hF26, hq26, hF56, hq56, hx56, hF80, hq80, hF115, hq115, hx115, hF166, hq166, hF178, hq178, hx178]; done
                         · simp (disch := omega) only [gUp_ne2, gUp_eq2, hF26, hq26, hF56, hq56, hx56, hF80, hq80, hF115, hq115, hx115, hF166, hq166, hF178, hq178, hx178]; done
                         · rw [if_pos (by omega)]; simp (disch := omega) only [gUp_ne2, gUp_eq2, hF26, hq26, hF56, hq56, hx56, hF80, hq80, hF115, hq115, hx115, hF166, hq166, hF178, hq178, hx178]; done)
                · refine Gx_if_eq (tgt := 188) dX2_readsMore_169 (by decide) (fun _ => ?_) (fun hz => absurd hz (by decide))
                  refine Gx_iconst ⟨by decide, by decide⟩ dX2_readsMore_188 ?_
                  refine Gx_goto (tgt := 219) dX2_readsMore_189 (by decide) ?_
                  refine Gx_istore_5 dX2_readsMore_219 (Nat.le_of_ble_eq_true rfl) (Nat.ne_of_beq_eq_false rfl) ?_
                  refine Gx_aload_n (i := 0) dX2_readsMore_221 rfl rfl ?_
                  refine gf_X2_29_22 dX2_readsMore_222 rfl rfl ?_
                  refine Gx_iload_n (i := 3) dX2_readsMore_225 rfl rfl ?_
                  refine Gx_bipush dX2_readsMore_226 ⟨by decide, by decide⟩ ?_
                  refine Gx_iadd dX2_readsMore_228 ?_
                  try simp (disch := omega) only [w32_id]
                  refine Gx_aload_n (i := 0) dX2_readsMore_229 rfl rfl ?_
                  refine gf_X2_138_22 dX2_readsMore_230 rfl rfl ?_
                  refine Gx_iastore dX2_readsMore_233 rfl (by first | omega | (simp (disch := omega) only [w32_id]; omega)) ?_
                  refine Gx_iload dX2_readsMore_234 rfl ?_
                  refine Gx_ireturn dX2_readsMore_236 (Or.inl rfl) ?_
                  first
                    | (exfalso; omega)
                    | (refine k0 q115 _ ?_ ?_ ?_
                       · simp [pMore, Bind.bind, Except.bind, Pure.pure, Except.pure, *]; done
                       · intro a j hn; simp (disch := omega) only [gUp_ne2, gUp_eq2, hF26, hq26, hF56, hq56, hx56, hF80, hq80, hF115, hq115, hx115, hF166, hq166]; done
                       · simp (disch := omega) only [gUp_ne2, gUp_eq2, hF26, hq26, hF56, hq56, hx56, hF80, hq80, hF115, hq115, hx115, hF166, hq166]; done)
                    | (refine k0 q178 _ ?_ ?_ ?_
                       · simp [pMore, Bind.bind, Except.bind, Pure.pure, Except.pure, *]; done
                       · intro a j hn; simp (disch := omega) only [gUp_ne2, gUp_eq2, hF26, hq26, hF56, hq56, hx56, hF80, hq80, hF115, hq115, hx115, hF166, hq166]; done
                       · simp (disch := omega) only [gUp_ne2, gUp_eq2, hF26, hq26, hF56, hq56, hx56, hF80, hq80, hF115, hq115, hx115, hF166, hq166]; done)
                    | (refine k0 q208 _ ?_ ?_ ?_
                       · simp [pMore, Bind.bind, Except.bind, Pure.pure, Except.pure, *]; done
                       · intro a j hn; simp (disch := omega) only [gUp_ne2, gUp_eq2, hF26, hq26, hF56, hq56, hx56, hF80, hq80, hF115, hq115, hx115, hF166, hq166]; done
                       · simp (disch := omega) only [gUp_ne2, gUp_eq2, hF26, hq26, hF56, hq56, hx56, hF80, hq80, hF115, hq115, hx115, hF166, hq166]; done)
                    | (refine k1 q115 x56 x115 0 _ ?_ ?_ ?_ ?_ ?_ ?_
                       · simp [pMore, Bind.bind, Except.bind, Pure.pure, Except.pure, *]; done
                       · intro a j hn; simp (disch := omega) only [gUp_ne2, gUp_eq2, hF26, hq26, hF56, hq56, hx56, hF80, hq80, hF115, hq115, hx115, hF166, hq166]; done
                       · simp (disch := omega) only [gUp_ne2, gUp_eq2, hF26, hq26, hF56, hq56, hx56, hF80, hq80, hF115, hq115, hx115, hF166, hq166]; done
                       · simp (disch := omega) only [gUp_ne2, gUp_eq2, hF26, hq26, hF56, hq56, hx56, hF80, hq80, hF115, hq115, hx115, hF166, hq166]; done
                       · simp (disch := omega) only [gUp_ne2, gUp_eq2, hF26, hq26, hF56, hq56, hx56, hF80, hq80, hF115, hq115, hx115, hF166, hq166]; done
                       · rw [if_neg (by omega)]; simp (disch := omega) only [gUp_ne2, gUp_eq2, hF26, hq26, hF56, hq56, hx56, hF80, hq80, hF115, hq115, hx115, hF166, hq166]; done)
                    | (refine k1 q178 x56 x115 x178 _ ?_ ?_ ?_ ?_ ?_ ?_
                       · simp [pMore, Bind.bind, Except.bind, Pure.pure, Except.pure, *]; done
                       · intro a j hn; simp (disch := omega) only [gUp_ne2, gUp_eq2, hF26, hq26, hF56, hq56, hx56, hF80, hq80, hF115, hq115, hx115, hF166, hq166]; done
                       · simp (disch := omega) only [gUp_ne2, gUp_eq2, hF26, hq26, hF56, hq56, hx56, hF80, hq80, hF115, hq115, hx115, hF166, hq166]; done
                       · simp (disch := omega) only [gUp_ne2, gUp_eq2, hF26, hq26, hF56, hq56, hx56, hF80, hq80, hF115, hq115, hx115, hF166, hq166]; done
                       · simp (disch := omega) only [gUp_ne2, gUp_eq2, hF26, hq26, hF56, hq56, hx56, hF80, hq80, hF115, hq115, hx115, hF166, hq166]; done
                       · rw [if_pos (by omega)]; simp (disch := omega) only [gUp_ne2, gUp_eq2, hF26, hq26, hF56, hq56, hx56, hF80, hq80, hF115, hq115, hx115, hF166, hq166]; done)
                    | (refine k1 q208 x56 x115 x208 _ ?_ ?_ ?_ ?_ ?_ ?_
                       · simp [pMore, Bind.bind, Except.bind, Pure.pure, Except.pure, *]; done
                       · intro a j hn; simp (disch := omega) only [gUp_ne2, gUp_eq2, hF26, hq26, hF56, hq56, hx56, hF80, hq80, hF115, hq115, hx115, hF166, hq166]; done
                       · simp (disch := omega) only [gUp_ne2, gUp_eq2, hF26, hq26, hF56, hq56, hx56, hF80, hq80, hF115, hq115, hx115, hF166, hq166]; done
                       · simp (disch := omega) only [gUp_ne2, gUp_eq2, hF26, hq26, hF56, hq56, hx56, hF80, hq80, hF115, hq115, hx115, hF166, hq166]; done
                       · simp (disch := omega) only [gUp_ne2, gUp_eq2, hF26, hq26, hF56, hq56, hx56, hF80, hq80, hF115, hq115, hx115, hF166, hq166]; done
                       · rw [if_pos (by omega)]; simp (disch := omega) only [gUp_ne2, gUp_eq2, hF26, hq26, hF56, hq56, hx56, hF80, hq80, hF115, hq115, hx115, hF166, hq166]; done)
            · refine Gx_iload_n (i := 2) dX2_readsMore_140 rfl rfl ?_
              refine Gx_iconst ⟨by decide, by decide⟩ dX2_readsMore_141 ?_
              refine Gx_icmp_eq (tgt := 149) dX2_readsMore_142 (by decide) (fun c142 => ?_) (fun c142 => ?_)
              · refine Gx_iconst ⟨by decide, by decide⟩ dX2_readsMore_149 ?_
                refine Gx_istore_5 dX2_readsMore_150 (Nat.le_of_ble_eq_true rfl) (Nat.ne_of_beq_eq_false rfl) ?_
                refine Gx_iload dX2_readsMore_152 rfl ?_
                refine Gx_if_ne (tgt := 234) dX2_readsMore_154 (by decide) (fun hz => absurd hz (by decide)) (fun _ => ?_)
                refine Gx_iload_n (i := 2) dX2_readsMore_157 rfl rfl ?_
                refine Gx_iconst ⟨by decide, by decide⟩ dX2_readsMore_158 ?_
                refine Gx_icmp_ne (tgt := 192) dX2_readsMore_159 (by decide) (fun c159 => ?_) (fun c159 => ?_)
                · refine Gx_aload_n (i := 0) dX2_readsMore_192 rfl rfl ?_
                  refine Gx_iload_n (i := 1) dX2_readsMore_193 rfl rfl ?_
                  refine Gx_bipush dX2_readsMore_194 ⟨by decide, by decide⟩ ?_
                  refine cl_X2_154 dX2_readsMore_196 rfl rfl ⟨(Nat.le_of_ble_eq_true rfl), (Nat.le_of_ble_eq_true rfl)⟩ rfl ?_
                  refine ct_X2_signP (q0 := q115) hr hs115 hb115 hq115 (by omega) (fun v196 c196 hF196 hq196 hb196 hs196 => ?_) (fun v196 c196 hF196 hq196 hb196 hs196 => ?_)
                  · refine Gx_if_eq (tgt := 218) dX2_readsMore_199 (by decide) (fun hz => absurd hz (by decide)) (fun _ => ?_)
                    refine Gx_aload_n (i := 0) dX2_readsMore_202 rfl rfl ?_
                    refine Gx_iload_n (i := 1) dX2_readsMore_203 rfl rfl ?_
                    refine Gx_iconst ⟨by decide, by decide⟩ dX2_readsMore_204 ?_
                    refine Gx_iconst ⟨by decide, by decide⟩ dX2_readsMore_205 ?_
                    refine Gx_bipush dX2_readsMore_206 ⟨by decide, by decide⟩ ?_
                    refine cl_X2_147 dX2_readsMore_208 rfl rfl ⟨(Nat.le_of_ble_eq_true rfl), (Nat.le_of_ble_eq_true rfl)⟩ rfl ?_
                    refine ct_X2_readsP (q0 := (q115 + 1)) (f := 1) hr hs196 hb196 hq196 (by omega) rfl (by omega) (fun q208 x208 v208 c208 b208 hF208 hq208 hx208 hb208 hs208 => ?_) (fun q208 x208 v208 hz208 c208 b208 hF208 hq208 hx208 hb208 hs208 => ?_)
                    · refine Gx_if_eq (tgt := 218) dX2_readsMore_211 (by decide) (fun hz => absurd hz (by decide)) (fun _ => ?_)
                      refine Gx_iconst ⟨by decide, by decide⟩ dX2_readsMore_214 ?_
                      refine Gx_goto (tgt := 219) dX2_readsMore_215 (by decide) ?_
                      refine Gx_istore_5 dX2_readsMore_219 (Nat.le_of_ble_eq_true rfl) (Nat.ne_of_beq_eq_false rfl) ?_
                      refine Gx_aload_n (i := 0) dX2_readsMore_221 rfl rfl ?_
                      refine gf_X2_29_22 dX2_readsMore_222 rfl rfl ?_
                      refine Gx_iload_n (i := 3) dX2_readsMore_225 rfl rfl ?_
                      refine Gx_bipush dX2_readsMore_226 ⟨by decide, by decide⟩ ?_
                      refine Gx_iadd dX2_readsMore_228 ?_
                      try simp (disch := omega) only [w32_id]
                      refine Gx_aload_n (i := 0) dX2_readsMore_229 rfl rfl ?_
                      refine gf_X2_138_22 dX2_readsMore_230 rfl rfl ?_
                      refine Gx_iastore dX2_readsMore_233 rfl (by first | omega | (simp (disch := omega) only [w32_id]; omega)) ?_
                      refine Gx_iload dX2_readsMore_234 rfl ?_
                      refine Gx_ireturn dX2_readsMore_236 (Or.inr rfl) ?_
                      first
                        | (exfalso; omega)
                        | (refine k0 q115 _ ?_ ?_ ?_
                           · simp [pMore, Bind.bind, Except.bind, Pure.pure, Except.pure, *]; done
                           · intro a j hn; simp (disch := omega) only [gUp_ne2, gUp_eq2, hF26, hq26, hF56, hq56, hx56, hF80, hq80, hF115, hq115, hx115, hF196, hq196, hF208, hq208, hx208]; done
                           · simp (disch := omega) only [gUp_ne2, gUp_eq2, hF26, hq26, hF56, hq56, hx56, hF80, hq80, hF115, hq115, hx115, hF196, hq196, hF208, hq208, hx208]; done)
                        | (refine k0 q178 _ ?_ ?_ ?_
                           · simp [pMore, Bind.bind, Except.bind, Pure.pure, Except.pure, *]; done
                           · intro a j hn; simp (disch := omega) only [gUp_ne2, gUp_eq2, hF26, hq26, hF56, hq56, hx56, hF80, hq80, hF115, hq115, hx115, hF196, hq196, hF208, hq208, hx208]; done
                           · simp (disch := omega) only [gUp_ne2, gUp_eq2, hF26, hq26, hF56, hq56, hx56, hF80, hq80, hF115, hq115, hx115, hF196, hq196, hF208, hq208, hx208]; done)
                        | (refine k0 q208 _ ?_ ?_ ?_
                           · simp [pMore, Bind.bind, Except.bind, Pure.pure, Except.pure, *]; done
                           · intro a j hn; simp (disch := omega) only [gUp_ne2, gUp_eq2, hF26, hq26, hF56, hq56, hx56, hF80, hq80, hF115, hq115, hx115, hF196, hq196, hF208, hq208, hx208]; done
                           · simp (disch := omega) only [gUp_ne2, gUp_eq2, hF26, hq26, hF56, hq56, hx56, hF80, hq80, hF115, hq115, hx115, hF196, hq196, hF208, hq208, hx208]; done)
                        | (refine k1 q115 x56 x115 0 _ ?_ ?_ ?_ ?_ ?_ ?_
                           · simp [pMore, Bind.bind, Except.bind, Pure.pure, Except.pure, *]; done
                           · intro a j hn; simp (disch := omega) only [gUp_ne2, gUp_eq2, hF26, hq26, hF56, hq56, hx56, hF80, hq80, hF115, hq115, hx115, hF196, hq196, hF208, hq208, hx208]; done
                           · simp (disch := omega) only [gUp_ne2, gUp_eq2, hF26, hq26, hF56, hq56, hx56, hF80, hq80, hF115, hq115, hx115, hF196, hq196, hF208, hq208, hx208]; done
                           · simp (disch := omega) only [gUp_ne2, gUp_eq2, hF26, hq26, hF56, hq56, hx56, hF80, hq80, hF115, hq115, hx115, hF196, hq196, hF208, hq208, hx208]; done
                           · simp (disch := omega) only [gUp_ne2, gUp_eq2, hF26, hq26, hF56, hq56, hx56, hF80, hq80, hF115, hq115, hx115, hF196, hq196, hF208, hq208, hx208]; done
                           · rw [if_neg (by omega)]; simp (disch := omega) only [gUp_ne2, gUp_eq2, hF26, hq26, hF56, hq56, hx56, hF80, hq80, hF115, hq115, hx115, hF196, hq196, hF208, hq208, hx208]; done)
                        | (refine k1 q178 x56 x115 x178 _ ?_ ?_ ?_ ?_ ?_ ?_
                           · simp [pMore, Bind.bind, Except.bind, Pure.pure, Except.pure, *]; done
                           · intro a j hn; simp (disch := omega) only [gUp_ne2, gUp_eq2, hF26, hq26, hF56, hq56, hx56, hF80, hq80, hF115, hq115, hx115, hF196, hq196, hF208, hq208, hx208]; done
                           · simp (disch := omega) only [gUp_ne2, gUp_eq2, hF26, hq26, hF56, hq56, hx56, hF80, hq80, hF115, hq115, hx115, hF196, hq196, hF208, hq208, hx208]; done
                           · simp (disch := omega) only [gUp_ne2, gUp_eq2, hF26, hq26, hF56, hq56, hx56, hF80, hq80, hF115, hq115, hx115, hF196, hq196, hF208, hq208, hx208]; done
                           · simp (disch := omega) only [gUp_ne2, gUp_eq2, hF26, hq26, hF56, hq56, hx56, hF80, hq80, hF115, hq115, hx115, hF196, hq196, hF208, hq208, hx208]; done
                           · rw [if_pos (by omega)]; simp (disch := omega) only [gUp_ne2, gUp_eq2, hF26, hq26, hF56, hq56, hx56, hF80, hq80, hF115, hq115, hx115, hF196, hq196, hF208, hq208, hx208]; done)
                        | (refine k1 q208 x56 x115 x208 _ ?_ ?_ ?_ ?_ ?_ ?_
                           · simp [pMore, Bind.bind, Except.bind, Pure.pure, Except.pure, *]; done
                           · intro a j hn; simp (disch := omega) only [gUp_ne2, gUp_eq2, hF26, hq26, hF56, hq56, hx56, hF80, hq80, hF115, hq115, hx115, hF196, hq196, hF208, hq208, hx208]; done
                           · simp (disch := omega) only [gUp_ne2, gUp_eq2, hF26, hq26, hF56, hq56, hx56, hF80, hq80, hF115, hq115, hx115, hF196, hq196, hF208, hq208, hx208]; done
                           · simp (disch := omega) only [gUp_ne2, gUp_eq2, hF26, hq26, hF56, hq56, hx56, hF80, hq80, hF115, hq115, hx115, hF196, hq196, hF208, hq208, hx208]; done
                           · simp (disch := omega) only [gUp_ne2, gUp_eq2, hF26, hq26, hF56, hq56, hx56, hF80, hq80, hF115, hq115, hx115, hF196, hq196, hF208, hq208, hx208]; done
                           · rw [if_pos (by omega)]; simp (disch := omega) only [gUp_ne2, gUp_eq2, hF26, hq26, hF56, hq56, hx56, hF80, hq80, hF115, hq115, hx115, hF196, hq196, hF208, hq208, hx208]; done)
                    · refine Gx_if_eq (tgt := 218) dX2_readsMore_211 (by decide) (fun _ => ?_) (fun hz => absurd hz (by decide))
                      refine Gx_iconst ⟨by decide, by decide⟩ dX2_readsMore_218 ?_
                      refine Gx_istore_5 dX2_readsMore_219 (Nat.le_of_ble_eq_true rfl) (Nat.ne_of_beq_eq_false rfl) ?_
                      refine Gx_aload_n (i := 0) dX2_readsMore_221 rfl rfl ?_
                      refine gf_X2_29_22 dX2_readsMore_222 rfl rfl ?_
                      refine Gx_iload_n (i := 3) dX2_readsMore_225 rfl rfl ?_
                      refine Gx_bipush dX2_readsMore_226 ⟨by decide, by decide⟩ ?_
                      refine Gx_iadd dX2_readsMore_228 ?_
                      try simp (disch := omega) only [w32_id]
                      refine Gx_aload_n (i := 0) dX2_readsMore_229 rfl rfl ?_
                      refine gf_X2_138_22 dX2_readsMore_230 rfl rfl ?_
                      refine Gx_iastore dX2_readsMore_233 rfl (by first | omega | (simp (disch := omega) only [w32_id]; omega)) ?_
                      refine Gx_iload dX2_readsMore_234 rfl ?_
                      refine Gx_ireturn dX2_readsMore_236 (Or.inl rfl) ?_
                      first
                        | (exfalso; omega)
                        | (refine k0 q115 _ ?_ ?_ ?_
                           · simp [pMore, Bind.bind, Except.bind, Pure.pure, Except.pure, *]; done
                           · intro a j hn; simp (disch := omega) only [gUp_ne2, gUp_eq2, hF26, hq26, hF56, hq56, hx56, hF80, hq80, hF115, hq115, hx115, hF196, hq196, hF208, hq208, hx208]; done
                           · simp (disch := omega) only [gUp_ne2, gUp_eq2, hF26, hq26, hF56, hq56, hx56, hF80, hq80, hF115, hq115, hx115, hF196, hq196, hF208, hq208, hx208]; done)
                        | (refine k0 q178 _ ?_ ?_ ?_
                           · simp [pMore, Bind.bind, Except.bind, Pure.pure, Except.pure, *]; done
                           · intro a j hn; simp (disch := omega) only [gUp_ne2, gUp_eq2, hF26, hq26, hF56, hq56, hx56, hF80, hq80, hF115, hq115, hx115, hF196, hq196, hF208, hq208, hx208]; done
                           · simp (disch := omega) only [gUp_ne2, gUp_eq2, hF26, hq26, hF56, hq56, hx56, hF80, hq80, hF115, hq115, hx115, hF196, hq196, hF208, hq208, hx208]; done)
                        | (refine k0 q208 _ ?_ ?_ ?_
                           · simp [pMore, Bind.bind, Except.bind, Pure.pure, Except.pure, *]; done
                           · intro a j hn; simp (disch := omega) only [gUp_ne2, gUp_eq2, hF26, hq26, hF56, hq56, hx56, hF80, hq80, hF115, hq115, hx115, hF196, hq196, hF208, hq208, hx208]; done
                           · simp (disch := omega) only [gUp_ne2, gUp_eq2, hF26, hq26, hF56, hq56, hx56, hF80, hq80, hF115, hq115, hx115, hF196, hq196, hF208, hq208, hx208]; done)
                        | (refine k1 q115 x56 x115 0 _ ?_ ?_ ?_ ?_ ?_ ?_
                           · simp [pMore, Bind.bind, Except.bind, Pure.pure, Except.pure, *]; done
                           · intro a j hn; simp (disch := omega) only [gUp_ne2, gUp_eq2, hF26, hq26, hF56, hq56, hx56, hF80, hq80, hF115, hq115, hx115, hF196, hq196, hF208, hq208, hx208]; done
                           · simp (disch := omega) only [gUp_ne2, gUp_eq2, hF26, hq26, hF56, hq56, hx56, hF80, hq80, hF115, hq115, hx115, hF196, hq196, hF208, hq208, hx208]; done
                           · simp (disch := omega) only [gUp_ne2, gUp_eq2, hF26, hq26, hF56, hq56, hx56, hF80, hq80, hF115, hq115, hx115, hF196, hq196, hF208, hq208, hx208]; done
                           · simp (disch := omega) only [gUp_ne2, gUp_eq2, hF26, hq26, hF56, hq56, hx56, hF80, hq80, hF115, hq115, hx115, hF196, hq196, hF208, hq208, hx208]; done
                           · rw [if_neg (by omega)]; simp (disch := omega) only [gUp_ne2, gUp_eq2, hF26, hq26, hF56, hq56, hx56, hF80, hq80, hF115, hq115, hx115, hF196, hq196, hF208, hq208, hx208]; done)
                        | (refine k1 q178 x56 x115 x178 _ ?_ ?_ ?_ ?_ ?_ ?_
                           · simp [pMore, Bind.bind, Except.bind, Pure.pure, Except.pure, *]; done
                           · intro a j hn; simp (disch := omega) only [gUp_ne2, gUp_eq2, hF26, hq26, hF56, hq56, hx56, hF80, hq80, hF115, hq115, hx115, hF196, hq196, hF208, hq208, hx208]; done
                           · simp (disch := omega) only [gUp_ne2, gUp_eq2, hF26, hq26, hF56, hq56, hx56, hF80, hq80, hF115, hq115, hx115, hF196, hq196, hF208, hq208, hx208]; done
                           · simp (disch := omega) only [gUp_ne2, gUp_eq2, hF26, hq26, hF56, hq56, hx56, hF80, hq80, hF115, hq115, hx115, hF196, hq196, hF208, hq208, hx208]; done
                           · simp (disch := omega) only [gUp_ne2, gUp_eq2, hF26, hq26, hF56, hq56, hx56, hF80, hq80, hF115, hq115, hx115, hF196, hq196, hF208, hq208, hx208]; done
                           · rw [if_pos (by omega)]; simp (disch := omega) only [gUp_ne2, gUp_eq2, hF26, hq26, hF56, hq56, hx56, hF80, hq80, hF115, hq115, hx115, hF196, hq196, hF208, hq208, hx208]; done)
                        | (refine k1 q208 x56 x115 x208 _ ?_ ?_ ?_ ?_ ?_ ?_
                           · simp [pMore, Bind.bind, Except.bind, Pure.pure, Except.pure, *]; done
                           · intro a j hn; simp (disch := omega) only [gUp_ne2, gUp_eq2, hF26, hq26, hF56, hq56, hx56, hF80, hq80, hF115, hq115, hx115, hF196, hq196, hF208, hq208, hx208]; done
                           · simp (disch := omega) only [gUp_ne2, gUp_eq2, hF26, hq26, hF56, hq56, hx56, hF80, hq80, hF115, hq115, hx115, hF196, hq196, hF208, hq208, hx208]; done
                           · simp (disch := omega) only [gUp_ne2, gUp_eq2, hF26, hq26, hF56, hq56, hx56, hF80, hq80, hF115, hq115, hx115, hF196, hq196, hF208, hq208, hx208]; done
                           · simp (disch := omega) only [gUp_ne2, gUp_eq2, hF26, hq26, hF56, hq56, hx56, hF80, hq80, hF115, hq115, hx115, hF196, hq196, hF208, hq208, hx208]; done
                           · rw [if_pos (by omega)]; simp (disch := omega) only [gUp_ne2, gUp_eq2, hF26, hq26, hF56, hq56, hx56, hF80, hq80, hF115, hq115, hx115, hF196, hq196, hF208, hq208, hx208]; done)
                  · refine Gx_if_eq (tgt := 218) dX2_readsMore_199 (by decide) (fun _ => ?_) (fun hz => absurd hz (by decide))
                    refine Gx_iconst ⟨by decide, by decide⟩ dX2_readsMore_218 ?_
                    refine Gx_istore_5 dX2_readsMore_219 (Nat.le_of_ble_eq_true rfl) (Nat.ne_of_beq_eq_false rfl) ?_
                    refine Gx_aload_n (i := 0) dX2_readsMore_221 rfl rfl ?_
                    refine gf_X2_29_22 dX2_readsMore_222 rfl rfl ?_
                    refine Gx_iload_n (i := 3) dX2_readsMore_225 rfl rfl ?_
                    refine Gx_bipush dX2_readsMore_226 ⟨by decide, by decide⟩ ?_
                    refine Gx_iadd dX2_readsMore_228 ?_
                    try simp (disch := omega) only [w32_id]
                    refine Gx_aload_n (i := 0) dX2_readsMore_229 rfl rfl ?_
                    refine gf_X2_138_22 dX2_readsMore_230 rfl rfl ?_
                    refine Gx_iastore dX2_readsMore_233 rfl (by first | omega | (simp (disch := omega) only [w32_id]; omega)) ?_
                    refine Gx_iload dX2_readsMore_234 rfl ?_
                    refine Gx_ireturn dX2_readsMore_236 (Or.inl rfl) ?_
                    first
                      | (exfalso; omega)
                      | (refine k0 q115 _ ?_ ?_ ?_
                         · simp [pMore, Bind.bind, Except.bind, Pure.pure, Except.pure, *]; done
                         · intro a j hn; simp (disch := omega) only [gUp_ne2, gUp_eq2, hF26, hq26, hF56, hq56, hx56, hF80, hq80, hF115, hq115, hx115, hF196, hq196]; done
                         · simp (disch := omega) only [gUp_ne2, gUp_eq2, hF26, hq26, hF56, hq56, hx56, hF80, hq80, hF115, hq115, hx115, hF196, hq196]; done)
                      | (refine k0 q178 _ ?_ ?_ ?_
                         · simp [pMore, Bind.bind, Except.bind, Pure.pure, Except.pure, *]; done
                         · intro a j hn; simp (disch := omega) only [gUp_ne2, gUp_eq2, hF26, hq26, hF56, hq56, hx56, hF80, hq80, hF115, hq115, hx115, hF196, hq196]; done
                         · simp (disch := omega) only [gUp_ne2, gUp_eq2, hF26, hq26, hF56, hq56, hx56, hF80, hq80, hF115, hq115, hx115, hF196, hq196]; done)
                      | (refine k0 q208 _ ?_ ?_ ?_
                         · simp [pMore, Bind.bind, Except.bind, Pure.pure, Except.pure, *]; done
                         · intro a j hn; simp (disch := omega) only [gUp_ne2, gUp_eq2, hF26, hq26, hF56, hq56, hx56, hF80, hq80, hF115, hq115, hx115, hF196, hq196]; done
                         · simp (disch := omega) only [gUp_ne2, gUp_eq2, hF26, hq26, hF56, hq56, hx56, hF80, hq80, hF115, hq115, hx115, hF196, hq196]; done)
                      | (refine k1 q115 x56 x115 0 _ ?_ ?_ ?_ ?_ ?_ ?_
                         · simp [pMore, Bind.bind, Except.bind, Pure.pure, Except.pure, *]; done
                         · intro a j hn; simp (disch := omega) only [gUp_ne2, gUp_eq2, hF26, hq26, hF56, hq56, hx56, hF80, hq80, hF115, hq115, hx115, hF196, hq196]; done
                         · simp (disch := omega) only [gUp_ne2, gUp_eq2, hF26, hq26, hF56, hq56, hx56, hF80, hq80, hF115, hq115, hx115, hF196, hq196]; done
                         · simp (disch := omega) only [gUp_ne2, gUp_eq2, hF26, hq26, hF56, hq56, hx56, hF80, hq80, hF115, hq115, hx115, hF196, hq196]; done
                         · simp (disch := omega) only [gUp_ne2, gUp_eq2, hF26, hq26, hF56, hq56, hx56, hF80, hq80, hF115, hq115, hx115, hF196, hq196]; done
                         · rw [if_neg (by omega)]; simp (disch := omega) only [gUp_ne2, gUp_eq2, hF26, hq26, hF56, hq56, hx56, hF80, hq80, hF115, hq115, hx115, hF196, hq196]; done)
                      | (refine k1 q178 x56 x115 x178 _ ?_ ?_ ?_ ?_ ?_ ?_
                         · simp [pMore, Bind.bind, Except.bind, Pure.pure, Except.pure, *]; done
                         · intro a j hn; simp (disch := omega) only [gUp_ne2, gUp_eq2, hF26, hq26, hF56, hq56, hx56, hF80, hq80, hF115, hq115, hx115, hF196, hq196]; done
                         · simp (disch := omega) only [gUp_ne2, gUp_eq2, hF26, hq26, hF56, hq56, hx56, hF80, hq80, hF115, hq115, hx115, hF196, hq196]; done
                         · simp (disch := omega) only [gUp_ne2, gUp_eq2, hF26, hq26, hF56, hq56, hx56, hF80, hq80, hF115, hq115, hx115, hF196, hq196]; done
                         · simp (disch := omega) only [gUp_ne2, gUp_eq2, hF26, hq26, hF56, hq56, hx56, hF80, hq80, hF115, hq115, hx115, hF196, hq196]; done
                         · rw [if_pos (by omega)]; simp (disch := omega) only [gUp_ne2, gUp_eq2, hF26, hq26, hF56, hq56, hx56, hF80, hq80, hF115, hq115, hx115, hF196, hq196]; done)
                      | (refine k1 q208 x56 x115 x208 _ ?_ ?_ ?_ ?_ ?_ ?_
                         · simp [pMore, Bind.bind, Except.bind, Pure.pure, Except.pure, *]; done
                         · intro a j hn; simp (disch := omega) only [gUp_ne2, gUp_eq2, hF26, hq26, hF56, hq56, hx56, hF80, hq80, hF115, hq115, hx115, hF196, hq196]; done
                         · simp (disch := omega) only [gUp_ne2, gUp_eq2, hF26, hq26, hF56, hq56, hx56, hF80, hq80, hF115, hq115, hx115, hF196, hq196]; done
                         · simp (disch := omega) only [gUp_ne2, gUp_eq2, hF26, hq26, hF56, hq56, hx56, hF80, hq80, hF115, hq115, hx115, hF196, hq196]; done
                         · simp (disch := omega) only [gUp_ne2, gUp_eq2, hF26, hq26, hF56, hq56, hx56, hF80, hq80, hF115, hq115, hx115, hF196, hq196]; done
                         · rw [if_pos (by omega)]; simp (disch := omega) only [gUp_ne2, gUp_eq2, hF26, hq26, hF56, hq56, hx56, hF80, hq80, hF115, hq115, hx115, hF196, hq196]; done)
                · refine Gx_aload_n (i := 0) dX2_readsMore_162 rfl rfl ?_
                  refine Gx_iload_n (i := 1) dX2_readsMore_163 rfl rfl ?_
                  refine Gx_bipush dX2_readsMore_164 ⟨by decide, by decide⟩ ?_
                  refine cl_X2_154 dX2_readsMore_166 rfl rfl ⟨(Nat.le_of_ble_eq_true rfl), (Nat.le_of_ble_eq_true rfl)⟩ rfl ?_
                  refine ct_X2_signP (q0 := q115) hr hs115 hb115 hq115 (by omega) (fun v166 c166 hF166 hq166 hb166 hs166 => ?_) (fun v166 c166 hF166 hq166 hb166 hs166 => ?_)
                  · refine Gx_if_eq (tgt := 188) dX2_readsMore_169 (by decide) (fun hz => absurd hz (by decide)) (fun _ => ?_)
                    refine Gx_aload_n (i := 0) dX2_readsMore_172 rfl rfl ?_
                    refine Gx_iload_n (i := 1) dX2_readsMore_173 rfl rfl ?_
                    refine Gx_iconst ⟨by decide, by decide⟩ dX2_readsMore_174 ?_
                    refine Gx_iconst ⟨by decide, by decide⟩ dX2_readsMore_175 ?_
                    refine Gx_bipush dX2_readsMore_176 ⟨by decide, by decide⟩ ?_
                    refine cl_X2_147 dX2_readsMore_178 rfl rfl ⟨(Nat.le_of_ble_eq_true rfl), (Nat.le_of_ble_eq_true rfl)⟩ rfl ?_
                    refine ct_X2_readsP (q0 := (q115 + 1)) (f := 2) hr hs166 hb166 hq166 (by omega) rfl (by omega) (fun q178 x178 v178 c178 b178 hF178 hq178 hx178 hb178 hs178 => ?_) (fun q178 x178 v178 hz178 c178 b178 hF178 hq178 hx178 hb178 hs178 => ?_)
                    · refine Gx_if_eq (tgt := 188) dX2_readsMore_181 (by decide) (fun hz => absurd hz (by decide)) (fun _ => ?_)
                      refine Gx_iconst ⟨by decide, by decide⟩ dX2_readsMore_184 ?_
                      refine Gx_goto (tgt := 219) dX2_readsMore_185 (by decide) ?_
                      refine Gx_istore_5 dX2_readsMore_219 (Nat.le_of_ble_eq_true rfl) (Nat.ne_of_beq_eq_false rfl) ?_
                      refine Gx_aload_n (i := 0) dX2_readsMore_221 rfl rfl ?_
                      refine gf_X2_29_22 dX2_readsMore_222 rfl rfl ?_
                      refine Gx_iload_n (i := 3) dX2_readsMore_225 rfl rfl ?_
                      refine Gx_bipush dX2_readsMore_226 ⟨by decide, by decide⟩ ?_
                      refine Gx_iadd dX2_readsMore_228 ?_
                      try simp (disch := omega) only [w32_id]
                      refine Gx_aload_n (i := 0) dX2_readsMore_229 rfl rfl ?_
                      refine gf_X2_138_22 dX2_readsMore_230 rfl rfl ?_
                      refine Gx_iastore dX2_readsMore_233 rfl (by first | omega | (simp (disch := omega) only [w32_id]; omega)) ?_
                      refine Gx_iload dX2_readsMore_234 rfl ?_
                      refine Gx_ireturn dX2_readsMore_236 (Or.inr rfl) ?_
                      first
                        | (exfalso; omega)
                        | (refine k0 q115 _ ?_ ?_ ?_
                           · simp [pMore, Bind.bind, Except.bind, Pure.pure, Except.pure, *]; done
                           · intro a j hn; simp (disch := omega) only [gUp_ne2, gUp_eq2, hF26, hq26, hF56, hq56, hx56, hF80, hq80, hF115, hq115, hx115, hF166, hq166, hF178, hq178, hx178]; done
                           · simp (disch := omega) only [gUp_ne2, gUp_eq2, hF26, hq26, hF56, hq56, hx56, hF80, hq80, hF115, hq115, hx115, hF166, hq166, hF178, hq178, hx178]; done)
                        | (refine k0 q178 _ ?_ ?_ ?_
                           · simp [pMore, Bind.bind, Except.bind, Pure.pure, Except.pure, *]; done
                           · intro a j hn; simp (disch := omega) only [gUp_ne2, gUp_eq2, hF26, hq26, hF56, hq56, hx56, hF80, hq80, hF115, hq115, hx115, hF166, hq166, hF178, hq178, hx178]; done
                           · simp (disch := omega) only [gUp_ne2, gUp_eq2, hF26, hq26, hF56, hq56, hx56, hF80, hq80, hF115, hq115, hx115, hF166, hq166, hF178, hq178, hx178]; done)
                        | (refine k0 q208 _ ?_ ?_ ?_
                           · simp [pMore, Bind.bind, Except.bind, Pure.pure, Except.pure, *]; done
                           · intro a j hn; simp (disch := omega) only [gUp_ne2, gUp_eq2, hF26, hq26, hF56, hq56, hx56, hF80, hq80, hF115, hq115, hx115, hF166, hq166, hF178, hq178, hx178]; done
                           · simp (disch := omega) only [gUp_ne2, gUp_eq2, hF26, hq26, hF56, hq56, hx56, hF80, hq80, hF115, hq115, hx115, hF166, hq166, hF178, hq178, hx178]; done)
                        | (refine k1 q115 x56 x115 0 _ ?_ ?_ ?_ ?_ ?_ ?_
                           · simp [pMore, Bind.bind, Except.bind, Pure.pure, Except.pure, *]; done
                           · intro a j hn; simp (disch := omega) only [gUp_ne2, gUp_eq2, hF26, hq26, hF56, hq56, hx56, hF80, hq80, hF115, hq115, hx115, hF166, hq166, hF178, hq178, hx178]; done
                           · simp (disch := omega) only [gUp_ne2, gUp_eq2, hF26, hq26, hF56, hq56, hx56, hF80, hq80, hF115, hq115, hx115, hF166, hq166, hF178, hq178, hx178]; done
                           · simp (disch := omega) only [gUp_ne2, gUp_eq2, hF26, hq26, hF56, hq56, hx56, hF80, hq80, hF115, hq115, hx115, hF166, hq166, hF178, hq178, hx178]; done
                           · simp (disch := omega) only [gUp_ne2, gUp_eq2, hF26, hq26, hF56, hq56, hx56, hF80, hq80, hF115, hq115, hx115, hF166, hq166, hF178, hq178, hx178]; done
                           · rw [if_neg (by omega)]; simp (disch := omega) only [gUp_ne2, gUp_eq2, hF26, hq26, hF56, hq56, hx56, hF80, hq80, hF115, hq115, hx115, hF166, hq166, hF178, hq178, hx178]; done)
                        | (refine k1 q178 x56 x115 x178 _ ?_ ?_ ?_ ?_ ?_ ?_
                           · simp [pMore, Bind.bind, Except.bind, Pure.pure, Except.pure, *]; done
                           · intro a j hn; simp (disch := omega) only [gUp_ne2, gUp_eq2, hF26, hq26, hF56, hq56, hx56, hF80, hq80, hF115, hq115, hx115, hF166, hq166, hF178, hq178, hx178]; done
                           · simp (disch := omega) only [gUp_ne2, gUp_eq2, hF26, hq26, hF56, hq56, hx56, hF80, hq80, hF115, hq115, hx115, hF166, hq166, hF178, hq178, hx178]; done
                           · simp (disch := omega) only [gUp_ne2, gUp_eq2, hF26, hq26, hF56, hq56, hx56, hF80, hq80, hF115, hq115, hx115, hF166, hq166, hF178, hq178, hx178]; done
                           · simp (disch := omega) only [gUp_ne2, gUp_eq2, hF26, hq26, hF56, hq56, hx56, hF80, hq80, hF115, hq115, hx115, hF166, hq166, hF178, hq178, hx178]; done
                           · rw [if_pos (by omega)]; simp (disch := omega) only [gUp_ne2, gUp_eq2, hF26, hq26, hF56, hq56, hx56, hF80, hq80, hF115, hq115, hx115, hF166, hq166, hF178, hq178, hx178]; done)
                        | (refine k1 q208 x56 x115 x208 _ ?_ ?_ ?_ ?_ ?_ ?_
                           · simp [pMore, Bind.bind, Except.bind, Pure.pure, Except.pure, *]; done
                           · intro a j hn; simp (disch := omega) only [gUp_ne2, gUp_eq2, hF26, hq26, hF56, hq56, hx56, hF80, hq80, hF115, hq115, hx115, hF166, hq166, hF178, hq178, hx178]; done
                           · simp (disch := omega) only [gUp_ne2, gUp_eq2, hF26, hq26, hF56, hq56, hx56, hF80, hq80, hF115, hq115, hx115, hF166, hq166, hF178, hq178, hx178]; done
                           · simp (disch := omega) only [gUp_ne2, gUp_eq2, hF26, hq26, hF56, hq56, hx56, hF80, hq80, hF115, hq115, hx115, hF166, hq166, hF178, hq178, hx178]; done
                           · simp (disch := omega) only [gUp_ne2, gUp_eq2, hF26, hq26, hF56, hq56, hx56, hF80, hq80, hF115, hq115, hx115, hF166, hq166, hF178, hq178, hx178]; done
                           · rw [if_pos (by omega)]; simp (disch := omega) only [gUp_ne2, gUp_eq2, hF26, hq26, hF56, hq56, hx56, hF80, hq80, hF115, hq115, hx115, hF166, hq166, hF178, hq178, hx178]; done)
                    · refine Gx_if_eq (tgt := 188) dX2_readsMore_181 (by decide) (fun _ => ?_) (fun hz => absurd hz (by decide))
                      refine Gx_iconst ⟨by decide, by decide⟩ dX2_readsMore_188 ?_
                      refine Gx_goto (tgt := 219) dX2_readsMore_189 (by decide) ?_
                      refine Gx_istore_5 dX2_readsMore_219 (Nat.le_of_ble_eq_true rfl) (Nat.ne_of_beq_eq_false rfl) ?_
                      refine Gx_aload_n (i := 0) dX2_readsMore_221 rfl rfl ?_
                      refine gf_X2_29_22 dX2_readsMore_222 rfl rfl ?_
                      refine Gx_iload_n (i := 3) dX2_readsMore_225 rfl rfl ?_
                      refine Gx_bipush dX2_readsMore_226 ⟨by decide, by decide⟩ ?_
                      refine Gx_iadd dX2_readsMore_228 ?_
                      try simp (disch := omega) only [w32_id]
                      refine Gx_aload_n (i := 0) dX2_readsMore_229 rfl rfl ?_
                      refine gf_X2_138_22 dX2_readsMore_230 rfl rfl ?_
                      refine Gx_iastore dX2_readsMore_233 rfl (by first | omega | (simp (disch := omega) only [w32_id]; omega)) ?_
                      refine Gx_iload dX2_readsMore_234 rfl ?_
                      refine Gx_ireturn dX2_readsMore_236 (Or.inl rfl) ?_
                      first
                        | (exfalso; omega)
                        | (refine k0 q115 _ ?_ ?_ ?_
                           · simp [pMore, Bind.bind, Except.bind, Pure.pure, Except.pure, *]; done
                           · intro a j hn; simp (disch := omega) only [gUp_ne2, gUp_eq2, hF26, hq26, hF56, hq56, hx56, hF80, hq80, hF115, hq115, hx115, hF166, hq166, hF178, hq178, hx178]; done
                           · simp (disch := omega) only [gUp_ne2, gUp_eq2, hF26, hq26, hF56, hq56, hx56, hF80, hq80, hF115, hq115, hx115, hF166, hq166, hF178, hq178, hx178]; done)
                        | (refine k0 q178 _ ?_ ?_ ?_
                           · simp [pMore, Bind.bind, Except.bind, Pure.pure, Except.pure, *]; done
                           · intro a j hn; simp (disch := omega) only [gUp_ne2, gUp_eq2, hF26, hq26, hF56, hq56, hx56, hF80, hq80, hF115, hq115, hx115, hF166, hq166, hF178, hq178, hx178]; done
                           · simp (disch := omega) only [gUp_ne2, gUp_eq2, hF26, hq26, hF56, hq56, hx56, hF80, hq80, hF115, hq115, hx115, hF166, hq166, hF178, hq178, hx178]; done)
                        | (refine k0 q208 _ ?_ ?_ ?_
                           · simp [pMore, Bind.bind, Except.bind, Pure.pure, Except.pure, *]; done
                           · intro a j hn; simp (disch := omega) only [gUp_ne2, gUp_eq2, hF26, hq26, hF56, hq56, hx56, hF80, hq80, hF115, hq115, hx115, hF166, hq166, hF178, hq178, hx178]; done
                           · simp (disch := omega) only [gUp_ne2, gUp_eq2, hF26, hq26, hF56, hq56, hx56, hF80, hq80, hF115, hq115, hx115, hF166, hq166, hF178, hq178, hx178]; done)
                        | (refine k1 q115 x56 x115 0 _ ?_ ?_ ?_ ?_ ?_ ?_
                           · simp [pMore, Bind.bind, Except.bind, Pure.pure, Except.pure, *]; done
                           · intro a j hn; simp (disch := omega) only [gUp_ne2, gUp_eq2, hF26, hq26, hF56, hq56, hx56, hF80, hq80, hF115, hq115, hx115, hF166, hq166, hF178, hq178, hx178]; done
                           · simp (disch := omega) only [gUp_ne2, gUp_eq2, hF26, hq26, hF56, hq56, hx56, hF80, hq80, hF115, hq115, hx115, hF166, hq166, hF178, hq178, hx178]; done
                           · simp (disch := omega) only [gUp_ne2, gUp_eq2, hF26, hq26, hF56, hq56, hx56, hF80, hq80, hF115, hq115, hx115, hF166, hq166, hF178, hq178, hx178]; done
                           · simp (disch := omega) only [gUp_ne2, gUp_eq2, hF26, hq26, hF56, hq56, hx56, hF80, hq80, hF115, hq115, hx115, hF166, hq166, hF178, hq178, hx178]; done
                           · rw [if_neg (by omega)]; simp (disch := omega) only [gUp_ne2, gUp_eq2, hF26, hq26, hF56, hq56, hx56, hF80, hq80, hF115, hq115, hx115, hF166, hq166, hF178, hq178, hx178]; done)
                        | (refine k1 q178 x56 x115 x178 _ ?_ ?_ ?_ ?_ ?_ ?_
                           · simp [pMore, Bind.bind, Except.bind, Pure.pure, Except.pure, *]; done
                           · intro a j hn; simp (disch := omega) only [gUp_ne2, gUp_eq2, hF26, hq26, hF56, hq56, hx56, hF80, hq80, hF115, hq115, hx115, hF166, hq166, hF178, hq178, hx178]; done
                           · simp (disch := omega) only [gUp_ne2, gUp_eq2, hF26, hq26, hF56, hq56, hx56, hF80, hq80, hF115, hq115, hx115, hF166, hq166, hF178, hq178, hx178]; done
                           · simp (disch := omega) only [gUp_ne2, gUp_eq2, hF26, hq26, hF56, hq56, hx56, hF80, hq80, hF115, hq115, hx115, hF166, hq166, hF178, hq178, hx178]; done
                           · simp (disch := omega) only [gUp_ne2, gUp_eq2, hF26, hq26, hF56, hq56, hx56, hF80, hq80, hF115, hq115, hx115, hF166, hq166, hF178, hq178, hx178]; done
                           · rw [if_pos (by omega)]; simp (disch := omega) only [gUp_ne2, gUp_eq2, hF26, hq26, hF56, hq56, hx56, hF80, hq80, hF115, hq115, hx115, hF166, hq166, hF178, hq178, hx178]; done)
                        | (refine k1 q208 x56 x115 x208 _ ?_ ?_ ?_ ?_ ?_ ?_
                           · simp [pMore, Bind.bind, Except.bind, Pure.pure, Except.pure, *]; done
                           · intro a j hn; simp (disch := omega) only [gUp_ne2, gUp_eq2, hF26, hq26, hF56, hq56, hx56, hF80, hq80, hF115, hq115, hx115, hF166, hq166, hF178, hq178, hx178]; done
                           · simp (disch := omega) only [gUp_ne2, gUp_eq2, hF26, hq26, hF56, hq56, hx56, hF80, hq80, hF115, hq115, hx115, hF166, hq166, hF178, hq178, hx178]; done
                           · simp (disch := omega) only [gUp_ne2, gUp_eq2, hF26, hq26, hF56, hq56, hx56, hF80, hq80, hF115, hq115, hx115, hF166, hq166, hF178, hq178, hx178]; done
                           · simp (disch := omega) only [gUp_ne2, gUp_eq2, hF26, hq26, hF56, hq56, hx56, hF80, hq80, hF115, hq115, hx115, hF166, hq166, hF178, hq178, hx178]; done
                           · rw [if_pos (by omega)]; simp (disch := omega) only [gUp_ne2, gUp_eq2, hF26, hq26, hF56, hq56, hx56, hF80, hq80, hF115, hq115, hx115, hF166, hq166, hF178, hq178, hx178]; done)
                  · refine Gx_if_eq (tgt := 188) dX2_readsMore_169 (by decide) (fun _ => ?_) (fun hz => absurd hz (by decide))
                    refine Gx_iconst ⟨by decide, by decide⟩ dX2_readsMore_188 ?_
                    refine Gx_goto (tgt := 219) dX2_readsMore_189 (by decide) ?_
                    refine Gx_istore_5 dX2_readsMore_219 (Nat.le_of_ble_eq_true rfl) (Nat.ne_of_beq_eq_false rfl) ?_
                    refine Gx_aload_n (i := 0) dX2_readsMore_221 rfl rfl ?_
                    refine gf_X2_29_22 dX2_readsMore_222 rfl rfl ?_
                    refine Gx_iload_n (i := 3) dX2_readsMore_225 rfl rfl ?_
                    refine Gx_bipush dX2_readsMore_226 ⟨by decide, by decide⟩ ?_
                    refine Gx_iadd dX2_readsMore_228 ?_
                    try simp (disch := omega) only [w32_id]
                    refine Gx_aload_n (i := 0) dX2_readsMore_229 rfl rfl ?_
                    refine gf_X2_138_22 dX2_readsMore_230 rfl rfl ?_
                    refine Gx_iastore dX2_readsMore_233 rfl (by first | omega | (simp (disch := omega) only [w32_id]; omega)) ?_
                    refine Gx_iload dX2_readsMore_234 rfl ?_
                    refine Gx_ireturn dX2_readsMore_236 (Or.inl rfl) ?_
                    first
                      | (exfalso; omega)
                      | (refine k0 q115 _ ?_ ?_ ?_
                         · simp [pMore, Bind.bind, Except.bind, Pure.pure, Except.pure, *]; done
                         · intro a j hn; simp (disch := omega) only [gUp_ne2, gUp_eq2, hF26, hq26, hF56, hq56, hx56, hF80, hq80, hF115, hq115, hx115, hF166, hq166]; done
                         · simp (disch := omega) only [gUp_ne2, gUp_eq2, hF26, hq26, hF56, hq56, hx56, hF80, hq80, hF115, hq115, hx115, hF166, hq166]; done)
                      | (refine k0 q178 _ ?_ ?_ ?_
                         · simp [pMore, Bind.bind, Except.bind, Pure.pure, Except.pure, *]; done
                         · intro a j hn; simp (disch := omega) only [gUp_ne2, gUp_eq2, hF26, hq26, hF56, hq56, hx56, hF80, hq80, hF115, hq115, hx115, hF166, hq166]; done
                         · simp (disch := omega) only [gUp_ne2, gUp_eq2, hF26, hq26, hF56, hq56, hx56, hF80, hq80, hF115, hq115, hx115, hF166, hq166]; done)
                      | (refine k0 q208 _ ?_ ?_ ?_
                         · simp [pMore, Bind.bind, Except.bind, Pure.pure, Except.pure, *]; done
                         · intro a j hn; simp (disch := omega) only [gUp_ne2, gUp_eq2, hF26, hq26, hF56, hq56, hx56, hF80, hq80, hF115, hq115, hx115, hF166, hq166]; done
                         · simp (disch := omega) only [gUp_ne2, gUp_eq2, hF26, hq26, hF56, hq56, hx56, hF80, hq80, hF115, hq115, hx115, hF166, hq166]; done)
                      | (refine k1 q115 x56 x115 0 _ ?_ ?_ ?_ ?_ ?_ ?_
                         · simp [pMore, Bind.bind, Except.bind, Pure.pure, Except.pure, *]; done
                         · intro a j hn; simp (disch := omega) only [gUp_ne2, gUp_eq2, hF26, hq26, hF56, hq56, hx56, hF80, hq80, hF115, hq115, hx115, hF166, hq166]; done
                         · simp (disch := omega) only [gUp_ne2, gUp_eq2, hF26, hq26, hF56, hq56, hx56, hF80, hq80, hF115, hq115, hx115, hF166, hq166]; done
                         · simp (disch := omega) only [gUp_ne2, gUp_eq2, hF26, hq26, hF56, hq56, hx56, hF80, hq80, hF115, hq115, hx115, hF166, hq166]; done
                         · simp (disch := omega) only [gUp_ne2, gUp_eq2, hF26, hq26, hF56, hq56, hx56, hF80, hq80, hF115, hq115, hx115, hF166, hq166]; done
                         · rw [if_neg (by omega)]; simp (disch := omega) only [gUp_ne2, gUp_eq2, hF26, hq26, hF56, hq56, hx56, hF80, hq80, hF115, hq115, hx115, hF166, hq166]; done)
                      | (refine k1 q178 x56 x115 x178 _ ?_ ?_ ?_ ?_ ?_ ?_
                         · simp [pMore, Bind.bind, Except.bind, Pure.pure, Except.pure, *]; done
                         · intro a j hn; simp (disch := omega) only [gUp_ne2, gUp_eq2, hF26, hq26, hF56, hq56, hx56, hF80, hq80, hF115, hq115, hx115, hF166, hq166]; done
                         · simp (disch := omega) only [gUp_ne2, gUp_eq2, hF26, hq26, hF56, hq56, hx56, hF80, hq80, hF115, hq115, hx115, hF166, hq166]; done
                         · simp (disch := omega) only [gUp_ne2, gUp_eq2, hF26, hq26, hF56, hq56, hx56, hF80, hq80, hF115, hq115, hx115, hF166, hq166]; done
                         · simp (disch := omega) only [gUp_ne2, gUp_eq2, hF26, hq26, hF56, hq56, hx56, hF80, hq80, hF115, hq115, hx115, hF166, hq166]; done
                         · rw [if_pos (by omega)]; simp (disch := omega) only [gUp_ne2, gUp_eq2, hF26, hq26, hF56, hq56, hx56, hF80, hq80, hF115, hq115, hx115, hF166, hq166]; done)
                      | (refine k1 q208 x56 x115 x208 _ ?_ ?_ ?_ ?_ ?_ ?_
                         · simp [pMore, Bind.bind, Except.bind, Pure.pure, Except.pure, *]; done
                         · intro a j hn; simp (disch := omega) only [gUp_ne2, gUp_eq2, hF26, hq26, hF56, hq56, hx56, hF80, hq80, hF115, hq115, hx115, hF166, hq166]; done
                         · simp (disch := omega) only [gUp_ne2, gUp_eq2, hF26, hq26, hF56, hq56, hx56, hF80, hq80, hF115, hq115, hx115, hF166, hq166]; done
                         · simp (disch := omega) only [gUp_ne2, gUp_eq2, hF26, hq26, hF56, hq56, hx56, hF80, hq80, hF115, hq115, hx115, hF166, hq166]; done
                         · simp (disch := omega) only [gUp_ne2, gUp_eq2, hF26, hq26, hF56, hq56, hx56, hF80, hq80, hF115, hq115, hx115, hF166, hq166]; done
                         · rw [if_pos (by omega)]; simp (disch := omega) only [gUp_ne2, gUp_eq2, hF26, hq26, hF56, hq56, hx56, hF80, hq80, hF115, hq115, hx115, hF166, hq166]; done)
              · refine Gx_iconst ⟨by decide, by decide⟩ dX2_readsMore_145 ?_
                refine Gx_goto (tgt := 150) dX2_readsMore_146 (by decide) ?_
                refine Gx_istore_5 dX2_readsMore_150 (Nat.le_of_ble_eq_true rfl) (Nat.ne_of_beq_eq_false rfl) ?_
                refine Gx_iload dX2_readsMore_152 rfl ?_
                refine Gx_if_ne (tgt := 234) dX2_readsMore_154 (by decide) (fun _ => ?_) (fun hz => absurd hz (by decide))
                refine Gx_iload dX2_readsMore_234 rfl ?_
                refine Gx_ireturn dX2_readsMore_236 (Or.inr rfl) ?_
                first
                  | (exfalso; omega)
                  | (refine k0 q115 _ ?_ ?_ ?_
                     · simp [pMore, Bind.bind, Except.bind, Pure.pure, Except.pure, *]; done
                     · intro a j hn; simp (disch := omega) only [gUp_ne2, gUp_eq2, hF26, hq26, hF56, hq56, hx56, hF80, hq80, hF115, hq115, hx115]; done
                     · simp (disch := omega) only [gUp_ne2, gUp_eq2, hF26, hq26, hF56, hq56, hx56, hF80, hq80, hF115, hq115, hx115]; done)
                  | (refine k0 q178 _ ?_ ?_ ?_
                     · simp [pMore, Bind.bind, Except.bind, Pure.pure, Except.pure, *]; done
                     · intro a j hn; simp (disch := omega) only [gUp_ne2, gUp_eq2, hF26, hq26, hF56, hq56, hx56, hF80, hq80, hF115, hq115, hx115]; done
                     · simp (disch := omega) only [gUp_ne2, gUp_eq2, hF26, hq26, hF56, hq56, hx56, hF80, hq80, hF115, hq115, hx115]; done)
                  | (refine k0 q208 _ ?_ ?_ ?_
                     · simp [pMore, Bind.bind, Except.bind, Pure.pure, Except.pure, *]; done
                     · intro a j hn; simp (disch := omega) only [gUp_ne2, gUp_eq2, hF26, hq26, hF56, hq56, hx56, hF80, hq80, hF115, hq115, hx115]; done
                     · simp (disch := omega) only [gUp_ne2, gUp_eq2, hF26, hq26, hF56, hq56, hx56, hF80, hq80, hF115, hq115, hx115]; done)
                  | (refine k1 q115 x56 x115 0 _ ?_ ?_ ?_ ?_ ?_ ?_
                     · simp [pMore, Bind.bind, Except.bind, Pure.pure, Except.pure, *]; done
                     · intro a j hn; simp (disch := omega) only [gUp_ne2, gUp_eq2, hF26, hq26, hF56, hq56, hx56, hF80, hq80, hF115, hq115, hx115]; done
                     · simp (disch := omega) only [gUp_ne2, gUp_eq2, hF26, hq26, hF56, hq56, hx56, hF80, hq80, hF115, hq115, hx115]; done
                     · simp (disch := omega) only [gUp_ne2, gUp_eq2, hF26, hq26, hF56, hq56, hx56, hF80, hq80, hF115, hq115, hx115]; done
                     · simp (disch := omega) only [gUp_ne2, gUp_eq2, hF26, hq26, hF56, hq56, hx56, hF80, hq80, hF115, hq115, hx115]; done
                     · rw [if_neg (by omega)]; simp (disch := omega) only [gUp_ne2, gUp_eq2, hF26, hq26, hF56, hq56, hx56, hF80, hq80, hF115, hq115, hx115]; done)
                  | (refine k1 q178 x56 x115 x178 _ ?_ ?_ ?_ ?_ ?_ ?_
                     · simp [pMore, Bind.bind, Except.bind, Pure.pure, Except.pure, *]; done
                     · intro a j hn; simp (disch := omega) only [gUp_ne2, gUp_eq2, hF26, hq26, hF56, hq56, hx56, hF80, hq80, hF115, hq115, hx115]; done
                     · simp (disch := omega) only [gUp_ne2, gUp_eq2, hF26, hq26, hF56, hq56, hx56, hF80, hq80, hF115, hq115, hx115]; done
                     · simp (disch := omega) only [gUp_ne2, gUp_eq2, hF26, hq26, hF56, hq56, hx56, hF80, hq80, hF115, hq115, hx115]; done
                     · simp (disch := omega) only [gUp_ne2, gUp_eq2, hF26, hq26, hF56, hq56, hx56, hF80, hq80, hF115, hq115, hx115]; done
                     · rw [if_pos (by omega)]; simp (disch := omega) only [gUp_ne2, gUp_eq2, hF26, hq26, hF56, hq56, hx56, hF80, hq80, hF115, hq115, hx115]; done)
                  | (refine k1 q208 x56 x115 x208 _ ?_ ?_ ?_ ?_ ?_ ?_
                     · simp [pMore, Bind.bind, Except.bind, Pure.pure, Except.pure, *]; done
                     · intro a j hn; simp (disch := omega) only [gUp_ne2, gUp_eq2, hF26, hq26, hF56, hq56, hx56, hF80, hq80, hF115, hq115, hx115]; done
                     · simp (disch := omega) only [gUp_ne2, gUp_eq2, hF26, hq26, hF56, hq56, hx56, hF80, hq80, hF115, hq115, hx115]; done
                     · simp (disch := omega) only [gUp_ne2, gUp_eq2, hF26, hq26, hF56, hq56, hx56, hF80, hq80, hF115, hq115, hx115]; done
                     · simp (disch := omega) only [gUp_ne2, gUp_eq2, hF26, hq26, hF56, hq56, hx56, hF80, hq80, hF115, hq115, hx115]; done
                     · rw [if_pos (by omega)]; simp (disch := omega) only [gUp_ne2, gUp_eq2, hF26, hq26, hF56, hq56, hx56, hF80, hq80, hF115, hq115, hx115]; done)
          · refine Gx_if_ne (tgt := 123) dX2_readsMore_118 (by decide) (fun hz => absurd hz (by decide)) (fun _ => ?_)
            refine Gx_iconst ⟨by decide, by decide⟩ dX2_readsMore_121 ?_
            refine Gx_ireturn dX2_readsMore_122 (Or.inl rfl) ?_
            first
              | (exfalso; omega)
              | (refine k0 q56 _ ?_ ?_ ?_
                 · simp [pMore, Bind.bind, Except.bind, Pure.pure, Except.pure, *]; done
                 · intro a j hn; simp (disch := omega) only [gUp_ne2, gUp_eq2, hF26, hq26, hF56, hq56, hx56, hF80, hq80, hF115, hq115, hx115]; done
                 · simp (disch := omega) only [gUp_ne2, gUp_eq2, hF26, hq26, hF56, hq56, hx56, hF80, hq80, hF115, hq115, hx115]; done)
              | (refine k0 q115 _ ?_ ?_ ?_
                 · simp [pMore, Bind.bind, Except.bind, Pure.pure, Except.pure, *]; done
                 · intro a j hn; simp (disch := omega) only [gUp_ne2, gUp_eq2, hF26, hq26, hF56, hq56, hx56, hF80, hq80, hF115, hq115, hx115]; done
                 · simp (disch := omega) only [gUp_ne2, gUp_eq2, hF26, hq26, hF56, hq56, hx56, hF80, hq80, hF115, hq115, hx115]; done)
        · refine Gx_if_eq (tgt := 121) dX2_readsMore_83 (by decide) (fun _ => ?_) (fun hz => absurd hz (by decide))
          refine Gx_iconst ⟨by decide, by decide⟩ dX2_readsMore_121 ?_
          refine Gx_ireturn dX2_readsMore_122 (Or.inl rfl) ?_
          first
            | (exfalso; omega)
            | (refine k0 q56 _ ?_ ?_ ?_
               · simp [pMore, Bind.bind, Except.bind, Pure.pure, Except.pure, *]; done
               · intro a j hn; simp (disch := omega) only [gUp_ne2, gUp_eq2, hF26, hq26, hF56, hq56, hx56, hF80, hq80]; done
               · simp (disch := omega) only [gUp_ne2, gUp_eq2, hF26, hq26, hF56, hq56, hx56, hF80, hq80]; done)
            | (refine k0 q115 _ ?_ ?_ ?_
               · simp [pMore, Bind.bind, Except.bind, Pure.pure, Except.pure, *]; done
               · intro a j hn; simp (disch := omega) only [gUp_ne2, gUp_eq2, hF26, hq26, hF56, hq56, hx56, hF80, hq80]; done
               · simp (disch := omega) only [gUp_ne2, gUp_eq2, hF26, hq26, hF56, hq56, hx56, hF80, hq80]; done)
      · refine Gx_if_ne (tgt := 64) dX2_readsMore_59 (by decide) (fun hz => absurd hz (by decide)) (fun _ => ?_)
        refine Gx_iconst ⟨by decide, by decide⟩ dX2_readsMore_62 ?_
        refine Gx_ireturn dX2_readsMore_63 (Or.inl rfl) ?_
        first
          | (exfalso; omega)
          | (refine k0 q0 _ ?_ ?_ ?_
             · simp [pMore, Bind.bind, Except.bind, Pure.pure, Except.pure, *]; done
             · intro a j hn; simp (disch := omega) only [gUp_ne2, gUp_eq2, hF26, hq26, hF56, hq56, hx56]; done
             · simp (disch := omega) only [gUp_ne2, gUp_eq2, hF26, hq26, hF56, hq56, hx56]; done)
          | (refine k0 q56 _ ?_ ?_ ?_
             · simp [pMore, Bind.bind, Except.bind, Pure.pure, Except.pure, *]; done
             · intro a j hn; simp (disch := omega) only [gUp_ne2, gUp_eq2, hF26, hq26, hF56, hq56, hx56]; done
             · simp (disch := omega) only [gUp_ne2, gUp_eq2, hF26, hq26, hF56, hq56, hx56]; done)
    · refine Gx_if_eq (tgt := 62) dX2_readsMore_29 (by decide) (fun _ => ?_) (fun hz => absurd hz (by decide))
      refine Gx_iconst ⟨by decide, by decide⟩ dX2_readsMore_62 ?_
      refine Gx_ireturn dX2_readsMore_63 (Or.inl rfl) ?_
      first
        | (exfalso; omega)
        | (refine k0 q0 _ ?_ ?_ ?_
           · simp [pMore, Bind.bind, Except.bind, Pure.pure, Except.pure, *]; done
           · intro a j hn; simp (disch := omega) only [gUp_ne2, gUp_eq2, hF26, hq26]; done
           · simp (disch := omega) only [gUp_ne2, gUp_eq2, hF26, hq26]; done)
        | (refine k0 q56 _ ?_ ?_ ?_
           · simp [pMore, Bind.bind, Except.bind, Pure.pure, Except.pure, *]; done
           · intro a j hn; simp (disch := omega) only [gUp_ne2, gUp_eq2, hF26, hq26]; done
           · simp (disch := omega) only [gUp_ne2, gUp_eq2, hF26, hq26]; done)
theorem pMore_x6 {b : pB} {kd p q x4 x5 x6 : Int} (h : pMore b kd p = .ok (q, x4, x5, x6)) (h4 : kd ≠ 4) (h5 : kd ≠ 5) : x6 = 0 := by
  simp only [pMore, Bind.bind, Except.bind, Pure.pure, Except.pure, if_neg h4, if_neg h5] at h
  repeat' split at h
  all_goals first | cases h | skip
  all_goals first | rfl | simp_all
set_option maxHeartbeats 4000000 in
theorem ct_X2_readsSort {r kd q0 n0 : Int} {b : pB} (hr : 0 ≤ r ∧ r ≤ 3) (hs : v 43 r ≤ 80) (hb : mB v r = b) (hq : v 38 10 = q0) (hp : 0 ≤ q0 ∧ q0 ≤ 400) (hn : v 38 12 = n0) (hn0 : 0 ≤ n0 ∧ n0 < 6) (hkd : 1 ≤ kd ∧ kd ≤ 5) (k1 : ∀ q f v1, pSort b kd (q0 + 1) = .ok (q, f) → (∀ a j, ¬ ((a = 38 ∧ (j = 10 ∨ j = 11 ∨ j = 12)) ∨ (a = 45 ∧ 7 * n0 ≤ j ∧ j ≤ 7 * n0 + 6)) → v1 a j = v a j) → v1 38 10 = q → v1 38 12 = n0 + 1 → (∀ k, 0 ≤ k → k ≤ 6 → v1 45 (7 * n0 + k) = f k) → Q (0, 1) v1 (gHd K) t) (k0 : ∀ q v1, pSort b kd (q0 + 1) = .error q → (∀ a j, ¬ ((a = 38 ∧ (j = 10 ∨ j = 11 ∨ j = 12)) ∨ (a = 45 ∧ 7 * n0 ≤ j ∧ j ≤ 7 * n0 + 6)) → v1 a j = v a j) → v1 38 10 = q → v1 38 12 = n0 → Q (0, 0) v1 (gHd K) t) : Ctr Γ mX2_readsSort [(2, 38), (0, r), (0, kd)] v (gHd K) t Q := by
  refine Ctr.ofG (ls := [(2, 38), (0, r), (0, kd), (9, 0), (9, 0)]) rfl rfl rfl rfl rfl ?_
  refine Gx_aload_n (i := 0) dX2_readsSort_0 rfl rfl ?_
  refine gf_X2_144_22 dX2_readsSort_1 rfl rfl ?_
  refine Gx_bipush dX2_readsSort_4 ⟨by decide, by decide⟩ ?_
  refine Gx_icmp_ne (tgt := 11) dX2_readsSort_6 (by decide) (fun c6 => ?_) (fun c6 => ?_)
  · refine Gx_aload_n (i := 0) dX2_readsSort_11 rfl rfl ?_
    refine Gx_dup (Nat.ne_of_beq_eq_false rfl) dX2_readsSort_12 ?_
    refine gf_X2_132_22 dX2_readsSort_13 rfl rfl ?_
    refine Gx_iconst ⟨by decide, by decide⟩ dX2_readsSort_16 ?_
    refine Gx_iadd dX2_readsSort_17 ?_
    try simp (disch := omega) only [w32_id]
    refine pf_X2_132_22 dX2_readsSort_18 rfl rfl ?_
    refine Gx_bipush dX2_readsSort_21 ⟨by decide, by decide⟩ ?_
    refine Gx_aload_n (i := 0) dX2_readsSort_23 rfl rfl ?_
    refine gf_X2_144_22 dX2_readsSort_24 rfl rfl ?_
    rw [show gUp v 38 10 (v 38 10 + 1) 38 12 = n0 from hn]
    refine Gx_imul dX2_readsSort_27 ?_
    try simp (disch := omega) only [w32_id]
    refine Gx_istore_n_3 dX2_readsSort_28 (Nat.le_of_ble_eq_true rfl) (Nat.ne_of_beq_eq_false rfl) ?_
    refine Gx_aload_n (i := 0) dX2_readsSort_29 rfl rfl ?_
    refine gf_X2_29_22 dX2_readsSort_30 rfl rfl ?_
    refine Gx_iload_n (i := 3) dX2_readsSort_33 rfl rfl ?_
    refine Gx_iload_n (i := 2) dX2_readsSort_34 rfl rfl ?_
    refine Gx_iastore dX2_readsSort_35 rfl (by first | omega | (simp (disch := omega) only [w32_id]; omega)) ?_
    refine Gx_iconst ⟨by decide, by decide⟩ dX2_readsSort_36 ?_
    refine Gx_istore_4 dX2_readsSort_37 (Nat.le_of_ble_eq_true rfl) (Nat.ne_of_beq_eq_false rfl) ?_
    refine Gx_name (fun v36 e36 => ?_)
    have hF36 : ∀ a j, ¬ ((a = 38 ∧ j = 10) ∨ (a = 45 ∧ j = 7 * n0)) → v36 a j = v a j := by
      intro a j hn
      rw [e36]
      simp (disch := omega) only [gUp_ne2, gUp_eq2]
    have hq36 : v36 38 10 = q0 + 1 := by
      rw [e36]
      simp (disch := omega) only [gUp_ne2, gUp_eq2]
      omega
    have hk36 : v36 45 (7 * n0) = kd := by
      rw [e36]
      simp (disch := omega) only [gUp_ne2, gUp_eq2]
    have hb36 : mB v36 r = b := mB_of (fun j => hF36 43 j (by omega)) (fun j => hF36 44 j (by omega)) hb
    have hs36 : v36 43 r ≤ 80 := by rw [hF36 43 r (by omega)]; exact hs
    refine Gx_iload dX2_readsSort_39 rfl ?_
    refine Gx_iconst ⟨by decide, by decide⟩ dX2_readsSort_41 ?_
    refine Gx_icmp_ge (tgt := 80) dX2_readsSort_42 (by decide) (fun hz => absurd hz (by decide)) (fun _ => ?_)
    refine Gx_aload_n (i := 0) dX2_readsSort_45 rfl rfl ?_
    refine Gx_iload_n (i := 1) dX2_readsSort_46 rfl rfl ?_
    refine Gx_iconst ⟨by decide, by decide⟩ dX2_readsSort_47 ?_
    refine Gx_iconst ⟨by decide, by decide⟩ dX2_readsSort_48 ?_
    refine Gx_bipush dX2_readsSort_49 ⟨by decide, by decide⟩ ?_
    refine cl_X2_147 dX2_readsSort_51 rfl rfl ⟨(Nat.le_of_ble_eq_true rfl), (Nat.le_of_ble_eq_true rfl)⟩ rfl ?_
    refine ct_X2_readsP (q0 := (q0 + 1)) (f := 1) hr hs36 hb36 hq36 (by omega) rfl (by omega) (fun qB1 xB1 vB1 cB1 bB1 hFB1 hqB1 hxB1 hbB1 hsB1 => ?_) (fun qB1 xB1 vB1 hzB1 cB1 bB1 hFB1 hqB1 hxB1 hbB1 hsB1 => ?_)
    · refine Gx_if_ne (tgt := 59) dX2_readsSort_54 (by decide) (fun _ => ?_) (fun hz => absurd hz (by decide))
      refine Gx_aload_n (i := 0) dX2_readsSort_59 rfl rfl ?_
      refine gf_X2_29_22 dX2_readsSort_60 rfl rfl ?_
      refine Gx_iload_n (i := 3) dX2_readsSort_63 rfl rfl ?_
      refine Gx_iconst ⟨by decide, by decide⟩ dX2_readsSort_64 ?_
      refine Gx_iadd dX2_readsSort_65 ?_
      try simp (disch := omega) only [w32_id]
      refine Gx_iload dX2_readsSort_66 rfl ?_
      refine Gx_iadd dX2_readsSort_68 ?_
      try simp (disch := omega) only [w32_id]
      refine Gx_aload_n (i := 0) dX2_readsSort_69 rfl rfl ?_
      refine gf_X2_138_22 dX2_readsSort_70 rfl rfl ?_
      refine Gx_iastore dX2_readsSort_73 rfl (by first | omega | (simp (disch := omega) only [w32_id]; omega)) ?_
      refine Gx_iinc_4 dX2_readsSort_74 (Nat.le_of_ble_eq_true rfl) (Nat.ne_of_beq_eq_false rfl) ?_
      rw [show w32 (0 + 1) = (1 : Int) from by decide]
      refine Gx_goto (tgt := 39) dX2_readsSort_77 (by decide) ?_
      refine Gx_name (fun vA1 eA1 => ?_)
      have hFA1 : ∀ a j, ¬ (a = 45 ∧ j = 7 * n0 + 1) → vA1 a j = vB1 a j := by
        intro a j hn
        rw [eA1]
        simp (disch := omega) only [gUp_ne2, gUp_eq2]
      have hyA1 : vA1 45 (7 * n0 + 1) = xB1 := by
        rw [eA1]
        simp (disch := omega) only [gUp_ne2, gUp_eq2, hxB1]
      have hqA1 : vA1 38 10 = qB1 := by rw [hFA1 38 10 (by omega)]; exact hqB1
      have hbA1 : mB vA1 r = b := mB_of (fun j => hFA1 43 j (by omega)) (fun j => hFA1 44 j (by omega)) hbB1
      have hsA1 : vA1 43 r ≤ 80 := by rw [hFA1 43 r (by omega)]; exact hsB1
      refine Gx_iload dX2_readsSort_39 rfl ?_
      refine Gx_iconst ⟨by decide, by decide⟩ dX2_readsSort_41 ?_
      refine Gx_icmp_ge (tgt := 80) dX2_readsSort_42 (by decide) (fun hz => absurd hz (by decide)) (fun _ => ?_)
      refine Gx_aload_n (i := 0) dX2_readsSort_45 rfl rfl ?_
      refine Gx_iload_n (i := 1) dX2_readsSort_46 rfl rfl ?_
      refine Gx_iconst ⟨by decide, by decide⟩ dX2_readsSort_47 ?_
      refine Gx_iconst ⟨by decide, by decide⟩ dX2_readsSort_48 ?_
      refine Gx_bipush dX2_readsSort_49 ⟨by decide, by decide⟩ ?_
      refine cl_X2_147 dX2_readsSort_51 rfl rfl ⟨(Nat.le_of_ble_eq_true rfl), (Nat.le_of_ble_eq_true rfl)⟩ rfl ?_
      refine ct_X2_readsP (q0 := qB1) (f := 1) hr hsA1 hbA1 hqA1 (by omega) rfl (by omega) (fun qB2 xB2 vB2 cB2 bB2 hFB2 hqB2 hxB2 hbB2 hsB2 => ?_) (fun qB2 xB2 vB2 hzB2 cB2 bB2 hFB2 hqB2 hxB2 hbB2 hsB2 => ?_)
      · refine Gx_if_ne (tgt := 59) dX2_readsSort_54 (by decide) (fun _ => ?_) (fun hz => absurd hz (by decide))
        refine Gx_aload_n (i := 0) dX2_readsSort_59 rfl rfl ?_
        refine gf_X2_29_22 dX2_readsSort_60 rfl rfl ?_
        refine Gx_iload_n (i := 3) dX2_readsSort_63 rfl rfl ?_
        refine Gx_iconst ⟨by decide, by decide⟩ dX2_readsSort_64 ?_
        refine Gx_iadd dX2_readsSort_65 ?_
        try simp (disch := omega) only [w32_id]
        refine Gx_iload dX2_readsSort_66 rfl ?_
        refine Gx_iadd dX2_readsSort_68 ?_
        try simp (disch := omega) only [w32_id]
        refine Gx_aload_n (i := 0) dX2_readsSort_69 rfl rfl ?_
        refine gf_X2_138_22 dX2_readsSort_70 rfl rfl ?_
        refine Gx_iastore dX2_readsSort_73 rfl (by first | omega | (simp (disch := omega) only [w32_id]; omega)) ?_
        refine Gx_iinc_4 dX2_readsSort_74 (Nat.le_of_ble_eq_true rfl) (Nat.ne_of_beq_eq_false rfl) ?_
        rw [show w32 (1 + 1) = (2 : Int) from by decide]
        refine Gx_goto (tgt := 39) dX2_readsSort_77 (by decide) ?_
        refine Gx_name (fun vA2 eA2 => ?_)
        have hFA2 : ∀ a j, ¬ (a = 45 ∧ j = 7 * n0 + 2) → vA2 a j = vB2 a j := by
          intro a j hn
          rw [eA2]
          simp (disch := omega) only [gUp_ne2, gUp_eq2]
        have hyA2 : vA2 45 (7 * n0 + 2) = xB2 := by
          rw [eA2]
          simp (disch := omega) only [gUp_ne2, gUp_eq2, hxB2]
        have hqA2 : vA2 38 10 = qB2 := by rw [hFA2 38 10 (by omega)]; exact hqB2
        have hbA2 : mB vA2 r = b := mB_of (fun j => hFA2 43 j (by omega)) (fun j => hFA2 44 j (by omega)) hbB2
        have hsA2 : vA2 43 r ≤ 80 := by rw [hFA2 43 r (by omega)]; exact hsB2
        refine Gx_iload dX2_readsSort_39 rfl ?_
        refine Gx_iconst ⟨by decide, by decide⟩ dX2_readsSort_41 ?_
        refine Gx_icmp_ge (tgt := 80) dX2_readsSort_42 (by decide) (fun hz => absurd hz (by decide)) (fun _ => ?_)
        refine Gx_aload_n (i := 0) dX2_readsSort_45 rfl rfl ?_
        refine Gx_iload_n (i := 1) dX2_readsSort_46 rfl rfl ?_
        refine Gx_iconst ⟨by decide, by decide⟩ dX2_readsSort_47 ?_
        refine Gx_iconst ⟨by decide, by decide⟩ dX2_readsSort_48 ?_
        refine Gx_bipush dX2_readsSort_49 ⟨by decide, by decide⟩ ?_
        refine cl_X2_147 dX2_readsSort_51 rfl rfl ⟨(Nat.le_of_ble_eq_true rfl), (Nat.le_of_ble_eq_true rfl)⟩ rfl ?_
        refine ct_X2_readsP (q0 := qB2) (f := 1) hr hsA2 hbA2 hqA2 (by omega) rfl (by omega) (fun qB3 xB3 vB3 cB3 bB3 hFB3 hqB3 hxB3 hbB3 hsB3 => ?_) (fun qB3 xB3 vB3 hzB3 cB3 bB3 hFB3 hqB3 hxB3 hbB3 hsB3 => ?_)
        · refine Gx_if_ne (tgt := 59) dX2_readsSort_54 (by decide) (fun _ => ?_) (fun hz => absurd hz (by decide))
          refine Gx_aload_n (i := 0) dX2_readsSort_59 rfl rfl ?_
          refine gf_X2_29_22 dX2_readsSort_60 rfl rfl ?_
          refine Gx_iload_n (i := 3) dX2_readsSort_63 rfl rfl ?_
          refine Gx_iconst ⟨by decide, by decide⟩ dX2_readsSort_64 ?_
          refine Gx_iadd dX2_readsSort_65 ?_
          try simp (disch := omega) only [w32_id]
          refine Gx_iload dX2_readsSort_66 rfl ?_
          refine Gx_iadd dX2_readsSort_68 ?_
          try simp (disch := omega) only [w32_id]
          refine Gx_aload_n (i := 0) dX2_readsSort_69 rfl rfl ?_
          refine gf_X2_138_22 dX2_readsSort_70 rfl rfl ?_
          refine Gx_iastore dX2_readsSort_73 rfl (by first | omega | (simp (disch := omega) only [w32_id]; omega)) ?_
          refine Gx_iinc_4 dX2_readsSort_74 (Nat.le_of_ble_eq_true rfl) (Nat.ne_of_beq_eq_false rfl) ?_
          rw [show w32 (2 + 1) = (3 : Int) from by decide]
          refine Gx_goto (tgt := 39) dX2_readsSort_77 (by decide) ?_
          refine Gx_name (fun vA3 eA3 => ?_)
          have hFA3 : ∀ a j, ¬ (a = 45 ∧ j = 7 * n0 + 3) → vA3 a j = vB3 a j := by
            intro a j hn
            rw [eA3]
            simp (disch := omega) only [gUp_ne2, gUp_eq2]
          have hyA3 : vA3 45 (7 * n0 + 3) = xB3 := by
            rw [eA3]
            simp (disch := omega) only [gUp_ne2, gUp_eq2, hxB3]
          have hqA3 : vA3 38 10 = qB3 := by rw [hFA3 38 10 (by omega)]; exact hqB3
          have hbA3 : mB vA3 r = b := mB_of (fun j => hFA3 43 j (by omega)) (fun j => hFA3 44 j (by omega)) hbB3
          have hsA3 : vA3 43 r ≤ 80 := by rw [hFA3 43 r (by omega)]; exact hsB3
          refine Gx_iload dX2_readsSort_39 rfl ?_
          refine Gx_iconst ⟨by decide, by decide⟩ dX2_readsSort_41 ?_
          refine Gx_icmp_ge (tgt := 80) dX2_readsSort_42 (by decide) (fun _ => ?_) (fun hz => absurd hz (by decide))
          refine Gx_iconst ⟨by decide, by decide⟩ dX2_readsSort_80 ?_
          refine Gx_istore_4 dX2_readsSort_81 (Nat.le_of_ble_eq_true rfl) (Nat.ne_of_beq_eq_false rfl) ?_
          refine Gx_iload dX2_readsSort_83 rfl ?_
          refine Gx_bipush dX2_readsSort_85 ⟨by decide, by decide⟩ ?_
          refine Gx_icmp_ge (tgt := 106) dX2_readsSort_87 (by decide) (fun hz => absurd hz (by decide)) (fun _ => ?_)
          refine Gx_aload_n (i := 0) dX2_readsSort_90 rfl rfl ?_
          refine gf_X2_29_22 dX2_readsSort_91 rfl rfl ?_
          refine Gx_iload_n (i := 3) dX2_readsSort_94 rfl rfl ?_
          refine Gx_iload dX2_readsSort_95 rfl ?_
          refine Gx_iadd dX2_readsSort_97 ?_
          try simp (disch := omega) only [w32_id]
          refine Gx_iconst ⟨by decide, by decide⟩ dX2_readsSort_98 ?_
          refine Gx_iastore dX2_readsSort_99 rfl (by first | omega | (simp (disch := omega) only [w32_id]; omega)) ?_
          refine Gx_iinc_4 dX2_readsSort_100 (Nat.le_of_ble_eq_true rfl) (Nat.ne_of_beq_eq_false rfl) ?_
          rw [show w32 (4 + 1) = (5 : Int) from by decide]
          refine Gx_goto (tgt := 83) dX2_readsSort_103 (by decide) ?_
          refine Gx_iload dX2_readsSort_83 rfl ?_
          refine Gx_bipush dX2_readsSort_85 ⟨by decide, by decide⟩ ?_
          refine Gx_icmp_ge (tgt := 106) dX2_readsSort_87 (by decide) (fun hz => absurd hz (by decide)) (fun _ => ?_)
          refine Gx_aload_n (i := 0) dX2_readsSort_90 rfl rfl ?_
          refine gf_X2_29_22 dX2_readsSort_91 rfl rfl ?_
          refine Gx_iload_n (i := 3) dX2_readsSort_94 rfl rfl ?_
          refine Gx_iload dX2_readsSort_95 rfl ?_
          refine Gx_iadd dX2_readsSort_97 ?_
          try simp (disch := omega) only [w32_id]
          refine Gx_iconst ⟨by decide, by decide⟩ dX2_readsSort_98 ?_
          refine Gx_iastore dX2_readsSort_99 rfl (by first | omega | (simp (disch := omega) only [w32_id]; omega)) ?_
          refine Gx_iinc_4 dX2_readsSort_100 (Nat.le_of_ble_eq_true rfl) (Nat.ne_of_beq_eq_false rfl) ?_
          rw [show w32 (5 + 1) = (6 : Int) from by decide]
          refine Gx_goto (tgt := 83) dX2_readsSort_103 (by decide) ?_
          refine Gx_iload dX2_readsSort_83 rfl ?_
          refine Gx_bipush dX2_readsSort_85 ⟨by decide, by decide⟩ ?_
          refine Gx_icmp_ge (tgt := 106) dX2_readsSort_87 (by decide) (fun hz => absurd hz (by decide)) (fun _ => ?_)
          refine Gx_aload_n (i := 0) dX2_readsSort_90 rfl rfl ?_
          refine gf_X2_29_22 dX2_readsSort_91 rfl rfl ?_
          refine Gx_iload_n (i := 3) dX2_readsSort_94 rfl rfl ?_
          refine Gx_iload dX2_readsSort_95 rfl ?_
          refine Gx_iadd dX2_readsSort_97 ?_
          try simp (disch := omega) only [w32_id]
          refine Gx_iconst ⟨by decide, by decide⟩ dX2_readsSort_98 ?_
          refine Gx_iastore dX2_readsSort_99 rfl (by first | omega | (simp (disch := omega) only [w32_id]; omega)) ?_
          refine Gx_iinc_4 dX2_readsSort_100 (Nat.le_of_ble_eq_true rfl) (Nat.ne_of_beq_eq_false rfl) ?_
          rw [show w32 (6 + 1) = (7 : Int) from by decide]
          refine Gx_goto (tgt := 83) dX2_readsSort_103 (by decide) ?_
          refine Gx_iload dX2_readsSort_83 rfl ?_
          refine Gx_bipush dX2_readsSort_85 ⟨by decide, by decide⟩ ?_
          refine Gx_icmp_ge (tgt := 106) dX2_readsSort_87 (by decide) (fun _ => ?_) (fun hz => absurd hz (by decide))
          refine Gx_name (fun vZ eZ => ?_)
          have hFZ : ∀ a j, ¬ (a = 45 ∧ 7 * n0 + 4 ≤ j ∧ j ≤ 7 * n0 + 6) → vZ a j = vA3 a j := by
            intro a j hn
            rw [eZ]
            simp (disch := omega) only [gUp_ne2, gUp_eq2]
          have hz4 : vZ 45 (7 * n0 + 4) = 0 := by rw [eZ]; simp (disch := omega) only [gUp_ne2, gUp_eq2]
          have hz5 : vZ 45 (7 * n0 + 5) = 0 := by rw [eZ]; simp (disch := omega) only [gUp_ne2, gUp_eq2]
          have hz6 : vZ 45 (7 * n0 + 6) = 0 := by rw [eZ]; simp (disch := omega) only [gUp_ne2, gUp_eq2]
          have hqZ : vZ 38 10 = qB3 := by rw [hFZ 38 10 (by omega)]; exact hqA3
          have hbZ : mB vZ r = b := mB_of (fun j => hFZ 43 j (by omega)) (fun j => hFZ 44 j (by omega)) hbA3
          have hsZ : vZ 43 r ≤ 80 := by rw [hFZ 43 r (by omega)]; exact hsA3
          have hnZ : vZ 38 12 = n0 := by simp (disch := omega) only [hFZ, hFA3, hFB3, hFA2, hFB2, hFA1, hFB1, hF36, hn]
          refine Gx_iload_n (i := 2) dX2_readsSort_106 rfl rfl ?_
          refine Gx_iconst ⟨by decide, by decide⟩ dX2_readsSort_107 ?_
          refine Gx_icmp_eq (tgt := 121) dX2_readsSort_108 (by decide) (fun c108 => ?_) (fun c108 => ?_)
          · refine Gx_iconst ⟨by decide, by decide⟩ dX2_readsSort_121 ?_
            refine Gx_goto (tgt := 126) dX2_readsSort_122 (by decide) ?_
            refine Gx_istore_4 dX2_readsSort_126 (Nat.le_of_ble_eq_true rfl) (Nat.ne_of_beq_eq_false rfl) ?_
            refine Gx_aload_n (i := 0) dX2_readsSort_128 rfl rfl ?_
            refine Gx_dup (Nat.ne_of_beq_eq_false rfl) dX2_readsSort_129 ?_
            refine gf_X2_144_22 dX2_readsSort_130 rfl rfl ?_
            refine Gx_iload dX2_readsSort_133 rfl ?_
            refine Gx_if_eq (tgt := 142) dX2_readsSort_135 (by decide) (fun hz => absurd hz (by decide)) (fun _ => ?_)
            refine Gx_iconst ⟨by decide, by decide⟩ dX2_readsSort_138 ?_
            refine Gx_goto (tgt := 143) dX2_readsSort_139 (by decide) ?_
            refine Gx_iadd dX2_readsSort_143 ?_
            try simp (disch := omega) only [w32_id]
            refine pf_X2_144_22 dX2_readsSort_144 rfl rfl ?_
            refine Gx_iload dX2_readsSort_147 rfl ?_
            refine Gx_ireturn dX2_readsSort_149 (Or.inr rfl) ?_
            first
              | (refine k0 qM _ ?_ ?_ ?_ ?_
                 · simp [pSort, Bind.bind, Except.bind, Pure.pure, Except.pure, *]; done
                 · intro a j hn; simp (disch := omega) only [gUp_ne2, gUp_eq2, hFM, hFZ, hFA3, hFB3, hFA2, hFB2, hFA1, hFB1, hF36]; done
                 · rw [gUp_ne2 (by omega)]; exact hqM
                 · rw [gUp_eq2 rfl rfl]; omega)
              | (refine k1 qB3 (fun k => if k = 0 then kd else if k = 1 then xB1 else if k = 2 then xB2 else if k = 3 then xB3 else if k = 4 then 0 else if k = 5 then 0 else 0) _ ?_ ?_ ?_ ?_ ?_
                 · simp [pSort, Bind.bind, Except.bind, Pure.pure, Except.pure, *]; done
                 · intro a j hn; simp (disch := omega) only [gUp_ne2, gUp_eq2, hFZ, hFA3, hFB3, hFA2, hFB2, hFA1, hFB1, hF36]; done
                 · rw [gUp_ne2 (by omega)]; exact hqZ
                 · rw [gUp_eq2 rfl rfl]; omega
                 · intro k hk0 hk6
                   rcases (by omega : k = 0 ∨ k = 1 ∨ k = 2 ∨ k = 3 ∨ k = 4 ∨ k = 5 ∨ k = 6) with rfl | rfl | rfl | rfl | rfl | rfl | rfl
                   · show _ = kd; rw [gUp_ne2 (by omega)]; simp (disch := omega) only [hFZ, hFA3, hFB3, hFA2, hFB2, hFA1, hFB1, Int.add_zero, hk36]
                   · show _ = xB1; rw [gUp_ne2 (by omega)]; simp (disch := omega) only [hFZ, hFA3, hFB3, hFA2, hFB2, hFA1, hFB1, hyA1]
                   · show _ = xB2; rw [gUp_ne2 (by omega)]; simp (disch := omega) only [hFZ, hFA3, hFB3, hFA2, hFB2, hFA1, hFB1, hyA2]
                   · show _ = xB3; rw [gUp_ne2 (by omega)]; simp (disch := omega) only [hFZ, hFA3, hFB3, hFA2, hFB2, hFA1, hFB1, hyA3]
                   · show _ = 0; rw [gUp_ne2 (by omega)]; simp (disch := omega) only [hz4]
                   · show _ = 0; rw [gUp_ne2 (by omega)]; simp (disch := omega) only [hz5]
                   · show _ = 0; rw [gUp_ne2 (by omega)]; simp (disch := omega) only [hz6])
              | (refine k1 qM (fun k => if k = 0 then kd else if k = 1 then xB1 else if k = 2 then xB2 else if k = 3 then xB3 else if k = 4 then x4 else if k = 5 then x5 else x6) _ ?_ ?_ ?_ ?_ ?_
                 · simp [pSort, Bind.bind, Except.bind, Pure.pure, Except.pure, *]; done
                 · intro a j hn; simp (disch := omega) only [gUp_ne2, gUp_eq2, hFM, hFZ, hFA3, hFB3, hFA2, hFB2, hFA1, hFB1, hF36]; done
                 · rw [gUp_ne2 (by omega)]; exact hqM
                 · rw [gUp_eq2 rfl rfl]; omega
                 · intro k hk0 hk6
                   rcases (by omega : k = 0 ∨ k = 1 ∨ k = 2 ∨ k = 3 ∨ k = 4 ∨ k = 5 ∨ k = 6) with rfl | rfl | rfl | rfl | rfl | rfl | rfl
                   · show _ = kd; rw [gUp_ne2 (by omega)]; simp (disch := omega) only [hFM, hFZ, hFA3, hFB3, hFA2, hFB2, hFA1, hFB1, Int.add_zero, hk36]
                   · show _ = xB1; rw [gUp_ne2 (by omega)]; simp (disch := omega) only [hFM, hFZ, hFA3, hFB3, hFA2, hFB2, hFA1, hFB1, hyA1]
                   · show _ = xB2; rw [gUp_ne2 (by omega)]; simp (disch := omega) only [hFM, hFZ, hFA3, hFB3, hFA2, hFB2, hFA1, hFB1, hyA2]
                   · show _ = xB3; rw [gUp_ne2 (by omega)]; simp (disch := omega) only [hFM, hFZ, hFA3, hFB3, hFA2, hFB2, hFA1, hFB1, hyA3]
                   · show _ = x4; rw [gUp_ne2 (by omega)]; simp (disch := omega) only [hy4]
                   · show _ = x5; rw [gUp_ne2 (by omega)]; simp (disch := omega) only [hy5]
                   · show _ = x6; rw [gUp_ne2 (by omega), hy6]; split <;> first | rfl | (rw [hz6]; exact (pMore_x6 cM (by omega) (by omega)).symm))
          · refine Gx_aload_n (i := 0) dX2_readsSort_111 rfl rfl ?_
            refine Gx_iload_n (i := 1) dX2_readsSort_112 rfl rfl ?_
            refine Gx_iload_n (i := 2) dX2_readsSort_113 rfl rfl ?_
            refine Gx_iload_n (i := 3) dX2_readsSort_114 rfl rfl ?_
            refine cl_X2_151 dX2_readsSort_115 rfl rfl ⟨(Nat.le_of_ble_eq_true rfl), (Nat.le_of_ble_eq_true rfl)⟩ rfl ?_
            refine ct_X2_readsMore (q0 := qB3) hr hsZ hbZ hqZ (by omega) (by omega) (by omega) (fun qM x4 x5 x6 vM cM hFM hqM hy4 hy5 hy6 => ?_) (fun qM vM cM hFM hqM => ?_)
            · have hnM : vM 38 12 = n0 := by rw [hFM 38 12 (by omega)]; exact hnZ
              refine Gx_if_eq (tgt := 125) dX2_readsSort_118 (by decide) (fun hz => absurd hz (by decide)) (fun _ => ?_)
              refine Gx_iconst ⟨by decide, by decide⟩ dX2_readsSort_121 ?_
              refine Gx_goto (tgt := 126) dX2_readsSort_122 (by decide) ?_
              refine Gx_istore_4 dX2_readsSort_126 (Nat.le_of_ble_eq_true rfl) (Nat.ne_of_beq_eq_false rfl) ?_
              refine Gx_aload_n (i := 0) dX2_readsSort_128 rfl rfl ?_
              refine Gx_dup (Nat.ne_of_beq_eq_false rfl) dX2_readsSort_129 ?_
              refine gf_X2_144_22 dX2_readsSort_130 rfl rfl ?_
              refine Gx_iload dX2_readsSort_133 rfl ?_
              refine Gx_if_eq (tgt := 142) dX2_readsSort_135 (by decide) (fun hz => absurd hz (by decide)) (fun _ => ?_)
              refine Gx_iconst ⟨by decide, by decide⟩ dX2_readsSort_138 ?_
              refine Gx_goto (tgt := 143) dX2_readsSort_139 (by decide) ?_
              refine Gx_iadd dX2_readsSort_143 ?_
              try simp (disch := omega) only [w32_id]
              refine pf_X2_144_22 dX2_readsSort_144 rfl rfl ?_
              refine Gx_iload dX2_readsSort_147 rfl ?_
              refine Gx_ireturn dX2_readsSort_149 (Or.inr rfl) ?_
              first
                | (refine k0 qM _ ?_ ?_ ?_ ?_
                   · simp [pSort, Bind.bind, Except.bind, Pure.pure, Except.pure, *]; done
                   · intro a j hn; simp (disch := omega) only [gUp_ne2, gUp_eq2, hFM, hFZ, hFA3, hFB3, hFA2, hFB2, hFA1, hFB1, hF36]; done
                   · rw [gUp_ne2 (by omega)]; exact hqM
                   · rw [gUp_eq2 rfl rfl]; omega)
                | (refine k1 qB3 (fun k => if k = 0 then kd else if k = 1 then xB1 else if k = 2 then xB2 else if k = 3 then xB3 else if k = 4 then 0 else if k = 5 then 0 else 0) _ ?_ ?_ ?_ ?_ ?_
                   · simp [pSort, Bind.bind, Except.bind, Pure.pure, Except.pure, *]; done
                   · intro a j hn; simp (disch := omega) only [gUp_ne2, gUp_eq2, hFZ, hFA3, hFB3, hFA2, hFB2, hFA1, hFB1, hF36]; done
                   · rw [gUp_ne2 (by omega)]; exact hqZ
                   · rw [gUp_eq2 rfl rfl]; omega
                   · intro k hk0 hk6
                     rcases (by omega : k = 0 ∨ k = 1 ∨ k = 2 ∨ k = 3 ∨ k = 4 ∨ k = 5 ∨ k = 6) with rfl | rfl | rfl | rfl | rfl | rfl | rfl
                     · show _ = kd; rw [gUp_ne2 (by omega)]; simp (disch := omega) only [hFZ, hFA3, hFB3, hFA2, hFB2, hFA1, hFB1, Int.add_zero, hk36]
                     · show _ = xB1; rw [gUp_ne2 (by omega)]; simp (disch := omega) only [hFZ, hFA3, hFB3, hFA2, hFB2, hFA1, hFB1, hyA1]
                     · show _ = xB2; rw [gUp_ne2 (by omega)]; simp (disch := omega) only [hFZ, hFA3, hFB3, hFA2, hFB2, hFA1, hFB1, hyA2]
                     · show _ = xB3; rw [gUp_ne2 (by omega)]; simp (disch := omega) only [hFZ, hFA3, hFB3, hFA2, hFB2, hFA1, hFB1, hyA3]
                     · show _ = 0; rw [gUp_ne2 (by omega)]; simp (disch := omega) only [hz4]
                     · show _ = 0; rw [gUp_ne2 (by omega)]; simp (disch := omega) only [hz5]
                     · show _ = 0; rw [gUp_ne2 (by omega)]; simp (disch := omega) only [hz6])
                | (refine k1 qM (fun k => if k = 0 then kd else if k = 1 then xB1 else if k = 2 then xB2 else if k = 3 then xB3 else if k = 4 then x4 else if k = 5 then x5 else x6) _ ?_ ?_ ?_ ?_ ?_
                   · simp [pSort, Bind.bind, Except.bind, Pure.pure, Except.pure, *]; done
                   · intro a j hn; simp (disch := omega) only [gUp_ne2, gUp_eq2, hFM, hFZ, hFA3, hFB3, hFA2, hFB2, hFA1, hFB1, hF36]; done
                   · rw [gUp_ne2 (by omega)]; exact hqM
                   · rw [gUp_eq2 rfl rfl]; omega
                   · intro k hk0 hk6
                     rcases (by omega : k = 0 ∨ k = 1 ∨ k = 2 ∨ k = 3 ∨ k = 4 ∨ k = 5 ∨ k = 6) with rfl | rfl | rfl | rfl | rfl | rfl | rfl
                     · show _ = kd; rw [gUp_ne2 (by omega)]; simp (disch := omega) only [hFM, hFZ, hFA3, hFB3, hFA2, hFB2, hFA1, hFB1, Int.add_zero, hk36]
                     · show _ = xB1; rw [gUp_ne2 (by omega)]; simp (disch := omega) only [hFM, hFZ, hFA3, hFB3, hFA2, hFB2, hFA1, hFB1, hyA1]
                     · show _ = xB2; rw [gUp_ne2 (by omega)]; simp (disch := omega) only [hFM, hFZ, hFA3, hFB3, hFA2, hFB2, hFA1, hFB1, hyA2]
                     · show _ = xB3; rw [gUp_ne2 (by omega)]; simp (disch := omega) only [hFM, hFZ, hFA3, hFB3, hFA2, hFB2, hFA1, hFB1, hyA3]
                     · show _ = x4; rw [gUp_ne2 (by omega)]; simp (disch := omega) only [hy4]
                     · show _ = x5; rw [gUp_ne2 (by omega)]; simp (disch := omega) only [hy5]
                     · show _ = x6; rw [gUp_ne2 (by omega), hy6]; split <;> first | rfl | (rw [hz6]; exact (pMore_x6 cM (by omega) (by omega)).symm))
            · have hnM : vM 38 12 = n0 := by rw [hFM 38 12 (by omega)]; exact hnZ
              refine Gx_if_eq (tgt := 125) dX2_readsSort_118 (by decide) (fun _ => ?_) (fun hz => absurd hz (by decide))
              refine Gx_iconst ⟨by decide, by decide⟩ dX2_readsSort_125 ?_
              refine Gx_istore_4 dX2_readsSort_126 (Nat.le_of_ble_eq_true rfl) (Nat.ne_of_beq_eq_false rfl) ?_
              refine Gx_aload_n (i := 0) dX2_readsSort_128 rfl rfl ?_
              refine Gx_dup (Nat.ne_of_beq_eq_false rfl) dX2_readsSort_129 ?_
              refine gf_X2_144_22 dX2_readsSort_130 rfl rfl ?_
              refine Gx_iload dX2_readsSort_133 rfl ?_
              refine Gx_if_eq (tgt := 142) dX2_readsSort_135 (by decide) (fun _ => ?_) (fun hz => absurd hz (by decide))
              refine Gx_iconst ⟨by decide, by decide⟩ dX2_readsSort_142 ?_
              refine Gx_iadd dX2_readsSort_143 ?_
              try simp (disch := omega) only [w32_id]
              refine pf_X2_144_22 dX2_readsSort_144 rfl rfl ?_
              refine Gx_iload dX2_readsSort_147 rfl ?_
              refine Gx_ireturn dX2_readsSort_149 (Or.inl rfl) ?_
              first
                | (refine k0 qM _ ?_ ?_ ?_ ?_
                   · simp [pSort, Bind.bind, Except.bind, Pure.pure, Except.pure, *]; done
                   · intro a j hn; simp (disch := omega) only [gUp_ne2, gUp_eq2, hFM, hFZ, hFA3, hFB3, hFA2, hFB2, hFA1, hFB1, hF36]; done
                   · rw [gUp_ne2 (by omega)]; exact hqM
                   · rw [gUp_eq2 rfl rfl]; omega)
                | (refine k1 qB3 (fun k => if k = 0 then kd else if k = 1 then xB1 else if k = 2 then xB2 else if k = 3 then xB3 else if k = 4 then 0 else if k = 5 then 0 else 0) _ ?_ ?_ ?_ ?_ ?_
                   · simp [pSort, Bind.bind, Except.bind, Pure.pure, Except.pure, *]; done
                   · intro a j hn; simp (disch := omega) only [gUp_ne2, gUp_eq2, hFZ, hFA3, hFB3, hFA2, hFB2, hFA1, hFB1, hF36]; done
                   · rw [gUp_ne2 (by omega)]; exact hqZ
                   · rw [gUp_eq2 rfl rfl]; omega
                   · intro k hk0 hk6
                     rcases (by omega : k = 0 ∨ k = 1 ∨ k = 2 ∨ k = 3 ∨ k = 4 ∨ k = 5 ∨ k = 6) with rfl | rfl | rfl | rfl | rfl | rfl | rfl
                     · show _ = kd; rw [gUp_ne2 (by omega)]; simp (disch := omega) only [hFZ, hFA3, hFB3, hFA2, hFB2, hFA1, hFB1, Int.add_zero, hk36]
                     · show _ = xB1; rw [gUp_ne2 (by omega)]; simp (disch := omega) only [hFZ, hFA3, hFB3, hFA2, hFB2, hFA1, hFB1, hyA1]
                     · show _ = xB2; rw [gUp_ne2 (by omega)]; simp (disch := omega) only [hFZ, hFA3, hFB3, hFA2, hFB2, hFA1, hFB1, hyA2]
                     · show _ = xB3; rw [gUp_ne2 (by omega)]; simp (disch := omega) only [hFZ, hFA3, hFB3, hFA2, hFB2, hFA1, hFB1, hyA3]
                     · show _ = 0; rw [gUp_ne2 (by omega)]; simp (disch := omega) only [hz4]
                     · show _ = 0; rw [gUp_ne2 (by omega)]; simp (disch := omega) only [hz5]
                     · show _ = 0; rw [gUp_ne2 (by omega)]; simp (disch := omega) only [hz6])
                | (refine k1 qM (fun k => if k = 0 then kd else if k = 1 then xB1 else if k = 2 then xB2 else if k = 3 then xB3 else if k = 4 then x4 else if k = 5 then x5 else x6) _ ?_ ?_ ?_ ?_ ?_
                   · simp [pSort, Bind.bind, Except.bind, Pure.pure, Except.pure, *]; done
                   · intro a j hn; simp (disch := omega) only [gUp_ne2, gUp_eq2, hFM, hFZ, hFA3, hFB3, hFA2, hFB2, hFA1, hFB1, hF36]; done
                   · rw [gUp_ne2 (by omega)]; exact hqM
                   · rw [gUp_eq2 rfl rfl]; omega
                   · intro k hk0 hk6
                     rcases (by omega : k = 0 ∨ k = 1 ∨ k = 2 ∨ k = 3 ∨ k = 4 ∨ k = 5 ∨ k = 6) with rfl | rfl | rfl | rfl | rfl | rfl | rfl
                     · show _ = kd; rw [gUp_ne2 (by omega)]; simp (disch := omega) only [hFM, hFZ, hFA3, hFB3, hFA2, hFB2, hFA1, hFB1, Int.add_zero, hk36]
                     · show _ = xB1; rw [gUp_ne2 (by omega)]; simp (disch := omega) only [hFM, hFZ, hFA3, hFB3, hFA2, hFB2, hFA1, hFB1, hyA1]
                     · show _ = xB2; rw [gUp_ne2 (by omega)]; simp (disch := omega) only [hFM, hFZ, hFA3, hFB3, hFA2, hFB2, hFA1, hFB1, hyA2]
                     · show _ = xB3; rw [gUp_ne2 (by omega)]; simp (disch := omega) only [hFM, hFZ, hFA3, hFB3, hFA2, hFB2, hFA1, hFB1, hyA3]
                     · show _ = x4; rw [gUp_ne2 (by omega)]; simp (disch := omega) only [hy4]
                     · show _ = x5; rw [gUp_ne2 (by omega)]; simp (disch := omega) only [hy5]
                     · show _ = x6; rw [gUp_ne2 (by omega), hy6]; split <;> first | rfl | (rw [hz6]; exact (pMore_x6 cM (by omega) (by omega)).symm))
        · refine Gx_if_ne (tgt := 59) dX2_readsSort_54 (by decide) (fun hz => absurd hz (by decide)) (fun _ => ?_)
          refine Gx_iconst ⟨by decide, by decide⟩ dX2_readsSort_57 ?_
          refine Gx_ireturn dX2_readsSort_58 (Or.inl rfl) ?_
          first
            | (refine k0 qB3 _ ?_ ?_ ?_ ?_
               · simp [pSort, Bind.bind, Except.bind, Pure.pure, Except.pure, *]; done
               · intro a j hn; simp (disch := omega) only [gUp_ne2, gUp_eq2, hFB1, hqB1, hxB1, hFB2, hqB2, hxB2, hFB3, hqB3, hxB3, hFA2, hFA1, hF36]; done
               · exact hqB3
               · simp (disch := omega) only [gUp_ne2, gUp_eq2, hFB1, hqB1, hxB1, hFB2, hqB2, hxB2, hFB3, hqB3, hxB3, hFA2, hFA1, hF36, hn]; done)
            | (refine k0 qB2 _ ?_ ?_ ?_ ?_
               · simp [pSort, Bind.bind, Except.bind, Pure.pure, Except.pure, *]; done
               · intro a j hn; simp (disch := omega) only [gUp_ne2, gUp_eq2, hFB1, hqB1, hxB1, hFB2, hqB2, hxB2, hFB3, hqB3, hxB3, hFA1, hF36]; done
               · exact hqB2
               · simp (disch := omega) only [gUp_ne2, gUp_eq2, hFB1, hqB1, hxB1, hFB2, hqB2, hxB2, hFB3, hqB3, hxB3, hFA1, hF36, hn]; done)
            | (refine k0 qB1 _ ?_ ?_ ?_ ?_
               · simp [pSort, Bind.bind, Except.bind, Pure.pure, Except.pure, *]; done
               · intro a j hn; simp (disch := omega) only [gUp_ne2, gUp_eq2, hFB1, hqB1, hxB1, hFB2, hqB2, hxB2, hFB3, hqB3, hxB3, hF36]; done
               · exact hqB1
               · simp (disch := omega) only [gUp_ne2, gUp_eq2, hFB1, hqB1, hxB1, hFB2, hqB2, hxB2, hFB3, hqB3, hxB3, hF36, hn]; done)
      · refine Gx_if_ne (tgt := 59) dX2_readsSort_54 (by decide) (fun hz => absurd hz (by decide)) (fun _ => ?_)
        refine Gx_iconst ⟨by decide, by decide⟩ dX2_readsSort_57 ?_
        refine Gx_ireturn dX2_readsSort_58 (Or.inl rfl) ?_
        first
          | (refine k0 qB3 _ ?_ ?_ ?_ ?_
             · simp [pSort, Bind.bind, Except.bind, Pure.pure, Except.pure, *]; done
             · intro a j hn; simp (disch := omega) only [gUp_ne2, gUp_eq2, hFB1, hqB1, hxB1, hFB2, hqB2, hxB2, hFA2, hFA1, hF36]; done
             · exact hqB3
             · simp (disch := omega) only [gUp_ne2, gUp_eq2, hFB1, hqB1, hxB1, hFB2, hqB2, hxB2, hFA2, hFA1, hF36, hn]; done)
          | (refine k0 qB2 _ ?_ ?_ ?_ ?_
             · simp [pSort, Bind.bind, Except.bind, Pure.pure, Except.pure, *]; done
             · intro a j hn; simp (disch := omega) only [gUp_ne2, gUp_eq2, hFB1, hqB1, hxB1, hFB2, hqB2, hxB2, hFA1, hF36]; done
             · exact hqB2
             · simp (disch := omega) only [gUp_ne2, gUp_eq2, hFB1, hqB1, hxB1, hFB2, hqB2, hxB2, hFA1, hF36, hn]; done)
          | (refine k0 qB1 _ ?_ ?_ ?_ ?_
             · simp [pSort, Bind.bind, Except.bind, Pure.pure, Except.pure, *]; done
             · intro a j hn; simp (disch := omega) only [gUp_ne2, gUp_eq2, hFB1, hqB1, hxB1, hFB2, hqB2, hxB2, hF36]; done
             · exact hqB1
             · simp (disch := omega) only [gUp_ne2, gUp_eq2, hFB1, hqB1, hxB1, hFB2, hqB2, hxB2, hF36, hn]; done)
    · refine Gx_if_ne (tgt := 59) dX2_readsSort_54 (by decide) (fun hz => absurd hz (by decide)) (fun _ => ?_)
      refine Gx_iconst ⟨by decide, by decide⟩ dX2_readsSort_57 ?_
      refine Gx_ireturn dX2_readsSort_58 (Or.inl rfl) ?_
      first
        | (refine k0 qB3 _ ?_ ?_ ?_ ?_
           · simp [pSort, Bind.bind, Except.bind, Pure.pure, Except.pure, *]; done
           · intro a j hn; simp (disch := omega) only [gUp_ne2, gUp_eq2, hFB1, hqB1, hxB1, hFA2, hFA1, hF36]; done
           · exact hqB3
           · simp (disch := omega) only [gUp_ne2, gUp_eq2, hFB1, hqB1, hxB1, hFA2, hFA1, hF36, hn]; done)
        | (refine k0 qB2 _ ?_ ?_ ?_ ?_
           · simp [pSort, Bind.bind, Except.bind, Pure.pure, Except.pure, *]; done
           · intro a j hn; simp (disch := omega) only [gUp_ne2, gUp_eq2, hFB1, hqB1, hxB1, hFA1, hF36]; done
           · exact hqB2
           · simp (disch := omega) only [gUp_ne2, gUp_eq2, hFB1, hqB1, hxB1, hFA1, hF36, hn]; done)
        | (refine k0 qB1 _ ?_ ?_ ?_ ?_
           · simp [pSort, Bind.bind, Except.bind, Pure.pure, Except.pure, *]; done
           · intro a j hn; simp (disch := omega) only [gUp_ne2, gUp_eq2, hFB1, hqB1, hxB1, hF36]; done
           · exact hqB1
           · simp (disch := omega) only [gUp_ne2, gUp_eq2, hFB1, hqB1, hxB1, hF36, hn]; done)
  · refine Gx_iconst ⟨by decide, by decide⟩ dX2_readsSort_9 ?_
    refine Gx_ireturn dX2_readsSort_10 (Or.inl rfl) ?_
    exfalso
    omega
end
