/-! the constructor of M -/
section
variable {Γ : gC} {M : gI} {pc : Nat} {ls st : List gV} {v : gM} {K h : gH} {t bc bs : Nat} {Q : gQ}
/-- M as it is made -/
def lM0 (v : gM) : Prop := (v 38 0 = 0) ∧ (v 38 2 = 0) ∧ (v 38 3 = 0) ∧ (v 38 4 = 1) ∧ (v 38 20 = 0) ∧ (v 38 22 = 0) ∧ (v 38 26 = 0) ∧ (v 38 27 = 0) ∧ (v 38 28 = 1) ∧ (v 38 31 = 0) ∧ (v 38 33 = 0) ∧ (∀ f, v 39 f = 0) ∧ (v 54 0 = 1) ∧ (v 55 0 = 4) ∧ (v 55 1 = 4) ∧ (v 55 2 = 4) ∧ (v 40 0 = -1) ∧ (v 40 1 = -1) ∧ (v 40 2 = -1) ∧ (v 40 3 = -1) ∧ (v 40 4 = -1) ∧ (v 40 5 = -1) ∧ (v 43 0 = -1) ∧ (v 43 1 = -1) ∧ (v 43 2 = -1) ∧ (v 43 3 = -1)
theorem Gx_adr {a b : Int} (e : a = b) (kk : Gx Γ M pc ls ((2, b) :: st) v h t bc bs Q) : Gx Γ M pc ls ((2, a) :: st) v h t bc bs Q := by
  rw [e]
  exact kk
set_option maxHeartbeats 4000000 in
theorem lp_X2_init (hh : h 38 = (2, 0)) (e5 : v 38 5 = 40) (e8 : v 38 8 = 43) (e29 : v 38 29 = 54) (e30 : v 38 30 = 55) (h40 : h 40 = (10, 6)) (h43 : h 43 = (10, 4)) (h54 : h 54 = (10, 8)) (h55 : h 55 = (10, 3)) (k : ∀ v1, (∀ a j, ¬ (a = 40 ∨ a = 43 ∨ a = 54 ∨ a = 55) → v1 a j = v a j) → v1 54 0 = 1 → v1 55 0 = 4 → v1 55 1 = 4 → v1 55 2 = 4 → v1 40 0 = -1 → v1 40 1 = -1 → v1 40 2 = -1 → v1 40 3 = -1 → v1 40 4 = -1 → v1 40 5 = -1 → v1 43 0 = -1 → v1 43 1 = -1 → v1 43 2 = -1 → v1 43 3 = -1 → Gx Γ mX2_init 291 [(2, 38), (0, 4)] [] v1 h t bc bs Q) : Gx Γ mX2_init 223 [(2, 38), (9, 0)] [] v h t bc bs Q := by
  refine Gx_aload_n (i := 0) dX2_init_223 rfl rfl ?_
  refine gf_X2_56_2 dX2_init_224 rfl hh ?_
  refine Gx_adr (b := 54) e29 ?_
  refine Gx_iconst ⟨by decide, by decide⟩ dX2_init_227 ?_
  refine Gx_iconst ⟨by decide, by decide⟩ dX2_init_228 ?_
  refine Gx_iastore dX2_init_229 h54 (by first | decide | omega) ?_
  refine Gx_iconst ⟨by decide, by decide⟩ dX2_init_230 ?_
  refine Gx_istore_n_1 dX2_init_231 (Nat.le_of_ble_eq_true rfl) (Nat.ne_of_beq_eq_false rfl) ?_
  refine Gx_iload_n (i := 1) dX2_init_232 rfl rfl ?_
  refine Gx_iconst ⟨by decide, by decide⟩ dX2_init_233 ?_
  refine Gx_icmp_ge (tgt := 250) dX2_init_234 (by decide) (fun hz => absurd hz (by decide)) (fun _ => ?_)
  refine Gx_aload_n (i := 0) dX2_init_237 rfl rfl ?_
  refine gf_X2_59_2 dX2_init_238 rfl hh ?_
  refine Gx_adr (b := 55) e30 ?_
  refine Gx_iload_n (i := 1) dX2_init_241 rfl rfl ?_
  refine Gx_iconst ⟨by decide, by decide⟩ dX2_init_242 ?_
  refine Gx_iastore dX2_init_243 h55 (by first | decide | omega) ?_
  refine Gx_iinc_1 dX2_init_244 (Nat.le_of_ble_eq_true rfl) (Nat.ne_of_beq_eq_false rfl) ?_
  rw [show w32 (0 + 1) = (1 : Int) from by decide]
  refine Gx_goto (tgt := 232) dX2_init_247 (by decide) ?_
  refine Gx_iload_n (i := 1) dX2_init_232 rfl rfl ?_
  refine Gx_iconst ⟨by decide, by decide⟩ dX2_init_233 ?_
  refine Gx_icmp_ge (tgt := 250) dX2_init_234 (by decide) (fun hz => absurd hz (by decide)) (fun _ => ?_)
  refine Gx_aload_n (i := 0) dX2_init_237 rfl rfl ?_
  refine gf_X2_59_2 dX2_init_238 rfl hh ?_
  refine Gx_adr (b := 55) e30 ?_
  refine Gx_iload_n (i := 1) dX2_init_241 rfl rfl ?_
  refine Gx_iconst ⟨by decide, by decide⟩ dX2_init_242 ?_
  refine Gx_iastore dX2_init_243 h55 (by first | decide | omega) ?_
  refine Gx_iinc_1 dX2_init_244 (Nat.le_of_ble_eq_true rfl) (Nat.ne_of_beq_eq_false rfl) ?_
  rw [show w32 (1 + 1) = (2 : Int) from by decide]
  refine Gx_goto (tgt := 232) dX2_init_247 (by decide) ?_
  refine Gx_iload_n (i := 1) dX2_init_232 rfl rfl ?_
  refine Gx_iconst ⟨by decide, by decide⟩ dX2_init_233 ?_
  refine Gx_icmp_ge (tgt := 250) dX2_init_234 (by decide) (fun hz => absurd hz (by decide)) (fun _ => ?_)
  refine Gx_aload_n (i := 0) dX2_init_237 rfl rfl ?_
  refine gf_X2_59_2 dX2_init_238 rfl hh ?_
  refine Gx_adr (b := 55) e30 ?_
  refine Gx_iload_n (i := 1) dX2_init_241 rfl rfl ?_
  refine Gx_iconst ⟨by decide, by decide⟩ dX2_init_242 ?_
  refine Gx_iastore dX2_init_243 h55 (by first | decide | omega) ?_
  refine Gx_iinc_1 dX2_init_244 (Nat.le_of_ble_eq_true rfl) (Nat.ne_of_beq_eq_false rfl) ?_
  rw [show w32 (2 + 1) = (3 : Int) from by decide]
  refine Gx_goto (tgt := 232) dX2_init_247 (by decide) ?_
  refine Gx_iload_n (i := 1) dX2_init_232 rfl rfl ?_
  refine Gx_iconst ⟨by decide, by decide⟩ dX2_init_233 ?_
  refine Gx_icmp_ge (tgt := 250) dX2_init_234 (by decide) (fun _ => ?_) (fun hz => absurd hz (by decide))
  refine Gx_iconst ⟨by decide, by decide⟩ dX2_init_250 ?_
  refine Gx_istore_n_1 dX2_init_251 (Nat.le_of_ble_eq_true rfl) (Nat.ne_of_beq_eq_false rfl) ?_
  refine Gx_iload_n (i := 1) dX2_init_252 rfl rfl ?_
  refine Gx_bipush dX2_init_253 ⟨by decide, by decide⟩ ?_
  refine Gx_icmp_ge (tgt := 271) dX2_init_255 (by decide) (fun hz => absurd hz (by decide)) (fun _ => ?_)
  refine Gx_aload_n (i := 0) dX2_init_258 rfl rfl ?_
  refine gf_X2_13_2 dX2_init_259 rfl hh ?_
  refine Gx_adr (b := 40) e5 ?_
  refine Gx_iload_n (i := 1) dX2_init_262 rfl rfl ?_
  refine Gx_iconst ⟨by decide, by decide⟩ dX2_init_263 ?_
  refine Gx_iastore dX2_init_264 h40 (by first | decide | omega) ?_
  refine Gx_iinc_1 dX2_init_265 (Nat.le_of_ble_eq_true rfl) (Nat.ne_of_beq_eq_false rfl) ?_
  rw [show w32 (0 + 1) = (1 : Int) from by decide]
  refine Gx_goto (tgt := 252) dX2_init_268 (by decide) ?_
  refine Gx_iload_n (i := 1) dX2_init_252 rfl rfl ?_
  refine Gx_bipush dX2_init_253 ⟨by decide, by decide⟩ ?_
  refine Gx_icmp_ge (tgt := 271) dX2_init_255 (by decide) (fun hz => absurd hz (by decide)) (fun _ => ?_)
  refine Gx_aload_n (i := 0) dX2_init_258 rfl rfl ?_
  refine gf_X2_13_2 dX2_init_259 rfl hh ?_
  refine Gx_adr (b := 40) e5 ?_
  refine Gx_iload_n (i := 1) dX2_init_262 rfl rfl ?_
  refine Gx_iconst ⟨by decide, by decide⟩ dX2_init_263 ?_
  refine Gx_iastore dX2_init_264 h40 (by first | decide | omega) ?_
  refine Gx_iinc_1 dX2_init_265 (Nat.le_of_ble_eq_true rfl) (Nat.ne_of_beq_eq_false rfl) ?_
  rw [show w32 (1 + 1) = (2 : Int) from by decide]
  refine Gx_goto (tgt := 252) dX2_init_268 (by decide) ?_
  refine Gx_iload_n (i := 1) dX2_init_252 rfl rfl ?_
  refine Gx_bipush dX2_init_253 ⟨by decide, by decide⟩ ?_
  refine Gx_icmp_ge (tgt := 271) dX2_init_255 (by decide) (fun hz => absurd hz (by decide)) (fun _ => ?_)
  refine Gx_aload_n (i := 0) dX2_init_258 rfl rfl ?_
  refine gf_X2_13_2 dX2_init_259 rfl hh ?_
  refine Gx_adr (b := 40) e5 ?_
  refine Gx_iload_n (i := 1) dX2_init_262 rfl rfl ?_
  refine Gx_iconst ⟨by decide, by decide⟩ dX2_init_263 ?_
  refine Gx_iastore dX2_init_264 h40 (by first | decide | omega) ?_
  refine Gx_iinc_1 dX2_init_265 (Nat.le_of_ble_eq_true rfl) (Nat.ne_of_beq_eq_false rfl) ?_
  rw [show w32 (2 + 1) = (3 : Int) from by decide]
  refine Gx_goto (tgt := 252) dX2_init_268 (by decide) ?_
  refine Gx_iload_n (i := 1) dX2_init_252 rfl rfl ?_
  refine Gx_bipush dX2_init_253 ⟨by decide, by decide⟩ ?_
  refine Gx_icmp_ge (tgt := 271) dX2_init_255 (by decide) (fun hz => absurd hz (by decide)) (fun _ => ?_)
  refine Gx_aload_n (i := 0) dX2_init_258 rfl rfl ?_
  refine gf_X2_13_2 dX2_init_259 rfl hh ?_
  refine Gx_adr (b := 40) e5 ?_
  refine Gx_iload_n (i := 1) dX2_init_262 rfl rfl ?_
  refine Gx_iconst ⟨by decide, by decide⟩ dX2_init_263 ?_
  refine Gx_iastore dX2_init_264 h40 (by first | decide | omega) ?_
  refine Gx_iinc_1 dX2_init_265 (Nat.le_of_ble_eq_true rfl) (Nat.ne_of_beq_eq_false rfl) ?_
  rw [show w32 (3 + 1) = (4 : Int) from by decide]
  refine Gx_goto (tgt := 252) dX2_init_268 (by decide) ?_
  refine Gx_iload_n (i := 1) dX2_init_252 rfl rfl ?_
  refine Gx_bipush dX2_init_253 ⟨by decide, by decide⟩ ?_
  refine Gx_icmp_ge (tgt := 271) dX2_init_255 (by decide) (fun hz => absurd hz (by decide)) (fun _ => ?_)
  refine Gx_aload_n (i := 0) dX2_init_258 rfl rfl ?_
  refine gf_X2_13_2 dX2_init_259 rfl hh ?_
  refine Gx_adr (b := 40) e5 ?_
  refine Gx_iload_n (i := 1) dX2_init_262 rfl rfl ?_
  refine Gx_iconst ⟨by decide, by decide⟩ dX2_init_263 ?_
  refine Gx_iastore dX2_init_264 h40 (by first | decide | omega) ?_
  refine Gx_iinc_1 dX2_init_265 (Nat.le_of_ble_eq_true rfl) (Nat.ne_of_beq_eq_false rfl) ?_
  rw [show w32 (4 + 1) = (5 : Int) from by decide]
  refine Gx_goto (tgt := 252) dX2_init_268 (by decide) ?_
  refine Gx_iload_n (i := 1) dX2_init_252 rfl rfl ?_
  refine Gx_bipush dX2_init_253 ⟨by decide, by decide⟩ ?_
  refine Gx_icmp_ge (tgt := 271) dX2_init_255 (by decide) (fun hz => absurd hz (by decide)) (fun _ => ?_)
  refine Gx_aload_n (i := 0) dX2_init_258 rfl rfl ?_
  refine gf_X2_13_2 dX2_init_259 rfl hh ?_
  refine Gx_adr (b := 40) e5 ?_
  refine Gx_iload_n (i := 1) dX2_init_262 rfl rfl ?_
  refine Gx_iconst ⟨by decide, by decide⟩ dX2_init_263 ?_
  refine Gx_iastore dX2_init_264 h40 (by first | decide | omega) ?_
  refine Gx_iinc_1 dX2_init_265 (Nat.le_of_ble_eq_true rfl) (Nat.ne_of_beq_eq_false rfl) ?_
  rw [show w32 (5 + 1) = (6 : Int) from by decide]
  refine Gx_goto (tgt := 252) dX2_init_268 (by decide) ?_
  refine Gx_iload_n (i := 1) dX2_init_252 rfl rfl ?_
  refine Gx_bipush dX2_init_253 ⟨by decide, by decide⟩ ?_
  refine Gx_icmp_ge (tgt := 271) dX2_init_255 (by decide) (fun _ => ?_) (fun hz => absurd hz (by decide))
  refine Gx_iconst ⟨by decide, by decide⟩ dX2_init_271 ?_
  refine Gx_istore_n_1 dX2_init_272 (Nat.le_of_ble_eq_true rfl) (Nat.ne_of_beq_eq_false rfl) ?_
  refine Gx_iload_n (i := 1) dX2_init_273 rfl rfl ?_
  refine Gx_iconst ⟨by decide, by decide⟩ dX2_init_274 ?_
  refine Gx_icmp_ge (tgt := 291) dX2_init_275 (by decide) (fun hz => absurd hz (by decide)) (fun _ => ?_)
  refine Gx_aload_n (i := 0) dX2_init_278 rfl rfl ?_
  refine gf_X2_22_2 dX2_init_279 rfl hh ?_
  refine Gx_adr (b := 43) e8 ?_
  refine Gx_iload_n (i := 1) dX2_init_282 rfl rfl ?_
  refine Gx_iconst ⟨by decide, by decide⟩ dX2_init_283 ?_
  refine Gx_iastore dX2_init_284 h43 (by first | decide | omega) ?_
  refine Gx_iinc_1 dX2_init_285 (Nat.le_of_ble_eq_true rfl) (Nat.ne_of_beq_eq_false rfl) ?_
  rw [show w32 (0 + 1) = (1 : Int) from by decide]
  refine Gx_goto (tgt := 273) dX2_init_288 (by decide) ?_
  refine Gx_iload_n (i := 1) dX2_init_273 rfl rfl ?_
  refine Gx_iconst ⟨by decide, by decide⟩ dX2_init_274 ?_
  refine Gx_icmp_ge (tgt := 291) dX2_init_275 (by decide) (fun hz => absurd hz (by decide)) (fun _ => ?_)
  refine Gx_aload_n (i := 0) dX2_init_278 rfl rfl ?_
  refine gf_X2_22_2 dX2_init_279 rfl hh ?_
  refine Gx_adr (b := 43) e8 ?_
  refine Gx_iload_n (i := 1) dX2_init_282 rfl rfl ?_
  refine Gx_iconst ⟨by decide, by decide⟩ dX2_init_283 ?_
  refine Gx_iastore dX2_init_284 h43 (by first | decide | omega) ?_
  refine Gx_iinc_1 dX2_init_285 (Nat.le_of_ble_eq_true rfl) (Nat.ne_of_beq_eq_false rfl) ?_
  rw [show w32 (1 + 1) = (2 : Int) from by decide]
  refine Gx_goto (tgt := 273) dX2_init_288 (by decide) ?_
  refine Gx_iload_n (i := 1) dX2_init_273 rfl rfl ?_
  refine Gx_iconst ⟨by decide, by decide⟩ dX2_init_274 ?_
  refine Gx_icmp_ge (tgt := 291) dX2_init_275 (by decide) (fun hz => absurd hz (by decide)) (fun _ => ?_)
  refine Gx_aload_n (i := 0) dX2_init_278 rfl rfl ?_
  refine gf_X2_22_2 dX2_init_279 rfl hh ?_
  refine Gx_adr (b := 43) e8 ?_
  refine Gx_iload_n (i := 1) dX2_init_282 rfl rfl ?_
  refine Gx_iconst ⟨by decide, by decide⟩ dX2_init_283 ?_
  refine Gx_iastore dX2_init_284 h43 (by first | decide | omega) ?_
  refine Gx_iinc_1 dX2_init_285 (Nat.le_of_ble_eq_true rfl) (Nat.ne_of_beq_eq_false rfl) ?_
  rw [show w32 (2 + 1) = (3 : Int) from by decide]
  refine Gx_goto (tgt := 273) dX2_init_288 (by decide) ?_
  refine Gx_iload_n (i := 1) dX2_init_273 rfl rfl ?_
  refine Gx_iconst ⟨by decide, by decide⟩ dX2_init_274 ?_
  refine Gx_icmp_ge (tgt := 291) dX2_init_275 (by decide) (fun hz => absurd hz (by decide)) (fun _ => ?_)
  refine Gx_aload_n (i := 0) dX2_init_278 rfl rfl ?_
  refine gf_X2_22_2 dX2_init_279 rfl hh ?_
  refine Gx_adr (b := 43) e8 ?_
  refine Gx_iload_n (i := 1) dX2_init_282 rfl rfl ?_
  refine Gx_iconst ⟨by decide, by decide⟩ dX2_init_283 ?_
  refine Gx_iastore dX2_init_284 h43 (by first | decide | omega) ?_
  refine Gx_iinc_1 dX2_init_285 (Nat.le_of_ble_eq_true rfl) (Nat.ne_of_beq_eq_false rfl) ?_
  rw [show w32 (3 + 1) = (4 : Int) from by decide]
  refine Gx_goto (tgt := 273) dX2_init_288 (by decide) ?_
  refine Gx_iload_n (i := 1) dX2_init_273 rfl rfl ?_
  refine Gx_iconst ⟨by decide, by decide⟩ dX2_init_274 ?_
  refine Gx_icmp_ge (tgt := 291) dX2_init_275 (by decide) (fun _ => ?_) (fun hz => absurd hz (by decide))
  refine k _ ?_ rfl rfl rfl rfl rfl rfl rfl rfl rfl rfl rfl rfl rfl rfl
  intro a j hk
  simp (disch := omega) only [gUp_ne]
set_option maxHeartbeats 4000000 in
theorem ct_X2_init  (hh : h 38 = (2, 0)) (hz : v 38 0 = 0 ∧ v 38 2 = 0 ∧ v 38 3 = 0 ∧ v 38 20 = 0 ∧ v 38 22 = 0 ∧ v 38 26 = 0 ∧ v 38 27 = 0 ∧ v 38 31 = 0 ∧ v 38 33 = 0) (h38 : ∀ a, 0 ≤ a → a < 38 → h a = gHd0.getD a.toNat (99, 0)) (k : ∀ v1 h1, lM0 v1 → (∀ a j, a < 38 → v1 a j = v a j) → (∀ a, 0 ≤ a → a < 66 → h1 a = gHd0.getD a.toNat (99, 0)) → Q (9, 0) v1 h1 66) : Ctr Γ mX2_init [(2, 38)] v h 39 Q := by
  refine Ctr.ofG (ls := [(2, 38), (9, 0)]) rfl rfl rfl rfl rfl ?_
  refine Gx_aload_n (i := 0) dX2_init_0 rfl rfl ?_
  refine cl_X2_1 dX2_init_1 rfl hh (by decide) ⟨(Nat.le_of_ble_eq_true rfl), (Nat.le_of_ble_eq_true rfl)⟩ rfl ?_
  refine Gx_aload_n (i := 0) dX2_init_4 rfl rfl ?_
  refine Gx_bipush dX2_init_5 ⟨by decide, by decide⟩ ?_
  refine Gx_newarr (k := 10) (bc' := 29) (bs' := 1994) dX2_init_7 ⟨by decide, by decide⟩ rfl q182 (by first | decide | omega) (by decide) (by decide) ?_
  refine pf_X2_7_2 dX2_init_9 rfl rfl hh ?_
  refine Gx_aload_n (i := 0) dX2_init_12 rfl rfl ?_
  refine Gx_bipush dX2_init_13 ⟨by decide, by decide⟩ ?_
  refine Gx_newarr (k := 10) (bc' := 28) (bs' := 1988) dX2_init_15 ⟨by decide, by decide⟩ rfl q182 (by first | decide | omega) (by decide) (by decide) ?_
  refine pf_X2_13_2 dX2_init_17 rfl rfl hh ?_
  refine Gx_aload_n (i := 0) dX2_init_20 rfl rfl ?_
  refine Gx_sipush dX2_init_21 ⟨by decide, by decide⟩ ?_
  refine Gx_newarr (k := 10) (bc' := 27) (bs' := 1508) dX2_init_24 ⟨by decide, by decide⟩ rfl q182 (by first | decide | omega) (by decide) (by decide) ?_
  refine pf_X2_16_2 dX2_init_26 rfl rfl hh ?_
  refine Gx_aload_n (i := 0) dX2_init_29 rfl rfl ?_
  refine Gx_bipush dX2_init_30 ⟨by decide, by decide⟩ ?_
  refine Gx_newarr (k := 10) (bc' := 26) (bs' := 1428) dX2_init_32 ⟨by decide, by decide⟩ rfl q182 (by first | decide | omega) (by decide) (by decide) ?_
  refine pf_X2_19_2 dX2_init_34 rfl rfl hh ?_
  refine Gx_aload_n (i := 0) dX2_init_37 rfl rfl ?_
  refine Gx_iconst ⟨by decide, by decide⟩ dX2_init_38 ?_
  refine Gx_newarr (k := 10) (bc' := 25) (bs' := 1424) dX2_init_39 ⟨by decide, by decide⟩ rfl q182 (by first | decide | omega) (by decide) (by decide) ?_
  refine pf_X2_22_2 dX2_init_41 rfl rfl hh ?_
  refine Gx_aload_n (i := 0) dX2_init_44 rfl rfl ?_
  refine Gx_sipush dX2_init_45 ⟨by decide, by decide⟩ ?_
  refine Gx_newarr (k := 11) (bc' := 24) (bs' := 1104) dX2_init_48 ⟨by decide, by decide⟩ rfl q350 (by first | decide | omega) (by decide) (by decide) ?_
  refine pf_X2_25_2 dX2_init_50 rfl rfl hh ?_
  refine Gx_aload_n (i := 0) dX2_init_53 rfl rfl ?_
  refine Gx_bipush dX2_init_54 ⟨by decide, by decide⟩ ?_
  refine Gx_newarr (k := 10) (bc' := 23) (bs' := 1062) dX2_init_56 ⟨by decide, by decide⟩ rfl q182 (by first | decide | omega) (by decide) (by decide) ?_
  refine pf_X2_29_2 dX2_init_58 rfl rfl hh ?_
  refine Gx_aload_n (i := 0) dX2_init_61 rfl rfl ?_
  refine Gx_bipush dX2_init_62 ⟨by decide, by decide⟩ ?_
  refine Gx_newarr (k := 10) (bc' := 22) (bs' := 1054) dX2_init_64 ⟨by decide, by decide⟩ rfl q182 (by first | decide | omega) (by decide) (by decide) ?_
  refine pf_X2_32_2 dX2_init_66 rfl rfl hh ?_
  refine Gx_aload_n (i := 0) dX2_init_69 rfl rfl ?_
  refine Gx_iconst ⟨by decide, by decide⟩ dX2_init_70 ?_
  refine Gx_newarr (k := 10) (bc' := 21) (bs' := 1052) dX2_init_71 ⟨by decide, by decide⟩ rfl q182 (by first | decide | omega) (by decide) (by decide) ?_
  refine pf_X2_35_2 dX2_init_73 rfl rfl hh ?_
  refine Gx_aload_n (i := 0) dX2_init_76 rfl rfl ?_
  refine Gx_bipush dX2_init_77 ⟨by decide, by decide⟩ ?_
  refine Gx_newarr (k := 10) (bc' := 20) (bs' := 1044) dX2_init_79 ⟨by decide, by decide⟩ rfl q182 (by first | decide | omega) (by decide) (by decide) ?_
  refine pf_X2_38_2 dX2_init_81 rfl rfl hh ?_
  refine Gx_aload_n (i := 0) dX2_init_84 rfl rfl ?_
  refine Gx_iconst ⟨by decide, by decide⟩ dX2_init_85 ?_
  refine Gx_newarr (k := 10) (bc' := 19) (bs' := 1041) dX2_init_86 ⟨by decide, by decide⟩ rfl q182 (by first | decide | omega) (by decide) (by decide) ?_
  refine pf_X2_41_2 dX2_init_88 rfl rfl hh ?_
  refine Gx_aload_n (i := 0) dX2_init_91 rfl rfl ?_
  refine Gx_bipush dX2_init_92 ⟨by decide, by decide⟩ ?_
  refine Gx_newarr (k := 10) (bc' := 18) (bs' := 999) dX2_init_94 ⟨by decide, by decide⟩ rfl q182 (by first | decide | omega) (by decide) (by decide) ?_
  refine pf_X2_44_2 dX2_init_96 rfl rfl hh ?_
  refine Gx_aload_n (i := 0) dX2_init_99 rfl rfl ?_
  refine Gx_iconst ⟨by decide, by decide⟩ dX2_init_100 ?_
  refine Gx_newarr (k := 10) (bc' := 17) (bs' := 997) dX2_init_101 ⟨by decide, by decide⟩ rfl q182 (by first | decide | omega) (by decide) (by decide) ?_
  refine pf_X2_47_2 dX2_init_103 rfl rfl hh ?_
  refine Gx_aload_n (i := 0) dX2_init_106 rfl rfl ?_
  refine Gx_iconst ⟨by decide, by decide⟩ dX2_init_107 ?_
  refine Gx_newarr (k := 10) (bc' := 16) (bs' := 995) dX2_init_108 ⟨by decide, by decide⟩ rfl q182 (by first | decide | omega) (by decide) (by decide) ?_
  refine pf_X2_50_2 dX2_init_110 rfl rfl hh ?_
  refine Gx_aload_n (i := 0) dX2_init_113 rfl rfl ?_
  refine Gx_iconst ⟨by decide, by decide⟩ dX2_init_114 ?_
  refine Gx_newarr (k := 10) (bc' := 15) (bs' := 993) dX2_init_115 ⟨by decide, by decide⟩ rfl q182 (by first | decide | omega) (by decide) (by decide) ?_
  refine pf_X2_53_2 dX2_init_117 rfl rfl hh ?_
  refine Gx_aload_n (i := 0) dX2_init_120 rfl rfl ?_
  refine Gx_bipush dX2_init_121 ⟨by decide, by decide⟩ ?_
  refine Gx_newarr (k := 10) (bc' := 14) (bs' := 985) dX2_init_123 ⟨by decide, by decide⟩ rfl q182 (by first | decide | omega) (by decide) (by decide) ?_
  refine pf_X2_56_2 dX2_init_125 rfl rfl hh ?_
  refine Gx_aload_n (i := 0) dX2_init_128 rfl rfl ?_
  refine Gx_iconst ⟨by decide, by decide⟩ dX2_init_129 ?_
  refine Gx_newarr (k := 10) (bc' := 13) (bs' := 982) dX2_init_130 ⟨by decide, by decide⟩ rfl q182 (by first | decide | omega) (by decide) (by decide) ?_
  refine pf_X2_59_2 dX2_init_132 rfl rfl hh ?_
  refine Gx_aload_n (i := 0) dX2_init_135 rfl rfl ?_
  refine Gx_iconst ⟨by decide, by decide⟩ dX2_init_136 ?_
  refine Gx_newarr (k := 10) (bc' := 12) (bs' := 980) dX2_init_137 ⟨by decide, by decide⟩ rfl q182 (by first | decide | omega) (by decide) (by decide) ?_
  refine pf_X2_62_2 dX2_init_139 rfl rfl hh ?_
  refine Gx_aload_n (i := 0) dX2_init_142 rfl rfl ?_
  refine Gx_bipush dX2_init_143 ⟨by decide, by decide⟩ ?_
  refine Gx_newarr (k := 10) (bc' := 11) (bs' := 956) dX2_init_145 ⟨by decide, by decide⟩ rfl q182 (by first | decide | omega) (by decide) (by decide) ?_
  refine pf_X2_65_2 dX2_init_147 rfl rfl hh ?_
  refine Gx_aload_n (i := 0) dX2_init_150 rfl rfl ?_
  refine Gx_bipush dX2_init_151 ⟨by decide, by decide⟩ ?_
  refine Gx_newarr (k := 10) (bc' := 10) (bs' := 932) dX2_init_153 ⟨by decide, by decide⟩ rfl q182 (by first | decide | omega) (by decide) (by decide) ?_
  refine pf_X2_68_2 dX2_init_155 rfl rfl hh ?_
  refine Gx_aload_n (i := 0) dX2_init_158 rfl rfl ?_
  refine Gx_bipush dX2_init_159 ⟨by decide, by decide⟩ ?_
  refine Gx_newarr (k := 10) (bc' := 9) (bs' := 908) dX2_init_161 ⟨by decide, by decide⟩ rfl q182 (by first | decide | omega) (by decide) (by decide) ?_
  refine pf_X2_71_2 dX2_init_163 rfl rfl hh ?_
  refine Gx_aload_n (i := 0) dX2_init_166 rfl rfl ?_
  refine Gx_bipush dX2_init_167 ⟨by decide, by decide⟩ ?_
  refine Gx_newarr (k := 10) (bc' := 8) (bs' := 884) dX2_init_169 ⟨by decide, by decide⟩ rfl q182 (by first | decide | omega) (by decide) (by decide) ?_
  refine pf_X2_74_2 dX2_init_171 rfl rfl hh ?_
  refine Gx_aload_n (i := 0) dX2_init_174 rfl rfl ?_
  refine Gx_bipush dX2_init_175 ⟨by decide, by decide⟩ ?_
  refine Gx_newarr (k := 10) (bc' := 7) (bs' := 860) dX2_init_177 ⟨by decide, by decide⟩ rfl q182 (by first | decide | omega) (by decide) (by decide) ?_
  refine pf_X2_77_2 dX2_init_179 rfl rfl hh ?_
  refine Gx_aload_n (i := 0) dX2_init_182 rfl rfl ?_
  refine Gx_iconst ⟨by decide, by decide⟩ dX2_init_183 ?_
  refine Gx_newarr (k := 12) (bc' := 6) (bs' := 858) dX2_init_184 ⟨by decide, by decide⟩ rfl q183 (by first | decide | omega) (by decide) (by decide) ?_
  refine pf_X2_80_2 dX2_init_186 rfl rfl hh ?_
  refine Gx_aload_n (i := 0) dX2_init_189 rfl rfl ?_
  refine Gx_bipush dX2_init_190 ⟨by decide, by decide⟩ ?_
  refine Gx_newarr (k := 10) (bc' := 5) (bs' := 777) dX2_init_192 ⟨by decide, by decide⟩ rfl q182 (by first | decide | omega) (by decide) (by decide) ?_
  refine pf_X2_84_2 dX2_init_194 rfl rfl hh ?_
  refine Gx_aload_n (i := 0) dX2_init_197 rfl rfl ?_
  refine Gx_bipush dX2_init_198 ⟨by decide, by decide⟩ ?_
  refine Gx_newarr (k := 10) (bc' := 4) (bs' := 702) dX2_init_200 ⟨by decide, by decide⟩ rfl q182 (by first | decide | omega) (by decide) (by decide) ?_
  refine pf_X2_87_2 dX2_init_202 rfl rfl hh ?_
  refine Gx_aload_n (i := 0) dX2_init_205 rfl rfl ?_
  refine Gx_bipush dX2_init_206 ⟨by decide, by decide⟩ ?_
  refine Gx_newarr (k := 10) (bc' := 3) (bs' := 696) dX2_init_208 ⟨by decide, by decide⟩ rfl q182 (by first | decide | omega) (by decide) (by decide) ?_
  refine pf_X2_90_2 dX2_init_210 rfl rfl hh ?_
  refine Gx_aload_n (i := 0) dX2_init_213 rfl rfl ?_
  refine Gx_lconst1 dX2_init_214 ?_
  refine pf_X2_93_2 dX2_init_215 rfl hh ?_
  refine Gx_aload_n (i := 0) dX2_init_218 rfl rfl ?_
  refine Gx_iconst ⟨by decide, by decide⟩ dX2_init_219 ?_
  refine pf_X2_97_2 dX2_init_220 rfl hh ?_
  refine lp_X2_init hh rfl rfl rfl rfl rfl rfl rfl rfl (fun v1 fr f0 f1 f2 f3 f4 f5 f6 f7 f8 f9 f10 f11 f12 f13 => ?_)
  refine Gx_seal (a := 38) (k := 2) (k' := 22) (n := 0) hh (by decide) rfl (by decide) (gSl22 ((fr _ _ (by omega)).trans rfl) ((fr _ _ (by omega)).trans rfl) ((fr _ _ (by omega)).trans rfl) ((fr _ _ (by omega)).trans rfl) ((fr _ _ (by omega)).trans rfl) ((fr _ _ (by omega)).trans rfl) ((fr _ _ (by omega)).trans rfl) ((fr _ _ (by omega)).trans rfl) ((fr _ _ (by omega)).trans rfl) ((fr _ _ (by omega)).trans rfl) ((fr _ _ (by omega)).trans rfl) ((fr _ _ (by omega)).trans rfl) ((fr _ _ (by omega)).trans rfl) ((fr _ _ (by omega)).trans rfl) ((fr _ _ (by omega)).trans rfl) ((fr _ _ (by omega)).trans rfl) ((fr _ _ (by omega)).trans rfl) ((fr _ _ (by omega)).trans rfl) ((fr _ _ (by omega)).trans rfl) ((fr _ _ (by omega)).trans rfl) ((fr _ _ (by omega)).trans rfl) ((fr _ _ (by omega)).trans rfl) ((fr _ _ (by omega)).trans rfl) ((fr _ _ (by omega)).trans rfl) ((fr _ _ (by omega)).trans rfl) ((fr _ _ (by omega)).trans rfl) ((fr _ _ (by omega)).trans rfl)) ?_
  refine Gx_return dX2_init_291 rfl ?_
  refine k _ _ ?_ ?_ ?_
  · exact ⟨(fr _ _ (by omega)).trans hz.1, (fr _ _ (by omega)).trans hz.2.1, (fr _ _ (by omega)).trans hz.2.2.1, (fr _ _ (by omega)).trans rfl, (fr _ _ (by omega)).trans hz.2.2.2.1, (fr _ _ (by omega)).trans hz.2.2.2.2.1, (fr _ _ (by omega)).trans hz.2.2.2.2.2.1, (fr _ _ (by omega)).trans hz.2.2.2.2.2.2.1, (fr _ _ (by omega)).trans rfl, (fr _ _ (by omega)).trans hz.2.2.2.2.2.2.2.1, (fr _ _ (by omega)).trans hz.2.2.2.2.2.2.2.2, fun _ => (fr _ _ (by omega)).trans rfl, f0, f1, f2, f3, f4, f5, f6, f7, f8, f9, f10, f11, f12, f13⟩
  · intro a j a1
    rw [fr a j (by omega)]
    simp (disch := omega) only [gUp_ne, gNf_ne]
  · intro a a0 a1
    rcases (by omega : a < 38 ∨ 38 ≤ a) with z | z
    · simp (disch := omega) only [gUpH_ne]
      exact h38 a a0 z
    · rcases (by omega : a = 38 ∨ a = 39 ∨ a = 40 ∨ a = 41 ∨ a = 42 ∨ a = 43 ∨ a = 44 ∨ a = 45 ∨ a = 46 ∨ a = 47 ∨ a = 48 ∨ a = 49 ∨ a = 50 ∨ a = 51 ∨ a = 52 ∨ a = 53 ∨ a = 54 ∨ a = 55 ∨ a = 56 ∨ a = 57 ∨ a = 58 ∨ a = 59 ∨ a = 60 ∨ a = 61 ∨ a = 62 ∨ a = 63 ∨ a = 64 ∨ a = 65) with rfl | rfl | rfl | rfl | rfl | rfl | rfl | rfl | rfl | rfl | rfl | rfl | rfl | rfl | rfl | rfl | rfl | rfl | rfl | rfl | rfl | rfl | rfl | rfl | rfl | rfl | rfl | rfl <;> rfl
end
