/-! AcornYears: bear -/
section
variable {Γ : gC} {v : gM} {K : gH} {t : Nat} {Q : gQ}
/-- which bloom; what a tree gives; whether it sets; what comes of it -/
abbrev bB (v : gM) (x : Int) : Int → Bool := fun o => decide (v (x + 3) o ≠ 0)
def bDo (v : gM) (h : gH) (x o i : Int) : Bool := decide ((h o).1 ≠ 6) || decide ((if 0 ≤ v 0 35 then v 0 35 else v o 3) * yCnt (yHf (bB v x) (aHf v) i 0) (v 0 32).toNat ≤ 100 * yCnt (yHf (bB v x) (aHf v) i 1) (v 0 32).toNat)
def bGi (v : gM) (h : gH) (o w : Int) : Int := if (h o).1 = 3 then v (v o 0) w else v o 2
def bGv (v : gM) (h : gH) (x w i : Int) : Int := if bB v x i = true then (if bDo v h x (v (v 0 7) (v (v 16 i) 0)) i = true then bGi v h (v (v 0 7) (v (v 16 i) 0)) w else 0) else 0
def bSt (v : gM) (h : gH) (x w i : Int) : Int := if bB v x i = true then (if (h (v (v 0 7) (v (v 16 i) 0))).1 = 3 then v (x + 1) i else v (x + 1) i - (if bDo v h x (v (v 0 7) (v (v 16 i) 0)) i = true then bGi v h (v (v 0 7) (v (v 16 i) 0)) w else (bGi v h (v (v 0 7) (v (v 16 i) 0)) w).tdiv 2)) else v (x + 1) i
theorem yCnt_pos {q : Int → Bool} {i : Int} (h0 : 0 ≤ i) (hq : q i = true) : ∀ n : Nat, i < n → 1 ≤ yCnt q n
  | 0, h => by omega
  | n + 1, h => by
    have hl := yCnt_le q n
    unfold yCnt
    by_cases c : i = n
    · rw [← c, if_pos hq]; omega
    · have := yCnt_pos h0 hq n (by omega)
      split <;> omega
theorem oHv_C {v0 v1 : gM} {x n i sd : Int} (hv : oHv v0 v1 x n) (hsd : sd = if gHas (aHf v0) i = true then 1 else 0) : v1 29 sd = yCnt (yHf (bB v0 x) (aHf v0) i 0) n.toNat ∧ v1 30 sd = yCnt (yHf (bB v0 x) (aHf v0) i 1) n.toNat := by
  obtain ⟨-, p1, p2, p3, p4⟩ := hv
  cases hz : gHas (aHf v0) i
  · rw [hz] at hsd
    have z : sd = 0 := hsd
    rw [z, p1, p3]
    refine ⟨yCnt_congr _ (fun k k0 k1 => ?_), yCnt_congr _ (fun k k0 k1 => ?_)⟩
    · unfold yHf aH0
      rw [hz]
      cases gHas (aHf v0) k <;> simp
    · unfold yHf aB0
      rw [hz]
      cases gHas (aHf v0) k <;> simp
  · rw [hz] at hsd
    have z : sd = 1 := hsd
    rw [z, p2, p4]
    refine ⟨yCnt_congr _ (fun k k0 k1 => ?_), yCnt_congr _ (fun k k0 k1 => ?_)⟩
    · unfold yHf aH1
      rw [hz]
      cases gHas (aHf v0) k <;> simp
    · unfold yHf aB1
      rw [hz]
      cases gHas (aHf v0) k <;> simp
/-- what bears has been done for the first i trees of the wood x -/
abbrev oBq (x i a k : Int) : Prop := ((a = 29 ∨ a = 30) ∧ 0 ≤ k ∧ k < 2) ∨ (a = x ∧ k = 6) ∨ ((a = x + 1 ∨ a = x + 4) ∧ 0 ≤ k ∧ k < i)
def oBe (v0 v : gM) (h : gH) (x w i : Int) : Prop := (∀ a k, ¬ oBq x i a k → v a k = v0 a k) ∧ (∀ k, 0 ≤ k → k < i → v (x + 4) k = bGv v0 h x w k ∧ v (x + 1) k = bSt v0 h x w k) ∧ v x 6 = ySum (bGv v0 h x w) i.toNat
theorem nbA {x i a k : Int} (hx : x = 17 ∨ x = 23) (ha : a = 0 ∨ a = 16 ∨ a = 4 ∨ a = 37 ∨ 66 ≤ a) : ¬ (oBq x i a k ∨ (a = x + 4 ∧ k = i)) := by
  rcases hx with z | z <;> subst z <;> omega
theorem nb3 {x i k : Int} (hx : x = 17 ∨ x = 23) : ¬ (oBq x i (x + 3) k ∨ (x + 3 = x + 4 ∧ k = i)) := by
  rcases hx with z | z <;> subst z <;> omega
theorem nb1 {x i : Int} (hx : x = 17 ∨ x = 23) : ¬ (oBq x i (x + 1) i ∨ (x + 1 = x + 4 ∧ i = i)) := by
  rcases hx with z | z <;> subst z <;> omega
theorem nbH {x a k i : Int} (hx : x = 17 ∨ x = 23) (ha : a = 29 ∨ a = 30) : ¬ (a = x + 4 ∧ k = i) ∧ ¬ (a = x + 1 ∧ k = i) ∧ ¬ (a = x ∧ k = 6) := by
  rcases hx with z | z <;> subst z <;> omega
theorem nb6 {x i : Int} : ¬ (x = x + 4 ∧ (6 : Int) = i) := by omega
theorem nbV {x i k : Int} (h1 : k < i) : ¬ (x + 4 = x + 4 ∧ k = i) ∧ ¬ (x + 1 = x + 4 ∧ k = i) ∧ ¬ (x + 4 = x + 1 ∧ k = i) ∧ ¬ (x + 1 = x + 1 ∧ k = i) ∧ ¬ (x + 4 = x ∧ k = 6) ∧ ¬ (x + 1 = x ∧ k = 6) := by omega

set_option maxHeartbeats 4000000 in
theorem lp_X0_bear {x w n : Int} {bc bs : Nat} {v0 vH : gM} (hx : x = 17 ∨ x = 23) (hw : 0 ≤ w ∧ w ≤ 2) (hn : v0 0 32 = n) (hn24 : n ≤ 24) (hW : aWf v0 (gHd K)) (hvH : oHv v0 vH x n) (hsr : ∀ i, 0 ≤ i → i < n → (0 ≤ v0 (v0 16 i) 0 ∧ v0 (v0 16 i) 0 < (gHd K (v0 0 7)).2) ∧ (0 ≤ v0 (x + 1) i ∧ v0 (x + 1) i ≤ 60) ∧ ∀ o, v0 (v0 0 7) (v0 (v0 16 i) 0) = o → (0 ≤ bGi v0 (gHd K) o w ∧ bGi v0 (gHd K) o w ≤ 60) ∧ ((gHd K o).1 = 6 → 0 ≤ v0 o 3 ∧ v0 o 3 ≤ 99)) (h35 : v0 0 35 ≤ 99) (cont : ∀ v1, oBe v0 v1 (gHd K) x w n → Q (9, 0) v1 (gHd K) t) : ∀ (j : Nat) (i : Int) (v : gM) (z4 z5 z6 : gV), 0 ≤ i → i + j = n → (z4.1 ≠ 1 ∧ z5.1 ≠ 1) → oBe v0 v (gHd K) x w i → (∀ k, v 29 k = vH 29 k ∧ v 30 k = vH 30 k) → Gx Γ mX0_bear 12 [(2, 0), (2, x), (0, w), (0, i), z4, z5, z6] [] v (gHd K) t bc bs Q := by
  intro j
  induction j with
  | zero =>
    intro i v z4 z5 z6 h0 h1 hzz hP hHv
    obtain ⟨hF, hV, hSm⟩ := hP
    obtain ⟨hx0, hx1, hx2, hx3, hx4, hx5⟩ := hdx (K := K) hx
    have e32 : v 0 32 = n := by rw [hF 0 32 (by omega)]; exact hn
    refine Gx_iload_n (i := 3) dX0_bear_12 rfl rfl ?_
    refine Gx_aload_n (i := 0) dX0_bear_13 rfl rfl ?_
    refine gf_X0_276_20 dX0_bear_14 rfl rfl ?_
    rw [e32]
    refine Gx_icmp_ge (tgt := 134) dX0_bear_17 (by decide) (fun c17 => ?_) (fun c17 => ?_)
    · refine Gx_return dX0_bear_134 rfl ?_
      have e0 : i = n := by omega
      rw [e0] at hF hV hSm
      exact cont v ⟨hF, hV, hSm⟩
    · exfalso
      omega
  | succ j ih =>
    intro i v z4 z5 z6 h0 h1 hzz hP hHv
    obtain ⟨hF, hV, hSm⟩ := hP
    obtain ⟨hx0, hx1, hx2, hx3, hx4, hx5⟩ := hdx (K := K) hx
    have e32 : v 0 32 = n := by rw [hF 0 32 (by omega)]; exact hn
    obtain ⟨o, ho⟩ : ∃ o, v0 (v0 0 7) (v0 (v0 16 i) 0) = o := ⟨_, rfl⟩
    obtain ⟨hs, hst, hoo⟩ := hsr i h0 (by omega)
    obtain ⟨hgi, h36⟩ := hoo o ho
    obtain ⟨ho66, hk3, hA66, hA⟩ := hW.2.1 _ hs.1 hs.2
    rw [ho] at ho66 hk3 hA66 hA
    have hTr := hW.2.2.2.1 i h0 (by omega)
    have w7 := hW.1.1
    have hh7 := pairEq hW.1.2.1
    obtain ⟨sd, hsd⟩ : ∃ sd, sd = (if gHas (aHf v0) i = true then (1 : Int) else 0) := ⟨_, rfl⟩
    have hsb : 0 ≤ sd ∧ sd ≤ 1 := by rw [hsd]; split <;> omega
    obtain ⟨hC0, hC1⟩ := oHv_C hvH hsd
    have hl0 := yCnt_le (yHf (bB v0 x) (aHf v0) i 0) n.toNat
    have hl1 := yCnt_le (yHf (bB v0 x) (aHf v0) i 1) n.toNat
    have hGv := fun k k0 k1 => (show 0 ≤ bGv v0 (gHd K) x w k ∧ bGv v0 (gHd K) x w k ≤ 60 by
      unfold bGv
      have hq := ((hsr k k0 k1).2.2 _ rfl).1
      repeat' split
      all_goals omega)
    have hsl := ySum_le (f := bGv v0 (gHd K) x w) (B := 60) i.toNat (fun k k0 k1 => hGv k k0 (by omega))
    have hG9 := hGv i h0 (by omega)
    have hss : ySum (bGv v0 (gHd K) x w) (i + 1).toNat = ySum (bGv v0 (gHd K) x w) i.toNat + bGv v0 (gHd K) x w i := by
      rw [show (i + 1).toNat = i.toNat + 1 by omega]
      show _ + bGv v0 (gHd K) x w (i.toNat : Int) = _
      rw [show (i.toNat : Int) = i by omega]
    have eGv : bGv v0 (gHd K) x w i = if bB v0 x i = true then (if bDo v0 (gHd K) x o i = true then bGi v0 (gHd K) o w else 0) else 0 := by unfold bGv; rw [ho]
    have eSt : bSt v0 (gHd K) x w i = if bB v0 x i = true then (if (gHd K o).1 = 3 then v0 (x + 1) i else v0 (x + 1) i - (if bDo v0 (gHd K) x o i = true then bGi v0 (gHd K) o w else (bGi v0 (gHd K) o w).tdiv 2)) else v0 (x + 1) i := by unfold bSt; rw [ho]
    have hdv : (bGi v0 (gHd K) o w).tdiv 2 = bGi v0 (gHd K) o w / 2 := Int.tdiv_eq_ediv_of_nonneg hgi.1
    clear hW hsr hGv
    refine Gx_iload_n (i := 3) dX0_bear_12 rfl rfl ?_
    refine Gx_aload_n (i := 0) dX0_bear_13 rfl rfl ?_
    refine gf_X0_276_20 dX0_bear_14 rfl rfl ?_
    rw [e32]
    refine Gx_icmp_ge (tgt := 134) dX0_bear_17 (by decide) (fun c17 => ?_) (fun c17 => ?_)
    · refine Gx_return dX0_bear_134 rfl ?_
      exfalso
      omega
    · refine Gx_aload_n (i := 1) dX0_bear_20 rfl rfl ?_
      refine gf_X0_377_21 dX0_bear_21 rfl hx0 ?_
      refine Gx_iload_n (i := 3) dX0_bear_24 rfl rfl ?_
      refine Gx_iconst ⟨by decide, by decide⟩ dX0_bear_25 ?_
      refine Gx_iastore dX0_bear_26 hx4 (by first | omega | (simp (disch := omega) only [w32_id]; omega)) ?_
      refine Gx_name (fun va ea => ?_)
      have hFa : ∀ a k, ¬ (oBq x i a k ∨ (a = x + 4 ∧ k = i)) → va a k = v0 a k := by
        intro a k hk
        rw [ea, gUp_ne2 (fun z => hk (Or.inr z))]
        exact hF a k (fun z => hk (Or.inl z))
      have hHa : ∀ k, va 29 k = vH 29 k ∧ va 30 k = vH 30 k := by
        intro k
        rw [ea, gUp_ne2 (nbH hx (Or.inl rfl)).1, gUp_ne2 (nbH hx (Or.inr rfl)).1]
        exact hHv k
      have hS6a : va x 6 = ySum (bGv v0 (gHd K) x w) i.toNat := by rw [ea, gUp_ne2 nb6]; exact hSm
      have hVa : ∀ k, 0 ≤ k → k < i → va (x + 4) k = bGv v0 (gHd K) x w k ∧ va (x + 1) k = bSt v0 (gHd K) x w k := by
        intro k k0 k1
        rw [ea, gUp_ne2 (nbV k1).1, gUp_ne2 (nbV k1).2.1]
        exact hV k k0 k1
      have n66 := fun (b : Int) (hb : 66 ≤ b) (k : Int) => nbA (i := i) (k := k) hx (Or.inr (Or.inr (Or.inr (Or.inr hb))))
      have w7a : v0 0 7 = 0 ∨ v0 0 7 = 16 ∨ v0 0 7 = 4 ∨ v0 0 7 = 37 ∨ 66 ≤ v0 0 7 := by
        rcases w7 with z | z
        · exact Or.inr (Or.inr (Or.inl z))
        · exact Or.inr (Or.inr (Or.inr (Or.inr z)))
      have eb3 : va (x + 3) i = v0 (x + 3) i := hFa _ _ (nb3 hx)
      have e7 : va 0 7 = v0 0 7 := hFa 0 7 (nbA hx (Or.inl rfl))
      have e16 : va 16 i = v0 16 i := hFa 16 i (nbA hx (Or.inr (Or.inl rfl)))
      have eT : va (v0 16 i) 0 = v0 (v0 16 i) 0 := hFa _ _ (n66 _ hTr.1 _)
      have eO : va (va 0 7) (v0 (v0 16 i) 0) = o := by rw [e7, ← ho]; exact hFa _ _ (nbA hx w7a)
      have eA : va o 0 = v0 o 0 := hFa _ _ (n66 _ ho66 _)
      have eAw : va (v0 o 0) w = v0 (v0 o 0) w := hFa _ _ (n66 _ hA66 _)
      have eO2 : va o 2 = v0 o 2 := hFa _ _ (n66 _ ho66 _)
      have eO3 : va o 3 = v0 o 3 := hFa _ _ (n66 _ ho66 _)
      have e35 : va 0 35 = v0 0 35 := hFa _ _ (nbA hx (Or.inl rfl))
      have e36 : va 0 36 = v0 0 36 := hFa _ _ (nbA hx (Or.inl rfl))
      have ehf : aHf va = aHf v0 := by unfold aHf; rw [e36]
      have hh1 : gHd K (va 0 7) = (17, (gHd K (v0 0 7)).2) := by rw [e7]; exact hh7
      have hh2 : gHd K (va 16 i) = (8, (gHd K (v0 16 i)).2) := by rw [e16]; exact pairEq hTr.2
      have hho : gHd K o = ((gHd K o).1, (gHd K o).2) := rfl
      have eGi : (if (gHd K o).1 = 3 then va (va o 0) w else va o 2) = bGi v0 (gHd K) o w := by unfold bGi; rw [eA, eAw, eO2]
      have b29 : va 29 sd = yCnt (yHf (bB v0 x) (aHf v0) i 0) n.toNat := by rw [(hHa sd).1]; exact hC0
      have b30 : va 30 sd = yCnt (yHf (bB v0 x) (aHf v0) i 1) n.toNat := by rw [(hHa sd).2]; exact hC1
      have hab : (0 ≤ va 30 sd ∧ va 30 sd ≤ 24) ∧ 0 ≤ va 29 sd ∧ va 29 sd ≤ 24 := by rw [b29, b30]; omega
      have hi24 : i < 24 := by omega
      have eX1a : va (x + 1) i = v0 (x + 1) i := hFa _ _ (nb1 hx)
      clear w7 w7a n66 hTr ho66 hA66 hl0 hl1 hV hF hHv hSm hsb
      refine Gx_aload_n (i := 1) dX0_bear_27 rfl rfl ?_
      refine gf_X0_352_21 dX0_bear_28 rfl hx0 ?_
      refine Gx_iload_n (i := 3) dX0_bear_31 rfl rfl ?_
      refine Gx_zaload dX0_bear_32 hx3 (by first | omega | (simp (disch := omega) only [w32_id]; omega)) ?_
      rw [eb3]
      refine Gx_if_ne (tgt := 39) dX0_bear_33 (by decide) (fun c33 => ?_) (fun c33 => ?_)
      · refine Gx_aload_n (i := 0) dX0_bear_39 rfl rfl ?_
        refine Gx_iload_n (i := 3) dX0_bear_40 rfl rfl ?_
        refine cl_X0_356 dX0_bear_41 rfl rfl ⟨(Nat.le_of_ble_eq_true rfl), (Nat.le_of_ble_eq_true rfl)⟩ rfl ?_
        refine ct_X0_sortOf (s := v0 (v0 16 i) 0) hh1 ⟨h0, hi24⟩ hh2 (by rw [e16]; exact eT) hs ?_
        rw [eO]
        refine Gx_astore_4 dX0_bear_44 (Nat.le_of_ble_eq_true rfl) (Nat.ne_of_beq_eq_false rfl) ?_
        refine Gx_aload dX0_bear_46 rfl ?_
        refine Gx_iload_n (i := 2) dX0_bear_48 rfl rfl ?_
        refine gv_X0_380 dX0_bear_49 rfl hho hk3 (by rw [eA]; exact hA) hw ⟨(Nat.le_of_ble_eq_true rfl), (Nat.le_of_ble_eq_true rfl)⟩ rfl ?_
        rw [eGi]
        refine Gx_istore_5 dX0_bear_52 (Nat.le_of_ble_eq_true rfl) (Nat.ne_of_beq_eq_false rfl) ?_
        refine Gx_aload_n (i := 0) dX0_bear_54 rfl rfl ?_
        refine Gx_iload_n (i := 3) dX0_bear_55 rfl rfl ?_
        refine cl_X0_383 dX0_bear_56 rfl rfl ⟨(Nat.le_of_ble_eq_true rfl), (Nat.le_of_ble_eq_true rfl)⟩ rfl ?_
        refine ct_X0_sets (s := v0 (v0 16 i) 0) (o := o) (sd := sd) hh1 ⟨h0, hi24⟩ hh2 (by rw [e16]; exact eT) hs eO hho hk3 (fun z => by rw [eO3]; exact h36 z) (by rw [ehf]; exact hsd) hab (by rw [e35]; exact h35) (fun y1 y2 => ?_) (fun y0 => ?_)
        · have hbt : bB v0 x i = true := by rw [decide_eq_true_iff]; exact c33
          have hdo : bDo v0 (gHd K) x o i = true := by
            unfold bDo
            rw [Bool.or_eq_true, decide_eq_true_iff, decide_eq_true_iff, hn]
            by_cases z6 : (gHd K o).1 = 6
            · right
              have y3 := y1 z6
              rw [b29, b30, e35, eO3] at y3
              exact y3
            · exact Or.inl z6
          clear y1 y2
          refine Gx_istore_6 dX0_bear_59 (Nat.le_of_ble_eq_true rfl) (Nat.ne_of_beq_eq_false rfl) ?_
          refine Gx_aload_n (i := 1) dX0_bear_61 rfl rfl ?_
          refine gf_X0_377_21 dX0_bear_62 rfl hx0 ?_
          refine Gx_iload_n (i := 3) dX0_bear_65 rfl rfl ?_
          refine Gx_iload dX0_bear_66 rfl ?_
          refine Gx_if_eq (tgt := 76) dX0_bear_68 (by decide) (fun hz => absurd hz (by decide)) (fun _ => ?_)
          refine Gx_iload dX0_bear_71 rfl ?_
          refine Gx_goto (tgt := 77) dX0_bear_73 (by decide) ?_
          refine Gx_iastore dX0_bear_77 hx4 (by first | omega | (simp (disch := omega) only [w32_id]; omega)) ?_
          refine Gx_name (fun vb eb => ?_)
          have hFb : ∀ a k, ¬ (oBq x i a k ∨ (a = x + 4 ∧ k = i)) → vb a k = v0 a k := by
            intro a k hk
            rw [eb, gUp_ne2 (fun z => hk (Or.inr z))]
            exact hFa a k hk
          have hHb : ∀ k, vb 29 k = vH 29 k ∧ vb 30 k = vH 30 k := by
            intro k
            rw [eb, gUp_ne2 (nbH hx (Or.inl rfl)).1, gUp_ne2 (nbH hx (Or.inr rfl)).1]
            exact hHa k
          have hS6b : vb x 6 = ySum (bGv v0 (gHd K) x w) i.toNat := by rw [eb, gUp_ne2 nb6]; exact hS6a
          have hVb : ∀ k, 0 ≤ k → k < i → vb (x + 4) k = bGv v0 (gHd K) x w k ∧ vb (x + 1) k = bSt v0 (gHd K) x w k := by
            intro k k0 k1
            rw [eb, gUp_ne2 (nbV k1).1, gUp_ne2 (nbV k1).2.1]
            exact hVa k k0 k1
          have eX1 : vb (x + 1) i = v0 (x + 1) i := hFb _ _ (nb1 hx)
          have eX4 : vb (x + 4) i = bGv v0 (gHd K) x w i := by
            rw [eb, gUp_eq2 rfl rfl, eGv, if_pos hbt]
            first
            | (rw [if_pos hdo]; done)
            | (rw [if_neg hdo]; done)
          clear hFa hHa hVa b29 b30 hab e7 e16 eT eO eA eAw eO2 eO3 e35 e36 ehf hh1 hh2 eGi
          refine Gx_aload_n (i := 1) dX0_bear_78 rfl rfl ?_
          refine gf_X0_288_21 dX0_bear_79 rfl hx0 ?_
          refine Gx_iload_n (i := 3) dX0_bear_82 rfl rfl ?_
          refine Gx_dup2 (Nat.ne_of_beq_eq_false rfl) (Nat.ne_of_beq_eq_false rfl) dX0_bear_83 ?_
          refine Gx_iaload dX0_bear_84 hx1 (by first | omega | (simp (disch := omega) only [w32_id]; omega)) ?_
          rw [eX1]
          refine Gx_aload dX0_bear_85 rfl ?_
          refine gv_X0_360 dX0_bear_87 rfl hho hk3 ⟨(Nat.le_of_ble_eq_true rfl), (Nat.le_of_ble_eq_true rfl)⟩ rfl ?_
          refine Gx_if_ne (tgt := 97) dX0_bear_90 (by decide) (fun c90 => ?_) (fun c90 => ?_)
          · refine Gx_iload dX0_bear_97 rfl ?_
            refine Gx_if_eq (tgt := 107) dX0_bear_99 (by decide) (fun hz => absurd hz (by decide)) (fun _ => ?_)
            refine Gx_iload dX0_bear_102 rfl ?_
            refine Gx_goto (tgt := 111) dX0_bear_104 (by decide) ?_
            refine Gx_isub dX0_bear_111 ?_
            try simp (disch := omega) only [w32_id]
            refine Gx_iastore dX0_bear_112 hx1 (by first | omega | (simp (disch := omega) only [w32_id]; omega)) ?_
            refine Gx_aload_n (i := 1) dX0_bear_113 rfl rfl ?_
            refine Gx_dup (Nat.ne_of_beq_eq_false rfl) dX0_bear_114 ?_
            refine gf_X0_374_21 dX0_bear_115 rfl hx0 ?_
            rw [gUp_ne2 (by omega), hS6b]
            refine Gx_aload_n (i := 1) dX0_bear_118 rfl rfl ?_
            refine gf_X0_377_21 dX0_bear_119 rfl hx0 ?_
            refine Gx_iload_n (i := 3) dX0_bear_122 rfl rfl ?_
            refine Gx_iaload dX0_bear_123 hx4 (by first | omega | (simp (disch := omega) only [w32_id]; omega)) ?_
            rw [gUp_ne2 (by omega), eX4]
            refine Gx_iadd dX0_bear_124 ?_
            try simp (disch := omega) only [w32_id]
            refine pf_X0_374_21 dX0_bear_125 rfl hx0 ?_
            refine Gx_iinc_3 dX0_bear_128 (Nat.le_of_ble_eq_true rfl) (Nat.ne_of_beq_eq_false rfl) ?_
            try simp (disch := omega) only [w32_id]
            refine Gx_goto (tgt := 12) dX0_bear_131 (by decide) ?_
            clear hC0 hC1 hx1 hx2 hx3 hx4 hx5 hx0
            refine ih (i + 1) _ _ _ _ (by omega) (by omega) ⟨(by show (2 : Nat) ≠ 1; decide), (by show (0 : Nat) ≠ 1; decide)⟩ ⟨fun a k hk => ?_, fun k k0 k1 => ?_, ?_⟩ (fun k => ?_)
            · rw [gUp_ne2 (fun z => hk (Or.inr (Or.inl z))), gUp_ne2 (fun z => hk (Or.inr (Or.inr ⟨Or.inl z.1, by omega, by omega⟩)))]
              exact hFb a k (by
                rintro (z | z)
                · rcases z with z | z | z
                  · exact hk (Or.inl z)
                  · exact hk (Or.inr (Or.inl z))
                  · exact hk (Or.inr (Or.inr ⟨z.1, z.2.1, by omega⟩))
                · exact hk (Or.inr (Or.inr ⟨Or.inr z.1, by omega, by omega⟩)))
            · by_cases hk : k = i
              · rw [hk, gUp_ne2 (by omega), gUp_ne2 (by omega), gUp_ne2 (by omega)]
                refine ⟨eX4, ?_⟩
                rw [gUp_eq2 rfl rfl, eSt, if_pos hbt]
                first
                | (rw [if_pos (by by_cases z : (gHd K o).1 = 3; exact z; rw [if_neg z] at c90; exact absurd c90 (by decide))]; omega)
                | (rw [if_neg (by intro z; rw [if_pos z] at c90; exact absurd rfl c90)]
                   first
                   | (rw [if_pos hdo]; done)
                   | (rw [if_neg hdo]; done)
                   | (rw [if_neg hdo]; omega))
              · have k9 : k < i := by omega
                rw [gUp_ne2 (nbV k9).2.2.2.2.1, gUp_ne2 (nbV k9).2.2.1, gUp_ne2 (nbV k9).2.2.2.2.2, gUp_ne2 (nbV k9).2.2.2.1]
                exact hVb k k0 k9
            · rw [gUp_eq2 rfl rfl, hss]
            · rw [gUp_ne2 (nbH (i := 0) hx (Or.inl rfl)).2.2, gUp_ne2 (nbH hx (Or.inl rfl)).2.1, gUp_ne2 (nbH (i := 0) hx (Or.inr rfl)).2.2, gUp_ne2 (nbH hx (Or.inr rfl)).2.1]
              exact hHb k
          · refine Gx_iconst ⟨by decide, by decide⟩ dX0_bear_93 ?_
            refine Gx_goto (tgt := 111) dX0_bear_94 (by decide) ?_
            refine Gx_isub dX0_bear_111 ?_
            try simp (disch := omega) only [w32_id]
            refine Gx_iastore dX0_bear_112 hx1 (by first | omega | (simp (disch := omega) only [w32_id]; omega)) ?_
            refine Gx_aload_n (i := 1) dX0_bear_113 rfl rfl ?_
            refine Gx_dup (Nat.ne_of_beq_eq_false rfl) dX0_bear_114 ?_
            refine gf_X0_374_21 dX0_bear_115 rfl hx0 ?_
            rw [gUp_ne2 (by omega), hS6b]
            refine Gx_aload_n (i := 1) dX0_bear_118 rfl rfl ?_
            refine gf_X0_377_21 dX0_bear_119 rfl hx0 ?_
            refine Gx_iload_n (i := 3) dX0_bear_122 rfl rfl ?_
            refine Gx_iaload dX0_bear_123 hx4 (by first | omega | (simp (disch := omega) only [w32_id]; omega)) ?_
            rw [gUp_ne2 (by omega), eX4]
            refine Gx_iadd dX0_bear_124 ?_
            try simp (disch := omega) only [w32_id]
            refine pf_X0_374_21 dX0_bear_125 rfl hx0 ?_
            refine Gx_iinc_3 dX0_bear_128 (Nat.le_of_ble_eq_true rfl) (Nat.ne_of_beq_eq_false rfl) ?_
            try simp (disch := omega) only [w32_id]
            refine Gx_goto (tgt := 12) dX0_bear_131 (by decide) ?_
            clear hC0 hC1 hx1 hx2 hx3 hx4 hx5 hx0
            refine ih (i + 1) _ _ _ _ (by omega) (by omega) ⟨(by show (2 : Nat) ≠ 1; decide), (by show (0 : Nat) ≠ 1; decide)⟩ ⟨fun a k hk => ?_, fun k k0 k1 => ?_, ?_⟩ (fun k => ?_)
            · rw [gUp_ne2 (fun z => hk (Or.inr (Or.inl z))), gUp_ne2 (fun z => hk (Or.inr (Or.inr ⟨Or.inl z.1, by omega, by omega⟩)))]
              exact hFb a k (by
                rintro (z | z)
                · rcases z with z | z | z
                  · exact hk (Or.inl z)
                  · exact hk (Or.inr (Or.inl z))
                  · exact hk (Or.inr (Or.inr ⟨z.1, z.2.1, by omega⟩))
                · exact hk (Or.inr (Or.inr ⟨Or.inr z.1, by omega, by omega⟩)))
            · by_cases hk : k = i
              · rw [hk, gUp_ne2 (by omega), gUp_ne2 (by omega), gUp_ne2 (by omega)]
                refine ⟨eX4, ?_⟩
                rw [gUp_eq2 rfl rfl, eSt, if_pos hbt]
                first
                | (rw [if_pos (by by_cases z : (gHd K o).1 = 3; exact z; rw [if_neg z] at c90; exact absurd c90 (by decide))]; omega)
                | (rw [if_neg (by intro z; rw [if_pos z] at c90; exact absurd rfl c90)]
                   first
                   | (rw [if_pos hdo]; done)
                   | (rw [if_neg hdo]; done)
                   | (rw [if_neg hdo]; omega))
              · have k9 : k < i := by omega
                rw [gUp_ne2 (nbV k9).2.2.2.2.1, gUp_ne2 (nbV k9).2.2.1, gUp_ne2 (nbV k9).2.2.2.2.2, gUp_ne2 (nbV k9).2.2.2.1]
                exact hVb k k0 k9
            · rw [gUp_eq2 rfl rfl, hss]
            · rw [gUp_ne2 (nbH (i := 0) hx (Or.inl rfl)).2.2, gUp_ne2 (nbH hx (Or.inl rfl)).2.1, gUp_ne2 (nbH (i := 0) hx (Or.inr rfl)).2.2, gUp_ne2 (nbH hx (Or.inr rfl)).2.1]
              exact hHb k
        · have hbt : bB v0 x i = true := by rw [decide_eq_true_iff]; exact c33
          have hdo : ¬ bDo v0 (gHd K) x o i = true := by
            unfold bDo
            rw [Bool.or_eq_true, decide_eq_true_iff, decide_eq_true_iff, hn]
            rintro (z | z)
            · rcases y0 with y0 | y0
              · exact z y0.1
              · have hp := yCnt_pos (q := yHf (bB v0 x) (aHf v0) i 1) (i := i) h0 (by unfold yHf; rw [hbt]; simp) n.toNat (by omega)
                rw [b30] at y0
                omega
            · rcases y0 with y0 | y0
              · rw [b29, b30, e35, eO3] at y0
                exact y0.2 z
              · have hp := yCnt_pos (q := yHf (bB v0 x) (aHf v0) i 1) (i := i) h0 (by unfold yHf; rw [hbt]; simp) n.toNat (by omega)
                rw [b30] at y0
                omega
          clear y0
          refine Gx_istore_6 dX0_bear_59 (Nat.le_of_ble_eq_true rfl) (Nat.ne_of_beq_eq_false rfl) ?_
          refine Gx_aload_n (i := 1) dX0_bear_61 rfl rfl ?_
          refine gf_X0_377_21 dX0_bear_62 rfl hx0 ?_
          refine Gx_iload_n (i := 3) dX0_bear_65 rfl rfl ?_
          refine Gx_iload dX0_bear_66 rfl ?_
          refine Gx_if_eq (tgt := 76) dX0_bear_68 (by decide) (fun _ => ?_) (fun hz => absurd hz (by decide))
          refine Gx_iconst ⟨by decide, by decide⟩ dX0_bear_76 ?_
          refine Gx_iastore dX0_bear_77 hx4 (by first | omega | (simp (disch := omega) only [w32_id]; omega)) ?_
          refine Gx_name (fun vb eb => ?_)
          have hFb : ∀ a k, ¬ (oBq x i a k ∨ (a = x + 4 ∧ k = i)) → vb a k = v0 a k := by
            intro a k hk
            rw [eb, gUp_ne2 (fun z => hk (Or.inr z))]
            exact hFa a k hk
          have hHb : ∀ k, vb 29 k = vH 29 k ∧ vb 30 k = vH 30 k := by
            intro k
            rw [eb, gUp_ne2 (nbH hx (Or.inl rfl)).1, gUp_ne2 (nbH hx (Or.inr rfl)).1]
            exact hHa k
          have hS6b : vb x 6 = ySum (bGv v0 (gHd K) x w) i.toNat := by rw [eb, gUp_ne2 nb6]; exact hS6a
          have hVb : ∀ k, 0 ≤ k → k < i → vb (x + 4) k = bGv v0 (gHd K) x w k ∧ vb (x + 1) k = bSt v0 (gHd K) x w k := by
            intro k k0 k1
            rw [eb, gUp_ne2 (nbV k1).1, gUp_ne2 (nbV k1).2.1]
            exact hVa k k0 k1
          have eX1 : vb (x + 1) i = v0 (x + 1) i := hFb _ _ (nb1 hx)
          have eX4 : vb (x + 4) i = bGv v0 (gHd K) x w i := by
            rw [eb, gUp_eq2 rfl rfl, eGv, if_pos hbt]
            first
            | (rw [if_pos hdo]; done)
            | (rw [if_neg hdo]; done)
          clear hFa hHa hVa b29 b30 hab e7 e16 eT eO eA eAw eO2 eO3 e35 e36 ehf hh1 hh2 eGi
          refine Gx_aload_n (i := 1) dX0_bear_78 rfl rfl ?_
          refine gf_X0_288_21 dX0_bear_79 rfl hx0 ?_
          refine Gx_iload_n (i := 3) dX0_bear_82 rfl rfl ?_
          refine Gx_dup2 (Nat.ne_of_beq_eq_false rfl) (Nat.ne_of_beq_eq_false rfl) dX0_bear_83 ?_
          refine Gx_iaload dX0_bear_84 hx1 (by first | omega | (simp (disch := omega) only [w32_id]; omega)) ?_
          rw [eX1]
          refine Gx_aload dX0_bear_85 rfl ?_
          refine gv_X0_360 dX0_bear_87 rfl hho hk3 ⟨(Nat.le_of_ble_eq_true rfl), (Nat.le_of_ble_eq_true rfl)⟩ rfl ?_
          refine Gx_if_ne (tgt := 97) dX0_bear_90 (by decide) (fun c90 => ?_) (fun c90 => ?_)
          · refine Gx_iload dX0_bear_97 rfl ?_
            refine Gx_if_eq (tgt := 107) dX0_bear_99 (by decide) (fun _ => ?_) (fun hz => absurd hz (by decide))
            refine Gx_iload dX0_bear_107 rfl ?_
            refine Gx_iconst ⟨by decide, by decide⟩ dX0_bear_109 ?_
            refine Gx_idiv dX0_bear_110 (by first | omega | (simp (disch := omega) only [w32_id]; omega)) ?_
            refine Gx_isub dX0_bear_111 ?_
            try simp (disch := omega) only [w32_id]
            refine Gx_iastore dX0_bear_112 hx1 (by first | omega | (simp (disch := omega) only [w32_id]; omega)) ?_
            refine Gx_aload_n (i := 1) dX0_bear_113 rfl rfl ?_
            refine Gx_dup (Nat.ne_of_beq_eq_false rfl) dX0_bear_114 ?_
            refine gf_X0_374_21 dX0_bear_115 rfl hx0 ?_
            rw [gUp_ne2 (by omega), hS6b]
            refine Gx_aload_n (i := 1) dX0_bear_118 rfl rfl ?_
            refine gf_X0_377_21 dX0_bear_119 rfl hx0 ?_
            refine Gx_iload_n (i := 3) dX0_bear_122 rfl rfl ?_
            refine Gx_iaload dX0_bear_123 hx4 (by first | omega | (simp (disch := omega) only [w32_id]; omega)) ?_
            rw [gUp_ne2 (by omega), eX4]
            refine Gx_iadd dX0_bear_124 ?_
            try simp (disch := omega) only [w32_id]
            refine pf_X0_374_21 dX0_bear_125 rfl hx0 ?_
            refine Gx_iinc_3 dX0_bear_128 (Nat.le_of_ble_eq_true rfl) (Nat.ne_of_beq_eq_false rfl) ?_
            try simp (disch := omega) only [w32_id]
            refine Gx_goto (tgt := 12) dX0_bear_131 (by decide) ?_
            clear hC0 hC1 hx1 hx2 hx3 hx4 hx5 hx0
            refine ih (i + 1) _ _ _ _ (by omega) (by omega) ⟨(by show (2 : Nat) ≠ 1; decide), (by show (0 : Nat) ≠ 1; decide)⟩ ⟨fun a k hk => ?_, fun k k0 k1 => ?_, ?_⟩ (fun k => ?_)
            · rw [gUp_ne2 (fun z => hk (Or.inr (Or.inl z))), gUp_ne2 (fun z => hk (Or.inr (Or.inr ⟨Or.inl z.1, by omega, by omega⟩)))]
              exact hFb a k (by
                rintro (z | z)
                · rcases z with z | z | z
                  · exact hk (Or.inl z)
                  · exact hk (Or.inr (Or.inl z))
                  · exact hk (Or.inr (Or.inr ⟨z.1, z.2.1, by omega⟩))
                · exact hk (Or.inr (Or.inr ⟨Or.inr z.1, by omega, by omega⟩)))
            · by_cases hk : k = i
              · rw [hk, gUp_ne2 (by omega), gUp_ne2 (by omega), gUp_ne2 (by omega)]
                refine ⟨eX4, ?_⟩
                rw [gUp_eq2 rfl rfl, eSt, if_pos hbt]
                first
                | (rw [if_pos (by by_cases z : (gHd K o).1 = 3; exact z; rw [if_neg z] at c90; exact absurd c90 (by decide))]; omega)
                | (rw [if_neg (by intro z; rw [if_pos z] at c90; exact absurd rfl c90)]
                   first
                   | (rw [if_pos hdo]; done)
                   | (rw [if_neg hdo]; done)
                   | (rw [if_neg hdo]; omega))
              · have k9 : k < i := by omega
                rw [gUp_ne2 (nbV k9).2.2.2.2.1, gUp_ne2 (nbV k9).2.2.1, gUp_ne2 (nbV k9).2.2.2.2.2, gUp_ne2 (nbV k9).2.2.2.1]
                exact hVb k k0 k9
            · rw [gUp_eq2 rfl rfl, hss]
            · rw [gUp_ne2 (nbH (i := 0) hx (Or.inl rfl)).2.2, gUp_ne2 (nbH hx (Or.inl rfl)).2.1, gUp_ne2 (nbH (i := 0) hx (Or.inr rfl)).2.2, gUp_ne2 (nbH hx (Or.inr rfl)).2.1]
              exact hHb k
          · refine Gx_iconst ⟨by decide, by decide⟩ dX0_bear_93 ?_
            refine Gx_goto (tgt := 111) dX0_bear_94 (by decide) ?_
            refine Gx_isub dX0_bear_111 ?_
            try simp (disch := omega) only [w32_id]
            refine Gx_iastore dX0_bear_112 hx1 (by first | omega | (simp (disch := omega) only [w32_id]; omega)) ?_
            refine Gx_aload_n (i := 1) dX0_bear_113 rfl rfl ?_
            refine Gx_dup (Nat.ne_of_beq_eq_false rfl) dX0_bear_114 ?_
            refine gf_X0_374_21 dX0_bear_115 rfl hx0 ?_
            rw [gUp_ne2 (by omega), hS6b]
            refine Gx_aload_n (i := 1) dX0_bear_118 rfl rfl ?_
            refine gf_X0_377_21 dX0_bear_119 rfl hx0 ?_
            refine Gx_iload_n (i := 3) dX0_bear_122 rfl rfl ?_
            refine Gx_iaload dX0_bear_123 hx4 (by first | omega | (simp (disch := omega) only [w32_id]; omega)) ?_
            rw [gUp_ne2 (by omega), eX4]
            refine Gx_iadd dX0_bear_124 ?_
            try simp (disch := omega) only [w32_id]
            refine pf_X0_374_21 dX0_bear_125 rfl hx0 ?_
            refine Gx_iinc_3 dX0_bear_128 (Nat.le_of_ble_eq_true rfl) (Nat.ne_of_beq_eq_false rfl) ?_
            try simp (disch := omega) only [w32_id]
            refine Gx_goto (tgt := 12) dX0_bear_131 (by decide) ?_
            clear hC0 hC1 hx1 hx2 hx3 hx4 hx5 hx0
            refine ih (i + 1) _ _ _ _ (by omega) (by omega) ⟨(by show (2 : Nat) ≠ 1; decide), (by show (0 : Nat) ≠ 1; decide)⟩ ⟨fun a k hk => ?_, fun k k0 k1 => ?_, ?_⟩ (fun k => ?_)
            · rw [gUp_ne2 (fun z => hk (Or.inr (Or.inl z))), gUp_ne2 (fun z => hk (Or.inr (Or.inr ⟨Or.inl z.1, by omega, by omega⟩)))]
              exact hFb a k (by
                rintro (z | z)
                · rcases z with z | z | z
                  · exact hk (Or.inl z)
                  · exact hk (Or.inr (Or.inl z))
                  · exact hk (Or.inr (Or.inr ⟨z.1, z.2.1, by omega⟩))
                · exact hk (Or.inr (Or.inr ⟨Or.inr z.1, by omega, by omega⟩)))
            · by_cases hk : k = i
              · rw [hk, gUp_ne2 (by omega), gUp_ne2 (by omega), gUp_ne2 (by omega)]
                refine ⟨eX4, ?_⟩
                rw [gUp_eq2 rfl rfl, eSt, if_pos hbt]
                first
                | (rw [if_pos (by by_cases z : (gHd K o).1 = 3; exact z; rw [if_neg z] at c90; exact absurd c90 (by decide))]; omega)
                | (rw [if_neg (by intro z; rw [if_pos z] at c90; exact absurd rfl c90)]
                   first
                   | (rw [if_pos hdo]; done)
                   | (rw [if_neg hdo]; done)
                   | (rw [if_neg hdo]; omega))
              · have k9 : k < i := by omega
                rw [gUp_ne2 (nbV k9).2.2.2.2.1, gUp_ne2 (nbV k9).2.2.1, gUp_ne2 (nbV k9).2.2.2.2.2, gUp_ne2 (nbV k9).2.2.2.1]
                exact hVb k k0 k9
            · rw [gUp_eq2 rfl rfl, hss]
            · rw [gUp_ne2 (nbH (i := 0) hx (Or.inl rfl)).2.2, gUp_ne2 (nbH hx (Or.inl rfl)).2.1, gUp_ne2 (nbH (i := 0) hx (Or.inr rfl)).2.2, gUp_ne2 (nbH hx (Or.inr rfl)).2.1]
              exact hHb k
      · refine Gx_goto (tgt := 128) dX0_bear_36 (by decide) ?_
        refine Gx_iinc_3 dX0_bear_128 (Nat.le_of_ble_eq_true rfl) (Nat.ne_of_beq_eq_false rfl) ?_
        try simp (disch := omega) only [w32_id]
        refine Gx_goto (tgt := 12) dX0_bear_131 (by decide) ?_
        have hbt : ¬ bB v0 x i = true := by rw [decide_eq_true_iff]; omega
        refine ih (i + 1) va _ _ _ (by omega) (by omega) hzz ⟨fun a k hk => hFa a k (by omega), fun k k0 k1 => ?_, ?_⟩ hHa
        · by_cases hk : k = i
          · rw [hk, eGv, eSt, if_neg hbt, if_neg hbt]
            exact ⟨by rw [ea]; exact gUp_eq2 rfl rfl, eX1a⟩
          · exact hVa k k0 (by omega)
        · rw [hS6a, hss, eGv, if_neg hbt]
          omega
end
