/-! THE ABSTRACT LAYER, 4: fields and arrays -/
def gTg (ty : FieldType) : Nat := match ty with
  | .long => 1
  | .array _ => 2
  | .object _ => 2
  | _ => 0
section
variable {Γ : gC} {M : gI} {pc : Nat} {ls st : List gV} {v : gM} {h : gH} {t bc bs : Nat} {Q : gQ}
theorem gCt_cv (ty : FieldType) (x : Int) : gCt (gB Γ) ty x = gCv Γ (gTg ty, x) := by cases ty <;> rfl
theorem gRt_ra {ty : FieldType} {x : Int} (hx : gRt t ty x) : gRa t (gTg ty, x) := by
  cases ty <;> simp only [gRt, gTg, gRa] at hx ⊢ <;> first | exact hx | (unfold r32; omega)
theorem gRt_mono {t t' : Nat} (ht : t ≤ t') {ty : FieldType} {x : Int} (hx : gRt t ty x) : gRt t' ty x := by
  cases ty <;> simp only [gRt] at hx ⊢ <;> first | exact hx | omega
theorem gFv_congr {k : Nat} {v v' : gM} {a : Int} (hv : ∀ j, v' a j = v a j) (f : Nat) : gFv k v' a f = gFv k v a f := by
  unfold gFv
  split
  · rfl
  · exact hv _
theorem gAt_kept {v v' : gM} {h h' : gH} {t t' : Nat} {b : Int} {H H' : Heap} (hv : ∀ j, v' b j = v b j) (hh : h' b = h b) (ht : t ≤ t') (hq : H'[gB Γ + b.toNat]? = H[gB Γ + b.toNat]?) (hA : gAt Γ v h t b H) : gAt Γ v' h' t' b H' := by
  unfold gAt
  rw [hh]
  refine ⟨fun ho => ?_, fun h1 h2 => ?_⟩
  · obtain ⟨r, e1, e2, e3⟩ := hA.1 ho
    refine ⟨r, e1, (e2.kept hq).to (fun f _ => by rw [gFv_congr hv]), fun f hf => ?_⟩
    rw [gFv_congr hv]
    exact gRt_mono ht (e3 f hf)
  · obtain ⟨e1, e2, e3, e4⟩ := hA.2 h1 h2
    refine ⟨?_, e2, e3, fun j j1 j2 => by rw [hv]; exact gRt_mono ht (e4 j j1 j2)⟩
    rw [hq, e1]
    congr 2
    funext j
    rw [hv]
theorem gR_in {H : Heap} {a : Int} {n : Nat × Int} (hH : gR Γ v h t H) (ha : h a = n) (hn : n.1 ≠ 99) : 0 ≤ a ∧ a < t := by
  refine ⟨?_, ?_⟩
  · refine Decidable.byContradiction fun hc => hn ?_
    rw [← ha, hH.2.2.1 a (Or.inl (by omega))]
  · refine Decidable.byContradiction fun hc => hn ?_
    rw [← ha, hH.2.2.1 a (Or.inr (by omega))]
theorem gR_set {v' : gM} {H H' : Heap} {a : Int} (hH : gR Γ v h t H) (ha : 0 ≤ a ∧ a < t) (hz : H'.size = H.size) (ho : ∀ q, q ≠ gB Γ + a.toNat → H'[q]? = H[q]?) (hv : ∀ b j, b ≠ a → v' b j = v b j) (hA : gAt Γ v' h t a H') : gR Γ v' h t H' := by
  refine ⟨hz.trans hH.1, fun q hq => (ho q (by omega)).trans (hH.2.1 q hq), hH.2.2.1, fun b h1 h2 => ?_⟩
  by_cases hb : b = a
  · rw [hb]; exact hA
  · exact gAt_kept (fun j => hv b j hb) rfl (Nat.le_refl _) (ho _ (by omega)) (hH.2.2.2 b h1 h2)
theorem gUp_ne {a j x b k : Int} (hb : b ≠ a) : gUp v a j x b k = v b k := by simp [gUp, hb]
theorem gUp_at {a j x k : Int} : gUp v a j x a k = if k = j then x else v a k := by simp [gUp]
theorem clamp32 {i : Int} (hi : r32 i) : (Int32.ofInt i).toNatClampNeg = i.toNat := by
  show (Int32.ofInt i).toInt.toNat = _
  rw [toInt32 hi]
theorem in32 {i n : Int} (hi : r32 i) (h1 : 0 ≤ i ∧ i < n) : ¬ (Int32.ofInt i < 0 ∨ n.toNat ≤ (Int32.ofInt i).toNatClampNeg) := by
  rw [clamp32 hi]
  have := lt32 hi r32_0
  rw [of32_0] at this
  rw [this]
  omega
theorem gRv_ref {B : Nat} {a : Int} (ha : 0 ≤ a) : gRv B a = .ref (B + a.toNat) := if_neg (by omega)
/-- getfield -/
theorem Gx_get {a n x : Int} {k idx f g : Nat} {own ref : String} {C : String} {T : u_T} {N : Nat} (d : decode M.2.1 pc = .ok (.getfield idx, 3)) (ho : own = M.2.2.2.2.1) (hh : h a = (k, n)) (hk : gO k = true) (hr : gCl[gCi k]? = some (C, T, N)) (hf : f < N) (hin : ∀ w ∈ u_ws C T N, w ∈ lw_all)
    (q : Cond.fieldLink own idx ref (T f).2.1 (T f).2.2.1 ∈ lw_all) (hsame : (T f).1 = ref) (hx : gFv k v a f = x) (hg : gTg (gTy (gCi k) f) = g) (kk : Gx Γ M (pc + 3) ls ((g, x) :: st) v h t bc bs Q) : Gx Γ M pc ls ((2, a) :: st) v h t bc bs Q := by
  intro p e R s m args below meth c Z Cx H locs cells slots lsa h1 h2 h3 h4 h5 h6 h7
  have ha := gR_in h1 hh (by rintro rfl; revert hk; decide)
  have hA := h1.2.2.2 a ha.1 ha.2
  unfold gAt at hA
  rw [hh] at hA
  obtain ⟨r', e1, e2, e3⟩ := hA.1 hk
  have : r' = (C, T, N) := Option.some.inj (e1.symm.trans hr)
  subst this
  have hK := Cx.2.2.2.2.1
  have hts := hK.hts args
  obtain ⟨hS, hfc, kC, hkC, hkind⟩ := hK.1.1 (gCi k) _ hr
  obtain ⟨cf, kf, fi, fd, hi, hsl⟩ := hS f hf
  obtain ⟨cell, q1, q2, q3, q4⟩ := e2
  have hk2 := kk p e R s m args below meth c Z Cx H locs cells slots lsa h1 h2 h3 h4 h5 h6 ⟨by rw [← hg, ← hx]; exact gRt_ra (e3 f hf), h7.2⟩
  show W _ _ _ _ _ _ _ _ _ _ _ _ _ _ _ (F0 m pc lsa (gRv (gB Γ) a :: st.map (gCv Γ)))
  rw [gRv_ref ha.1]
  refine W.getf Cx.1 Cx.2.1 Cx.2.2.2.1 (by rw [← ho]; exact hts _ q) (by rw [← hsame]; exact hi) (u_facts hfc hkC (u_lays hts hin hf) hi).1 q1 (by rw [q3]; exact fun z => by cases z) (v := gCv Γ (g, x)) ?_ rfl rfl d hk2
  rw [hsl, q4 f hf]
  show some (gCt (gB Γ) (gTy (gCi k) f) (gFv k v a f)) = _
  rw [gCt_cv, hg, hx]
theorem Gx_getN {a n x : Int} {k idx f g : Nat} {own ref host : String} {C : String} {T : u_T} {N : Nat} (d : decode M.2.1 pc = .ok (.getfield idx, 3)) (ho : own = M.2.2.2.2.1) (hh : h a = (k, n)) (hk : gO k = true) (hr : gCl[gCi k]? = some (C, T, N)) (hf : f < N) (hin : ∀ w ∈ u_ws C T N, w ∈ lw_all)
    (q : Cond.fieldLinkNest own idx ref (T f).2.1 (T f).2.2.1 host ∈ lw_tbl) (hsame : (T f).1 = ref) (hx : gFv k v a f = x) (hg : gTg (gTy (gCi k) f) = g) (kk : Gx Γ M (pc + 3) ls ((g, x) :: st) v h t bc bs Q) : Gx Γ M pc ls ((2, a) :: st) v h t bc bs Q := by
  intro p e R s m args below meth c Z Cx H locs cells slots lsa h1 h2 h3 h4 h5 h6 h7
  have ha := gR_in h1 hh (by rintro rfl; revert hk; decide)
  have hA := h1.2.2.2 a ha.1 ha.2
  unfold gAt at hA
  rw [hh] at hA
  obtain ⟨r', e1, e2, e3⟩ := hA.1 hk
  have : r' = (C, T, N) := Option.some.inj (e1.symm.trans hr)
  subst this
  have hK := Cx.2.2.2.2.1
  have hts := hK.hts args
  obtain ⟨hS, hfc, kC, hkC, hkind⟩ := hK.1.1 (gCi k) _ hr
  obtain ⟨cf, kf, fi, fd, hi, hsl⟩ := hS f hf
  obtain ⟨cell, q1, q2, q3, q4⟩ := e2
  have hk2 := kk p e R s m args below meth c Z Cx H locs cells slots lsa h1 h2 h3 h4 h5 h6 ⟨by rw [← hg, ← hx]; exact gRt_ra (e3 f hf), h7.2⟩
  show W _ _ _ _ _ _ _ _ _ _ _ _ _ _ _ (F0 m pc lsa (gRv (gB Γ) a :: st.map (gCv Γ)))
  rw [gRv_ref ha.1]
  refine va_Wgetf Cx.1 Cx.2.1 Cx.2.2.2.1 (host := host) (by rw [← ho]; exact va_Nw.use rfl (va_Nw.warmF hK.2.2.2.1 (va_Nw.of rfl (hK.2.1 _ q)))) (by rw [← hsame]; exact hi) (u_facts hfc hkC (u_lays hts hin hf) hi).1 q1 (by rw [q3]; exact fun z => by cases z) (v := gCv Γ (g, x)) ?_ rfl rfl d hk2
  rw [hsl, q4 f hf]
  show some (gCt (gB Γ) (gTy (gCi k) f) (gFv k v a f)) = _
  rw [gCt_cv, hg, hx]
theorem gCt_narrow {ty : FieldType} {x : Int} (hty : ty = .int ∨ ty = .long ∨ (∃ c, ty = .array c) ∨ ∃ c, ty = .object c) : narrow ty (gCt (gB Γ) ty x) = gCt (gB Γ) ty x ∧ fits ty (gCt (gB Γ) ty x) = true := by
  rcases hty with rfl | rfl | ⟨c, rfl⟩ | ⟨c, rfl⟩
  · exact ⟨rfl, rfl⟩
  · exact ⟨rfl, rfl⟩
  · show narrow _ (gRv _ _) = gRv _ _ ∧ fits _ (gRv _ _) = true
    unfold gRv
    split <;> exact ⟨rfl, rfl⟩
  · show narrow _ (gRv _ _) = gRv _ _ ∧ fits _ (gRv _ _) = true
    unfold gRv
    split <;> exact ⟨rfl, rfl⟩
theorem gRa_rt {ty : FieldType} {x : Int} (hty : ty = .int ∨ ty = .long ∨ (∃ c, ty = .array c) ∨ ∃ c, ty = .object c) (hx : gRa t (gTg ty, x)) : gRt t ty x := by
  rcases hty with rfl | rfl | ⟨c, rfl⟩ | ⟨c, rfl⟩ <;> exact hx
def gPlain (ty : FieldType) : Bool := match ty with
  | .int => true
  | .long => true
  | .array _ => true
  | .object _ => true
  | _ => false
theorem gPlain_or {ty : FieldType} (hp : gPlain ty = true) : ty = .int ∨ ty = .long ∨ (∃ c, ty = .array c) ∨ ∃ c, ty = .object c := by
  cases ty <;> simp [gPlain] at hp ⊢
/-- an object's cell behind a putfield -/
theorem gOb_put {a n x : Int} {k f : Nat} {C : String} {T : u_T} {N : Nat} {H' : Heap} {cell : Cell} (hh : h a = (k, n)) (hk : gO k = true) (hr : gCl[gCi k]? = some (C, T, N)) (hoff : gOff k f = none) (hf : f < N) (hp : gPlain (gTy (gCi k) f) = true) (hx : gRa t (gTg (gTy (gCi k) f), x))
    (q2 : cell.cls = Γ.2.2.1.1 (gCi k)) (q3 : cell.vm = .none) (q4 : ∀ j, j < N → cell.slots[Γ.2.2.1.2 (gCi k) j]? = some (gCt (gB Γ) (gTy (gCi k) j) (gFv k v a j))) (e3 : ∀ j, j < N → gRt t (gTy (gCi k) j) (gFv k v a j))
    (hap : ∀ x y, x < N → y < N → x ≠ y → (Γ.2.2.1.2 (gCi k)) x ≠ (Γ.2.2.1.2 (gCi k)) y) (e1 : H'[gB Γ + a.toNat]? = some (cell.setSlot (Γ.2.2.1.2 (gCi k) f) (gCt (gB Γ) (gTy (gCi k) f) x))) : gAt Γ (gUp v a f x) h t a H' := by
  have hne : ∀ j : Nat, j ≠ f → gFv k (gUp v a f x) a j = gFv k v a j := by
    intro j hj
    unfold gFv
    split
    · rfl
    · rw [gUp_at, if_neg (by omega)]
  have hself : gFv k (gUp v a f x) a f = x := by
    unfold gFv
    rw [hoff]
    simp [gUp_at]
  unfold gAt
  rw [hh]
  refine ⟨fun _ => ⟨(C, T, N), hr, ⟨_, e1, q2, q3, fun j hj => ?_⟩, fun j hj => ?_⟩, fun h1 h2 => ?_⟩
  · rw [t_set q4 hap hf _ j hj]
    unfold updV
    by_cases hjf : j = f
    · rw [if_pos hjf, hjf]
      dsimp only
      rw [hself]
    · rw [if_neg hjf]
      dsimp only
      rw [hne j hjf]
  · by_cases hjf : j = f
    · rw [hjf, hself]
      exact gRa_rt (gPlain_or hp) hx
    · rw [hne j hjf]
      exact e3 j hj
  · exfalso
    simp [gO] at hk
    omega
/-- putfield of a field that isn't final -/
theorem Gx_put {a n x : Int} {k idx f g : Nat} {own ref : String} {C : String} {T : u_T} {N : Nat} (d : decode M.2.1 pc = .ok (.putfield idx, 3)) (ho : own = M.2.2.2.2.1) (hh : h a = (k, n)) (hk : gO k = true) (hr : gCl[gCi k]? = some (C, T, N)) (hf : f < N) (hin : ∀ w ∈ u_ws C T N, w ∈ lw_all) (hty : ∀ j, j < N → parseFieldDescriptor (T j).2.2.1 = some (gTy (gCi k) j)) (hnm : ∀ a, a < N → ∀ b, b < N → a ≠ b → (T a).2.1 ≠ (T b).2.1)
    (q : Cond.fieldLink own idx ref (T f).2.1 (T f).2.2.1 ∈ lw_all) (hsame : (T f).1 = ref) (hfin : (T f).2.2.2 = false) (hoff : gOff k f = none) (hp : gPlain (gTy (gCi k) f) = true) (hg : gTg (gTy (gCi k) f) = g) (kk : Gx Γ M (pc + 3) ls st (gUp v a f x) h t bc bs Q) : Gx Γ M pc ls ((g, x) :: (2, a) :: st) v h t bc bs Q := by
  intro p e R s m args below meth c Z Cx H locs cells slots lsa h1 h2 h3 h4 h5 h6 h7
  have ha := gR_in h1 hh (by rintro rfl; revert hk; decide)
  have hA := h1.2.2.2 a ha.1 ha.2
  unfold gAt at hA
  rw [hh] at hA
  obtain ⟨r', e1, e2, e3⟩ := hA.1 hk
  have : r' = (C, T, N) := Option.some.inj (e1.symm.trans hr)
  subst this
  have hK := Cx.2.2.2.2.1
  have hts := hK.hts args
  have hap := va_apart (own := own) (tys := gTys Γ) hts hin (gTy (gCi k)) hty hnm hK.1 hr
  obtain ⟨hS, hfc, kC, hkC, hkind⟩ := hK.1.1 (gCi k) _ hr
  obtain ⟨cf, kf, fi, fd, hi, hsl⟩ := hS f hf
  obtain ⟨cell, q1, q2, q3, q4⟩ := e2
  have hlay := hts _ (hin _ (u_in_lay hf))
  unfold u_lay at hlay
  rw [if_neg (by rw [hfin]; decide)] at hlay
  have hst := (u_facts hfc hkC (u_lays hts hin hf) hi).1
  have hnar := gCt_narrow (Γ := Γ) (x := x) (gPlain_or hp)
  have h8 := u_store hfc hkC hkind hlay hi (hty f hf) hnar.1 hnar.2
  have hx : gRa t (gTg (gTy (gCi k) f), x) := by rw [hg]; exact h7.1
  show W _ _ _ _ _ _ _ _ _ _ _ _ _ _ _ (F0 m pc lsa (gCv Γ (g, x) :: gRv (gB Γ) a :: st.map (gCv Γ)))
  rw [gRv_ref ha.1, ← hg, ← gCt_cv]
  refine W.putK Cx.1 Cx.2.1 (f := fd) ⟨Cx.2.2.2.1, by rw [← ho]; exact hts _ q, ⟨_, _, _, by rw [← hsame]; exact hi⟩, hst⟩ (by rw [q2]; exact h8) q1 q3 (by rw [hsl]; exact k2_hasslot (q4 f hf)) rfl rfl d fun H' z1 z2 z3 => ?_
  rw [hsl] at z1
  have hR := gR_set (v' := gUp v a f x) h1 ha z2 z3 (fun b j hb => gUp_ne hb) (gOb_put hh hk hr hoff hf hp hx q2 q3 q4 e3 hap z1)
  exact kk p e R s m args below meth c Z Cx H' _ cells slots lsa hR (h2.put z2 z3 (by show gB Γ ≤ _; omega)) h3 h4 h5 h6 h7.2.2
theorem Gx_putN {a n x : Int} {k idx f g : Nat} {own ref host : String} {C : String} {T : u_T} {N : Nat} (d : decode M.2.1 pc = .ok (.putfield idx, 3)) (ho : own = M.2.2.2.2.1) (hh : h a = (k, n)) (hk : gO k = true) (hr : gCl[gCi k]? = some (C, T, N)) (hf : f < N) (hin : ∀ w ∈ u_ws C T N, w ∈ lw_all) (hty : ∀ j, j < N → parseFieldDescriptor (T j).2.2.1 = some (gTy (gCi k) j)) (hnm : ∀ a, a < N → ∀ b, b < N → a ≠ b → (T a).2.1 ≠ (T b).2.1)
    (q : Cond.fieldLinkNest own idx ref (T f).2.1 (T f).2.2.1 host ∈ lw_tbl) (hsame : (T f).1 = ref) (hfin : (T f).2.2.2 = false) (hoff : gOff k f = none) (hp : gPlain (gTy (gCi k) f) = true) (hg : gTg (gTy (gCi k) f) = g) (kk : Gx Γ M (pc + 3) ls st (gUp v a f x) h t bc bs Q) : Gx Γ M pc ls ((g, x) :: (2, a) :: st) v h t bc bs Q := by
  intro p e R s m args below meth c Z Cx H locs cells slots lsa h1 h2 h3 h4 h5 h6 h7
  have ha := gR_in h1 hh (by rintro rfl; revert hk; decide)
  have hA := h1.2.2.2 a ha.1 ha.2
  unfold gAt at hA
  rw [hh] at hA
  obtain ⟨r', e1, e2, e3⟩ := hA.1 hk
  have : r' = (C, T, N) := Option.some.inj (e1.symm.trans hr)
  subst this
  have hK := Cx.2.2.2.2.1
  have hts := hK.hts args
  have hap := va_apart (own := own) (tys := gTys Γ) hts hin (gTy (gCi k)) hty hnm hK.1 hr
  obtain ⟨hS, hfc, kC, hkC, hkind⟩ := hK.1.1 (gCi k) _ hr
  obtain ⟨cf, kf, fi, fd, hi, hsl⟩ := hS f hf
  obtain ⟨cell, q1, q2, q3, q4⟩ := e2
  have hlay := hts _ (hin _ (u_in_lay hf))
  unfold u_lay at hlay
  rw [if_neg (by rw [hfin]; decide)] at hlay
  have hst := (u_facts hfc hkC (u_lays hts hin hf) hi).1
  have hnar := gCt_narrow (Γ := Γ) (x := x) (gPlain_or hp)
  have h8 := u_store hfc hkC hkind hlay hi (hty f hf) hnar.1 hnar.2
  have hx : gRa t (gTg (gTy (gCi k) f), x) := by rw [hg]; exact h7.1
  show W _ _ _ _ _ _ _ _ _ _ _ _ _ _ _ (F0 m pc lsa (gCv Γ (g, x) :: gRv (gB Γ) a :: st.map (gCv Γ)))
  rw [gRv_ref ha.1, ← hg, ← gCt_cv]
  refine va_WputK Cx.1 Cx.2.1 (f := fd) Cx.2.2.2.1 (host := host) (by rw [← ho]; exact va_Nw.use rfl (va_Nw.warmF hK.2.2.2.1 (va_Nw.of rfl (hK.2.1 _ q)))) (by rw [← hsame]; exact hi) hst (by rw [q2]; exact h8) q1 q3 (by rw [hsl]; exact k2_hasslot (q4 f hf)) rfl rfl d fun H' z1 z2 z3 => ?_
  rw [hsl] at z1
  have hR := gR_set (v' := gUp v a f x) h1 ha z2 z3 (fun b j hb => gUp_ne hb) (gOb_put hh hk hr hoff hf hp hx q2 q3 q4 e3 hap z1)
  exact kk p e R s m args below meth c Z Cx H' _ cells slots lsa hR (h2.put z2 z3 (by show gB Γ ≤ _; omega)) h3 h4 h5 h6 h7.2.2
/-- putfield of a final field, in its class's own constructor -/
theorem Gx_putF {a n x : Int} {k idx f g : Nat} {own ref : String} {C : String} {T : u_T} {N : Nat} (d : decode M.2.1 pc = .ok (.putfield idx, 3)) (ho : own = M.2.2.2.2.1) (hi0 : M.1.name = "<init>") (hh : h a = (k, n)) (hk : gO k = true) (hr : gCl[gCi k]? = some (C, T, N)) (hf : f < N) (hin : ∀ w ∈ u_ws C T N, w ∈ lw_all) (hty : ∀ j, j < N → parseFieldDescriptor (T j).2.2.1 = some (gTy (gCi k) j)) (hnm : ∀ a, a < N → ∀ b, b < N → a ≠ b → (T a).2.1 ≠ (T b).2.1)
    (q : Cond.fieldLink own idx ref (T f).2.1 (T f).2.2.1 ∈ lw_all) (hsame : (T f).1 = ref) (hdecl : (T f).1 = own) (hfin : (T f).2.2.2 = true) (hoff : gOff k f = none) (hp : gPlain (gTy (gCi k) f) = true) (hg : gTg (gTy (gCi k) f) = g) (kk : Gx Γ M (pc + 3) ls st (gUp v a f x) h t bc bs Q) : Gx Γ M pc ls ((g, x) :: (2, a) :: st) v h t bc bs Q := by
  intro p e R s m args below meth c Z Cx H locs cells slots lsa h1 h2 h3 h4 h5 h6 h7
  have ha := gR_in h1 hh (by rintro rfl; revert hk; decide)
  have hA := h1.2.2.2 a ha.1 ha.2
  unfold gAt at hA
  rw [hh] at hA
  obtain ⟨r', e1, e2, e3⟩ := hA.1 hk
  have : r' = (C, T, N) := Option.some.inj (e1.symm.trans hr)
  subst this
  have hK := Cx.2.2.2.2.1
  have hts := hK.hts args
  have hap := va_apart (own := own) (tys := gTys Γ) hts hin (gTy (gCi k)) hty hnm hK.1 hr
  obtain ⟨hS, hfc, kC, hkC, hkind⟩ := hK.1.1 (gCi k) _ hr
  obtain ⟨cf, kf, fi, fd, hi, hsl⟩ := hS f hf
  obtain ⟨cell, q1, q2, q3, q4⟩ := e2
  have hlay := hts _ (hin _ (u_in_lay hf))
  unfold u_lay at hlay
  rw [if_pos hfin] at hlay
  have hst := (u_facts hfc hkC (u_lays hts hin hf) hi).1
  have hown := Cx.2.2.2.1
  have hcf : m.cls = cf := by
    obtain ⟨_, _, c', _, _, _, -, -, hf', -, -, -, hown2, -⟩ := Cond.laysFinal_spec hlay
    have e1 : c' = cf := by have := hi.symm.trans hf'; simp at this; exact this.1.symm
    rw [hdecl] at hown2
    rw [← ho] at hown
    rw [← e1]; exact Option.some.inj (hown.symm.trans hown2)
  have hnar := gCt_narrow (Γ := Γ) (x := x) (gPlain_or hp)
  have h8 := u_fits hfc hkC hkind (Or.inr hlay) hi (hty f hf) hnar.1 hnar.2
  have hx : gRa t (gTg (gTy (gCi k) f), x) := by rw [hg]; exact h7.1
  show W _ _ _ _ _ _ _ _ _ _ _ _ _ _ _ (F0 m pc lsa (gCv Γ (g, x) :: gRv (gB Γ) a :: st.map (gCv Γ)))
  rw [gRv_ref ha.1, ← hg, ← gCt_cv]
  refine W.putFinK Cx.1 Cx.2.1 hown (by rw [← ho]; exact hts _ q) (by rw [← hsame]; exact hi) hst hcf (Cx.2.2.2.2.2.2.2.1.trans hi0) (by rw [q2]; exact h8) q1 q3 (by rw [hsl]; exact k2_hasslot (q4 f hf)) rfl rfl d fun H' z1 z2 z3 => ?_
  rw [hsl] at z1
  have hR := gR_set (v' := gUp v a f x) h1 ha z2 z3 (fun b j hb => gUp_ne hb) (gOb_put hh hk hr hoff hf hp hx q2 q3 q4 e3 hap z1)
  exact kk p e R s m args below meth c Z Cx H' _ cells slots lsa hR (h2.put z2 z3 (by show gB Γ ≤ _; omega)) h3 h4 h5 h6 h7.2.2
end
