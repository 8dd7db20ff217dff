/-! THE ABSTRACT LAYER, 3: one rule an instruction (stack, locals, arithmetic, branches) -/
section
variable {Γ : gC} {M : gI} {pc : Nat} {ls st : List gV} {v : gM} {h : gH} {t bc bs : Nat} {Q : gQ}
theorem gRs_mono {t t' : Nat} (ht : t ≤ t') : ∀ {l : List gV}, gRs t l → gRs t' l
  | [], _ => trivial
  | (k, x) :: l, hr => by
    refine ⟨?_, gRs_mono ht hr.2⟩
    have h1 := hr.1
    unfold gRa at h1 ⊢
    split <;> simp_all <;> omega
theorem gRs_get {t : Nat} : ∀ {l : List gV} {i : Nat} {a : gV}, l[i]? = some a → gRs t l → gRa t a
  | [], i, a, hi, _ => by simp at hi
  | x :: l, 0, a, hi, hr => by simp at hi; rw [← hi]; exact hr.1
  | x :: l, i + 1, a, hi, hr => by simp at hi; exact gRs_get hi hr.2
theorem gLs_get {l : List gV} : ∀ {i j : Nat} {a : gV}, l[j]? = some a → a.1 < 4 → (i + j, gCv Γ a) ∈ gLs Γ i l := by
  induction l with
  | nil => intro i j a hj; simp at hj
  | cons x l ih =>
    intro i j a hj ha
    cases j with
    | zero =>
      simp at hj
      subst hj
      simp [gLs, ha]
    | succ j =>
      simp at hj
      have := ih (i := i + 1) hj ha
      rw [show i + 1 + j = i + (j + 1) by omega] at this
      unfold gLs
      split
      · exact List.mem_cons_of_mem _ this
      · exact this
theorem gLs_at {lsa : Array Slot} {n i : Nat} {a : gV} (hl : lv_has lsa n (gLs Γ 0 ls)) (hi : ls[i]? = some a) (ha : a.1 < 4) : lsa[i]? = some (.val (gCv Γ a)) := by
  have h1 := gLs_get (Γ := Γ) (i := 0) hi ha
  rw [Nat.zero_add] at h1
  exact hl.2.2 _ h1
theorem gLs_lo {l : List gV} : ∀ {i : Nat} {q : Nat × Value}, q ∈ gLs Γ i l → ∃ (j : Nat) (a : gV), l[j]? = some a ∧ a.1 < 4 ∧ q = (i + j, gCv Γ a) := by
  induction l with
  | nil => intro i q hq; simp [gLs] at hq
  | cons x l ih =>
    intro i q hq
    unfold gLs at hq
    split at hq
    · rename_i hx
      rcases List.mem_cons.mp hq with h1 | h1
      · exact ⟨0, x, by simp, hx, by simpa using h1⟩
      · obtain ⟨j, a, h2, h3, h4⟩ := ih h1
        exact ⟨j + 1, a, by simpa using h2, h3, by rw [h4, show i + 1 + j = i + (j + 1) by omega]⟩
    · obtain ⟨j, a, h2, h3, h4⟩ := ih hq
      exact ⟨j + 1, a, by simpa using h2, h3, by rw [h4, show i + 1 + j = i + (j + 1) by omega]⟩
theorem gRv_cat (B : Nat) (x : Int) : (gRv B x).category = 1 := by unfold gRv; split <;> rfl
theorem gCv_cat (a : gV) : (gCv Γ a).category = if a.1 = 1 then 2 else 1 := by
  obtain ⟨k, x⟩ := a
  match k with
  | 0 => rfl
  | 1 => rfl
  | 2 => exact gRv_cat _ _
  | k + 3 => rfl
/-- fewer known locals -/
theorem gLs_set {lsa : Array Slot} {n i : Nat} {x : gV} {val : Value} (hx : gCv Γ x = val) (hc : val.category = 1) {ls ls' : List gV} (hl : lv_has lsa n ((i, val) :: (gLs Γ 0 ls).filter (fun q => !(q.1 == i) && !(q.1 + 1 == i && q.2.category == 2)))) (he : ∀ (j : Nat) (a : gV), ls'[j]? = some a → a.1 < 4 → (j = i ∧ a = x) ∨ (j ≠ i ∧ ls[j]? = some a ∧ (j + 1 = i → a.1 ≠ 1))) : lv_has lsa n (gLs Γ 0 ls') := by
  refine ⟨hl.1, hl.2.1, fun q hq => ?_⟩
  obtain ⟨j, a, h1, h2, h3⟩ := gLs_lo hq
  rw [Nat.zero_add] at h3
  subst h3
  rcases he j a h1 h2 with ⟨e1, e2⟩ | ⟨e1, e2, e3⟩
  · subst e1; subst e2
    rw [hx]
    exact hl.2.2 _ List.mem_cons_self
  · refine hl.2.2 _ (List.mem_cons_of_mem _ (List.mem_filter.mpr ⟨?_, ?_⟩))
    · have := gLs_get (Γ := Γ) (i := 0) e2 h2
      rwa [Nat.zero_add] at this
    · by_cases hj : j + 1 = i
      · have h5 := e3 hj
        simp [e1, gCv_cat, h5]
      · simp [e1, hj]
theorem gLs_set2 {lsa : Array Slot} {n i : Nat} {x : gV} {val : Value} (hx : gCv Γ x = val) {ls ls' : List gV} (hl : lv_has lsa n ((i, val) :: (gLs Γ 0 ls).filter (fun q => !(q.1 == i) && (!(q.1 == i + 1) && !(q.1 + 1 == i && q.2.category == 2))))) (he : ∀ (j : Nat) (a : gV), ls'[j]? = some a → a.1 < 4 → (j = i ∧ a = x) ∨ (j ≠ i ∧ j ≠ i + 1 ∧ ls[j]? = some a ∧ (j + 1 = i → a.1 ≠ 1))) : lv_has lsa n (gLs Γ 0 ls') := by
  refine ⟨hl.1, hl.2.1, fun q hq => ?_⟩
  obtain ⟨j, a, h1, h2, h3⟩ := gLs_lo hq
  rw [Nat.zero_add] at h3
  subst h3
  rcases he j a h1 h2 with ⟨e1, e2⟩ | ⟨e1, e0, e2, e3⟩
  · subst e1; subst e2
    rw [hx]
    exact hl.2.2 _ List.mem_cons_self
  · refine hl.2.2 _ (List.mem_cons_of_mem _ (List.mem_filter.mpr ⟨?_, ?_⟩))
    · have := gLs_get (Γ := Γ) (i := 0) e2 h2
      rwa [Nat.zero_add] at this
    · by_cases hj : j + 1 = i
      · have h5 := e3 hj
        simp [e1, e0, gCv_cat, h5]
      · simp [e1, e0, hj]
/-- an instruction on the stack alone -/
theorem Gx.op {pc' : Nat} {st' : List gV} (hr : gRs t st → gRs t st')
    (step : gRs t st → ∀ (p : Program) (e : Env) (R : Room) (s : State) (m : MethodId) (args : Array Value) (below : List Frame) (meth : Method) (c : Code) (Z : State → Prop) (H : Heap) (locs : List Loc) (cells slots : Nat) (lsa : Array Slot), p.tables.exec = Jvm.exec → c.code = M.2.1 → s.vm.findClass M.2.2.2.2.1 = some m.cls → (∀ w ∈ lw_all, w.before args s = true) → lv_has lsa M.2.2.1 (gLs Γ 0 ls) → W p Γ.1 e R s m args below meth c H locs cells slots Z (F0 m pc' lsa (st'.map (gCv Γ))) → W p Γ.1 e R s m args below meth c H locs cells slots Z (F0 m pc lsa (st.map (gCv Γ))))
    (k : Gx Γ M pc' ls st' v h t bc bs Q) : Gx Γ M pc ls st v h t bc bs Q := by
  intro p e R s m args below meth c Z C H locs cells slots lsa h1 h2 h3 h4 h5 h6 h7
  exact step h7 p e R s m args below meth c Z H locs cells slots lsa C.1 C.2.1 C.2.2.2.1 (C.2.2.2.2.1.hts args) h5 (k p e R s m args below meth c Z C H locs cells slots lsa h1 h2 h3 h4 h5 h6 (hr h7))
theorem Gx_range {i : Nat} {a : gV} (hi : ls[i]? = some a) (k : gRa t a → Gx Γ M pc ls st v h t bc bs Q) : Gx Γ M pc ls st v h t bc bs Q := by
  intro p e R s m args below meth c Z C H locs cells slots lsa h1 h2 h3 h4 h5 h6 h7
  exact k (gRs_get hi h6) p e R s m args below meth c Z C H locs cells slots lsa h1 h2 h3 h4 h5 h6 h7
theorem Gx_ranges {i : Nat} {a : gV} (hi : st[i]? = some a) (k : gRa t a → Gx Γ M pc ls st v h t bc bs Q) : Gx Γ M pc ls st v h t bc bs Q := by
  intro p e R s m args below meth c Z C H locs cells slots lsa h1 h2 h3 h4 h5 h6 h7
  exact k (gRs_get hi h7) p e R s m args below meth c Z C H locs cells slots lsa h1 h2 h3 h4 h5 h6 h7

theorem Gx_iconst {n : Int} (hn : r32 n) (d : decode M.2.1 pc = .ok (.iconst n, 1)) (k : Gx Γ M (pc + 1) ls ((0, n) :: st) v h t bc bs Q) : Gx Γ M pc ls (st) v h t bc bs Q := by
  refine Gx.op ?_ ?_ k
  · exact (fun hr => ⟨hn, hr⟩)
  · exact (fun hr p e R s m args below meth c Z H locs cells slots lsa hx hb ho hw hl k => lv_iconst hx hb d rfl k)
theorem Gx_bipush {n : Int} (d : decode M.2.1 pc = .ok (.bipush n, 2)) (hn : -128 ≤ n ∧ n < 128) (k : Gx Γ M (pc + 2) ls ((0, n) :: st) v h t bc bs Q) : Gx Γ M pc ls st v h t bc bs Q := by
  refine Gx.op ?_ ?_ k
  · exact (fun hr => ⟨show r32 n by unfold r32; omega, hr⟩)
  · exact (fun hr p e R s m args below meth c Z H locs cells slots lsa hx hb ho hw hl k => lv_bipush hx hb d (eq32 (by rw [Int8.toInt_toInt32, Int8.toInt_ofInt, toInt32 (show r32 n by unfold r32; omega), Int.bmod_def]; (try simp only [Int8.size, Int16.size]); split <;> omega)) k)
theorem Gx_sipush {n : Int} (d : decode M.2.1 pc = .ok (.sipush n, 3)) (hn : -32768 ≤ n ∧ n < 32768) (k : Gx Γ M (pc + 3) ls ((0, n) :: st) v h t bc bs Q) : Gx Γ M pc ls st v h t bc bs Q := by
  refine Gx.op ?_ ?_ k
  · exact (fun hr => ⟨show r32 n by unfold r32; omega, hr⟩)
  · exact (fun hr p e R s m args below meth c Z H locs cells slots lsa hx hb ho hw hl k => lv_sipush hx hb d (eq32 (by rw [Int16.toInt_toInt32, Int16.toInt_ofInt, toInt32 (show r32 n by unfold r32; omega), Int.bmod_def]; (try simp only [Int8.size, Int16.size]); split <;> omega)) k)
theorem Gx_lconst0 (d : decode M.2.1 pc = .ok (.lconst 0, 1)) (k : Gx Γ M (pc + 1) ls ((1, 0) :: st) v h t bc bs Q) : Gx Γ M pc ls st v h t bc bs Q := by
  refine Gx.op ?_ ?_ k
  · exact (fun hr => ⟨show r64 0 by unfold r64; omega, hr⟩)
  · exact (fun hr p e R s m args below meth c Z H locs cells slots lsa hx hb ho hw hl k => lv_lconst hx hb d (v := Int64.ofInt 0) (by decide) k)
theorem Gx_lconst1 (d : decode M.2.1 pc = .ok (.lconst 1, 1)) (k : Gx Γ M (pc + 1) ls ((1, 1) :: st) v h t bc bs Q) : Gx Γ M pc ls st v h t bc bs Q := by
  refine Gx.op ?_ ?_ k
  · exact (fun hr => ⟨show r64 1 by unfold r64; omega, hr⟩)
  · exact (fun hr p e R s m args below meth c Z H locs cells slots lsa hx hb ho hw hl k => lv_lconst hx hb d (v := Int64.ofInt 1) (by decide) k)
theorem Gx_ldc {i : Nat} {n : Int} {x : Int32} {own : String} (d : decode M.2.1 pc = .ok (.ldc i, 2)) (ho : own = M.2.2.2.2.1) (q : Cond.constant own i x ∈ lw_all) (hn : x.toInt = n) (k : Gx Γ M (pc + 2) ls ((0, n) :: st) v h t bc bs Q) : Gx Γ M pc ls st v h t bc bs Q := by
  refine Gx.op ?_ ?_ k
  · exact (fun hr => ⟨show r32 n by rw [← hn]; exact r32_toInt x, hr⟩)
  · exact (fun hr p e R s m args below meth c Z H locs cells slots lsa hx hb h0 hw hl k => lv_ldc hx hb (v := Int32.ofInt n) h0 (by rw [← ho, of32_eq hn]; exact hw _ q) d k)
theorem Gx_ldc2 {i : Nat} {n : Int} {x : Int64} {own : String} (d : decode M.2.1 pc = .ok (.ldc2_w i, 3)) (ho : own = M.2.2.2.2.1) (q : Cond.constantLong own i x ∈ lw_all) (hn : x.toInt = n) (k : Gx Γ M (pc + 3) ls ((1, n) :: st) v h t bc bs Q) : Gx Γ M pc ls st v h t bc bs Q := by
  refine Gx.op ?_ ?_ k
  · exact (fun hr => ⟨show r64 n by rw [← hn]; exact r64_toInt x, hr⟩)
  · exact (fun hr p e R s m args below meth c Z H locs cells slots lsa hx hb h0 hw hl k => lv_ldc2 hx hb (v := Int64.ofInt n) h0 (by rw [← ho, of64_eq hn]; exact hw _ q) d k)
theorem Gx_null (d : decode M.2.1 pc = .ok (.aconst_null, 1)) (k : Gx Γ M (pc + 1) ls ((2, -1) :: st) v h t bc bs Q) : Gx Γ M pc ls st v h t bc bs Q := by
  refine Gx.op ?_ ?_ k
  · exact (fun hr => ⟨show (-1 : Int) ≤ -1 ∧ (-1 : Int) < t by omega, hr⟩)
  · exact (fun hr p e R s m args below meth c Z H locs cells slots lsa hx hb ho hw hl k => lv_null hx hb d k)
theorem Gx_iload_n {i : Nat} {x : Int} {j : Fin 4} (d : decode M.2.1 pc = .ok (.iload_n j, 1)) (hj : (j : Nat) = i) (hi : ls[i]? = some (0, x)) (k : Gx Γ M (pc + 1) ls ((0, x) :: st) v h t bc bs Q) : Gx Γ M pc ls st v h t bc bs Q := by
  intro p e R s m args below meth c Z C H locs cells slots lsa h1 h2 h3 h4 h5 h6 h7
  have hk := k p e R s m args below meth c Z C H locs cells slots lsa h1 h2 h3 h4 h5 h6 ⟨gRs_get hi h6, h7⟩
  have hl := gLs_at h5 hi (by decide : 0 < 4)
  exact lv_iload_n C.1 C.2.1 d hj hl hk
theorem Gx_iload {i : Nat} {x : Int} (d : decode M.2.1 pc = .ok (.iload i, 2)) (hi : ls[i]? = some (0, x)) (k : Gx Γ M (pc + 2) ls ((0, x) :: st) v h t bc bs Q) : Gx Γ M pc ls st v h t bc bs Q := by
  intro p e R s m args below meth c Z C H locs cells slots lsa h1 h2 h3 h4 h5 h6 h7
  have hk := k p e R s m args below meth c Z C H locs cells slots lsa h1 h2 h3 h4 h5 h6 ⟨gRs_get hi h6, h7⟩
  have hl := gLs_at h5 hi (by decide : 0 < 4)
  exact lv_iload C.1 C.2.1 d hl hk
theorem Gx_lload_n {i : Nat} {x : Int} {j : Fin 4} (d : decode M.2.1 pc = .ok (.lload_n j, 1)) (hj : (j : Nat) = i) (hi : ls[i]? = some (1, x)) (k : Gx Γ M (pc + 1) ls ((1, x) :: st) v h t bc bs Q) : Gx Γ M pc ls st v h t bc bs Q := by
  intro p e R s m args below meth c Z C H locs cells slots lsa h1 h2 h3 h4 h5 h6 h7
  have hk := k p e R s m args below meth c Z C H locs cells slots lsa h1 h2 h3 h4 h5 h6 ⟨gRs_get hi h6, h7⟩
  have hl := gLs_at h5 hi (by decide : 1 < 4)
  exact lv_lload_n C.1 C.2.1 d hj hl hk
theorem Gx_lload {i : Nat} {x : Int} (d : decode M.2.1 pc = .ok (.lload i, 2)) (hi : ls[i]? = some (1, x)) (k : Gx Γ M (pc + 2) ls ((1, x) :: st) v h t bc bs Q) : Gx Γ M pc ls st v h t bc bs Q := by
  intro p e R s m args below meth c Z C H locs cells slots lsa h1 h2 h3 h4 h5 h6 h7
  have hk := k p e R s m args below meth c Z C H locs cells slots lsa h1 h2 h3 h4 h5 h6 ⟨gRs_get hi h6, h7⟩
  have hl := gLs_at h5 hi (by decide : 1 < 4)
  exact lv_lload C.1 C.2.1 d hl hk
theorem Gx_aload_n {i : Nat} {x : Int} {j : Fin 4} (d : decode M.2.1 pc = .ok (.aload_n j, 1)) (hj : (j : Nat) = i) (hi : ls[i]? = some (2, x)) (k : Gx Γ M (pc + 1) ls ((2, x) :: st) v h t bc bs Q) : Gx Γ M pc ls st v h t bc bs Q := by
  intro p e R s m args below meth c Z C H locs cells slots lsa h1 h2 h3 h4 h5 h6 h7
  have hk := k p e R s m args below meth c Z C H locs cells slots lsa h1 h2 h3 h4 h5 h6 ⟨gRs_get hi h6, h7⟩
  have hl := gLs_at h5 hi (by decide : 2 < 4)
  by_cases hn : x < 0
  · have e : gCv Γ (2, x) = .null := if_pos hn
    rw [e] at hl
    rw [List.map_cons, e] at hk
    exact lv_aload_nN C.1 C.2.1 d hj hl hk
  · have e : gCv Γ (2, x) = .ref (gB Γ + x.toNat) := if_neg hn
    rw [e] at hl
    rw [List.map_cons, e] at hk
    exact lv_aload_n C.1 C.2.1 d hj hl hk
theorem Gx_aload {i : Nat} {x : Int} (d : decode M.2.1 pc = .ok (.aload i, 2)) (hi : ls[i]? = some (2, x)) (k : Gx Γ M (pc + 2) ls ((2, x) :: st) v h t bc bs Q) : Gx Γ M pc ls st v h t bc bs Q := by
  intro p e R s m args below meth c Z C H locs cells slots lsa h1 h2 h3 h4 h5 h6 h7
  have hk := k p e R s m args below meth c Z C H locs cells slots lsa h1 h2 h3 h4 h5 h6 ⟨gRs_get hi h6, h7⟩
  have hl := gLs_at h5 hi (by decide : 2 < 4)
  by_cases hn : x < 0
  · have e : gCv Γ (2, x) = .null := if_pos hn
    rw [e] at hl
    rw [List.map_cons, e] at hk
    exact lv_aloadN C.1 C.2.1 d hl hk
  · have e : gCv Γ (2, x) = .ref (gB Γ + x.toNat) := if_neg hn
    rw [e] at hl
    rw [List.map_cons, e] at hk
    exact lv_aload C.1 C.2.1 d hl hk
theorem Gx_sload_n {i : Nat} {x : Int} {j : Fin 4} (d : decode M.2.1 pc = .ok (.aload_n j, 1)) (hj : (j : Nat) = i) (hi : ls[i]? = some (3, x)) (k : Gx Γ M (pc + 1) ls ((3, x) :: st) v h t bc bs Q) : Gx Γ M pc ls st v h t bc bs Q := by
  intro p e R s m args below meth c Z C H locs cells slots lsa h1 h2 h3 h4 h5 h6 h7
  have hk := k p e R s m args below meth c Z C H locs cells slots lsa h1 h2 h3 h4 h5 h6 ⟨gRs_get hi h6, h7⟩
  have hl := gLs_at h5 hi (by decide : 3 < 4)
  exact lv_aload_n C.1 C.2.1 d hj hl hk
theorem Gx_istore_n {i : Nat} {x : Int} {ls' : List gV} {j : Fin 4} (d : decode M.2.1 pc = .ok (.istore_n j, 1)) (hj : (j : Nat) = i) (he : ∀ (j : Nat) (a : gV), ls'[j]? = some a → a.1 < 4 → (j = i ∧ a = (0, x)) ∨ (j ≠ i ∧ ls[j]? = some a ∧ (j + 1 = i → a.1 ≠ 1))) (hr : gRs t ls → gRa t (0, x) → gRs t ls') (hn : i < M.2.2.1) (k : Gx Γ M (pc + 1) ls' st v h t bc bs Q) : Gx Γ M pc ls ((0, x) :: st) v h t bc bs Q := by
  intro p e R s m args below meth c Z C H locs cells slots lsa h1 h2 h3 h4 h5 h6 h7
  have hk := fun (lsb : Array Slot) (hl : lv_has lsb M.2.2.1 (gLs Γ 0 ls')) => k p e R s m args below meth c Z C H locs cells slots lsb h1 h2 h3 h4 hl (hr h6 h7.1) h7.2
  exact lv_istore_n C.1 C.2.1 d hj h5 hn rfl (fun lsb hl => hk lsb (gLs_set (x := (0, x)) rfl rfl hl he))
theorem Gx_istore {i : Nat} {x : Int} {ls' : List gV} (d : decode M.2.1 pc = .ok (.istore i, 2)) (he : ∀ (j : Nat) (a : gV), ls'[j]? = some a → a.1 < 4 → (j = i ∧ a = (0, x)) ∨ (j ≠ i ∧ ls[j]? = some a ∧ (j + 1 = i → a.1 ≠ 1))) (hr : gRs t ls → gRa t (0, x) → gRs t ls') (hn : i < M.2.2.1) (k : Gx Γ M (pc + 2) ls' st v h t bc bs Q) : Gx Γ M pc ls ((0, x) :: st) v h t bc bs Q := by
  intro p e R s m args below meth c Z C H locs cells slots lsa h1 h2 h3 h4 h5 h6 h7
  have hk := fun (lsb : Array Slot) (hl : lv_has lsb M.2.2.1 (gLs Γ 0 ls')) => k p e R s m args below meth c Z C H locs cells slots lsb h1 h2 h3 h4 hl (hr h6 h7.1) h7.2
  exact lv_istore C.1 C.2.1 d h5 hn rfl (fun lsb hl => hk lsb (gLs_set (x := (0, x)) rfl rfl hl he))
theorem Gx_lstore_n {i : Nat} {x : Int} {ls' : List gV} {j : Fin 4} (d : decode M.2.1 pc = .ok (.lstore_n j, 1)) (hj : (j : Nat) = i) (he : ∀ (j : Nat) (a : gV), ls'[j]? = some a → a.1 < 4 → (j = i ∧ a = (1, x)) ∨ (j ≠ i ∧ j ≠ i + 1 ∧ ls[j]? = some a ∧ (j + 1 = i → a.1 ≠ 1))) (hr : gRs t ls → gRa t (1, x) → gRs t ls') (hn : i + 1 < M.2.2.1) (k : Gx Γ M (pc + 1) ls' st v h t bc bs Q) : Gx Γ M pc ls ((1, x) :: st) v h t bc bs Q := by
  intro p e R s m args below meth c Z C H locs cells slots lsa h1 h2 h3 h4 h5 h6 h7
  have hk := fun (lsb : Array Slot) (hl : lv_has lsb M.2.2.1 (gLs Γ 0 ls')) => k p e R s m args below meth c Z C H locs cells slots lsb h1 h2 h3 h4 hl (hr h6 h7.1) h7.2
  exact lv_lstore_n C.1 C.2.1 d hj h5 hn rfl (fun lsb hl => hk lsb (gLs_set2 (x := (1, x)) rfl hl he))
theorem Gx_lstore {i : Nat} {x : Int} {ls' : List gV} (d : decode M.2.1 pc = .ok (.lstore i, 2)) (he : ∀ (j : Nat) (a : gV), ls'[j]? = some a → a.1 < 4 → (j = i ∧ a = (1, x)) ∨ (j ≠ i ∧ j ≠ i + 1 ∧ ls[j]? = some a ∧ (j + 1 = i → a.1 ≠ 1))) (hr : gRs t ls → gRa t (1, x) → gRs t ls') (hn : i + 1 < M.2.2.1) (k : Gx Γ M (pc + 2) ls' st v h t bc bs Q) : Gx Γ M pc ls ((1, x) :: st) v h t bc bs Q := by
  intro p e R s m args below meth c Z C H locs cells slots lsa h1 h2 h3 h4 h5 h6 h7
  have hk := fun (lsb : Array Slot) (hl : lv_has lsb M.2.2.1 (gLs Γ 0 ls')) => k p e R s m args below meth c Z C H locs cells slots lsb h1 h2 h3 h4 hl (hr h6 h7.1) h7.2
  exact lv_lstore C.1 C.2.1 d h5 hn rfl (fun lsb hl => hk lsb (gLs_set2 (x := (1, x)) rfl hl he))
theorem Gx_astore_n {i : Nat} {x : Int} {ls' : List gV} {j : Fin 4} (d : decode M.2.1 pc = .ok (.astore_n j, 1)) (hj : (j : Nat) = i) (he : ∀ (j : Nat) (a : gV), ls'[j]? = some a → a.1 < 4 → (j = i ∧ a = (2, x)) ∨ (j ≠ i ∧ ls[j]? = some a ∧ (j + 1 = i → a.1 ≠ 1))) (hr : gRs t ls → gRa t (2, x) → gRs t ls') (hn : i < M.2.2.1) (k : Gx Γ M (pc + 1) ls' st v h t bc bs Q) : Gx Γ M pc ls ((2, x) :: st) v h t bc bs Q := by
  intro p e R s m args below meth c Z C H locs cells slots lsa h1 h2 h3 h4 h5 h6 h7
  have hk := fun (lsb : Array Slot) (hl : lv_has lsb M.2.2.1 (gLs Γ 0 ls')) => k p e R s m args below meth c Z C H locs cells slots lsb h1 h2 h3 h4 hl (hr h6 h7.1) h7.2
  by_cases hx0 : x < 0
  · have e0 : gCv Γ (2, x) = .null := if_pos hx0
    rw [List.map_cons, e0]
    exact lv_astore_nN C.1 C.2.1 d hj h5 hn rfl (fun lsb hl => hk lsb (gLs_set (x := (2, x)) e0 rfl hl he))
  · have e0 : gCv Γ (2, x) = .ref (gB Γ + x.toNat) := if_neg hx0
    rw [List.map_cons, e0]
    exact lv_astore_n C.1 C.2.1 d hj h5 hn rfl (fun lsb hl => hk lsb (gLs_set (x := (2, x)) e0 rfl hl he))
theorem Gx_astore {i : Nat} {x : Int} {ls' : List gV} (d : decode M.2.1 pc = .ok (.astore i, 2)) (he : ∀ (j : Nat) (a : gV), ls'[j]? = some a → a.1 < 4 → (j = i ∧ a = (2, x)) ∨ (j ≠ i ∧ ls[j]? = some a ∧ (j + 1 = i → a.1 ≠ 1))) (hr : gRs t ls → gRa t (2, x) → gRs t ls') (hn : i < M.2.2.1) (k : Gx Γ M (pc + 2) ls' st v h t bc bs Q) : Gx Γ M pc ls ((2, x) :: st) v h t bc bs Q := by
  intro p e R s m args below meth c Z C H locs cells slots lsa h1 h2 h3 h4 h5 h6 h7
  have hk := fun (lsb : Array Slot) (hl : lv_has lsb M.2.2.1 (gLs Γ 0 ls')) => k p e R s m args below meth c Z C H locs cells slots lsb h1 h2 h3 h4 hl (hr h6 h7.1) h7.2
  by_cases hx0 : x < 0
  · have e0 : gCv Γ (2, x) = .null := if_pos hx0
    rw [List.map_cons, e0]
    exact lv_astoreN C.1 C.2.1 d h5 hn rfl (fun lsb hl => hk lsb (gLs_set (x := (2, x)) e0 rfl hl he))
  · have e0 : gCv Γ (2, x) = .ref (gB Γ + x.toNat) := if_neg hx0
    rw [List.map_cons, e0]
    exact lv_astore C.1 C.2.1 d h5 hn rfl (fun lsb hl => hk lsb (gLs_set (x := (2, x)) e0 rfl hl he))
theorem gLs_mem {l : List gV} {i : Nat} {a : gV} (hi : l[i]? = some a) (ha : a.1 < 4) : ∃ k : Nat, (gLs Γ 0 l)[k]? = some (i, gCv Γ a) := by
  have := gLs_get (Γ := Γ) (i := 0) hi ha
  rw [Nat.zero_add] at this
  exact List.getElem?_of_mem this
theorem Gx_iinc0 {i : Nat} {n x : Int} {ls' : List gV} (d : decode M.2.1 pc = .ok (.iinc i n, 3)) (hi : ls[i]? = some (0, x)) (he : ∀ (j : Nat) (a : gV), ls'[j]? = some a → a.1 < 4 → (j = i ∧ a = (0, w32 (x + n))) ∨ (j ≠ i ∧ ls[j]? = some a ∧ (j + 1 = i → a.1 ≠ 1))) (hr : gRs t ls → gRa t (0, w32 (x + n)) → gRs t ls') (hn : i < M.2.2.1) (k : Gx Γ M (pc + 3) ls' st v h t bc bs Q) : Gx Γ M pc ls st v h t bc bs Q := by
  intro p e R s m args below meth c Z C H locs cells slots lsa h1 h2 h3 h4 h5 h6 h7
  obtain ⟨k0, hk0⟩ := gLs_mem (Γ := Γ) hi (show 0 < 4 by decide)
  refine lv_iinc (v := Int32.ofInt (w32 (x + n))) C.1 C.2.1 d h5 hk0 (by rw [of32_w32, Int32.ofInt_add]) hn rfl (fun lsb hl => ?_)
  exact k p e R s m args below meth c Z C H locs cells slots lsb h1 h2 h3 h4 (gLs_set (x := (0, w32 (x + n))) rfl rfl hl he) (hr h6 (r32_w32 _)) h7
theorem Gx_istore_n_0 {b : gV} {r : List gV} {x : Int} (d : decode M.2.1 pc = .ok (.istore_n 0, 1)) (hn : 0 < M.2.2.1) (k : Gx Γ M (pc + 1) ((0, x)::r) st v h t bc bs Q) : Gx Γ M pc (b::r) ((0, x) :: st) v h t bc bs Q := by
  refine Gx_istore_n (i := 0) d (rfl) ?_ ?_ hn k
  · exact (by
    intro j a hj ha
    match j, hj with
    | 0, hj => exact Or.inl ⟨rfl, by simp at hj; exact hj.symm⟩
    | j + 1, hj => exact Or.inr ⟨by omega, by simpa using hj, fun hq => by omega⟩)
  · exact (fun ⟨_, qr⟩ hx => ⟨hx, qr⟩)
theorem Gx_astore_n_0 {b : gV} {r : List gV} {x : Int} (d : decode M.2.1 pc = .ok (.astore_n 0, 1)) (hn : 0 < M.2.2.1) (k : Gx Γ M (pc + 1) ((2, x)::r) st v h t bc bs Q) : Gx Γ M pc (b::r) ((2, x) :: st) v h t bc bs Q := by
  refine Gx_astore_n (i := 0) d (rfl) ?_ ?_ hn k
  · exact (by
    intro j a hj ha
    match j, hj with
    | 0, hj => exact Or.inl ⟨rfl, by simp at hj; exact hj.symm⟩
    | j + 1, hj => exact Or.inr ⟨by omega, by simpa using hj, fun hq => by omega⟩)
  · exact (fun ⟨_, qr⟩ hx => ⟨hx, qr⟩)
theorem Gx_istore_n_1 {a0 : gV} {b : gV} {r : List gV} {x : Int} (d : decode M.2.1 pc = .ok (.istore_n 1, 1)) (hn : 1 < M.2.2.1) (hp : a0.1 ≠ 1) (k : Gx Γ M (pc + 1) (a0::(0, x)::r) st v h t bc bs Q) : Gx Γ M pc (a0::b::r) ((0, x) :: st) v h t bc bs Q := by
  refine Gx_istore_n (i := 1) d (rfl) ?_ ?_ hn k
  · exact (by
    intro j a hj ha
    match j, hj with
    | 0, hj => exact Or.inr ⟨by omega, hj, fun _ => by simp at hj; rw [← hj]; exact hp⟩
    | 1, hj => exact Or.inl ⟨rfl, by simp at hj; exact hj.symm⟩
    | j + 2, hj => exact Or.inr ⟨by omega, by simpa using hj, fun hq => by omega⟩)
  · exact (fun ⟨q0, _, qr⟩ hx => ⟨q0, hx, qr⟩)
theorem Gx_astore_n_1 {a0 : gV} {b : gV} {r : List gV} {x : Int} (d : decode M.2.1 pc = .ok (.astore_n 1, 1)) (hn : 1 < M.2.2.1) (hp : a0.1 ≠ 1) (k : Gx Γ M (pc + 1) (a0::(2, x)::r) st v h t bc bs Q) : Gx Γ M pc (a0::b::r) ((2, x) :: st) v h t bc bs Q := by
  refine Gx_astore_n (i := 1) d (rfl) ?_ ?_ hn k
  · exact (by
    intro j a hj ha
    match j, hj with
    | 0, hj => exact Or.inr ⟨by omega, hj, fun _ => by simp at hj; rw [← hj]; exact hp⟩
    | 1, hj => exact Or.inl ⟨rfl, by simp at hj; exact hj.symm⟩
    | j + 2, hj => exact Or.inr ⟨by omega, by simpa using hj, fun hq => by omega⟩)
  · exact (fun ⟨q0, _, qr⟩ hx => ⟨q0, hx, qr⟩)
theorem Gx_istore_n_2 {a0 a1 : gV} {b : gV} {r : List gV} {x : Int} (d : decode M.2.1 pc = .ok (.istore_n 2, 1)) (hn : 2 < M.2.2.1) (hp : a1.1 ≠ 1) (k : Gx Γ M (pc + 1) (a0::a1::(0, x)::r) st v h t bc bs Q) : Gx Γ M pc (a0::a1::b::r) ((0, x) :: st) v h t bc bs Q := by
  refine Gx_istore_n (i := 2) d (rfl) ?_ ?_ hn k
  · exact (by
    intro j a hj ha
    match j, hj with
    | 0, hj => exact Or.inr ⟨by omega, hj, fun hq => by omega⟩
    | 1, hj => exact Or.inr ⟨by omega, hj, fun _ => by simp at hj; rw [← hj]; exact hp⟩
    | 2, hj => exact Or.inl ⟨rfl, by simp at hj; exact hj.symm⟩
    | j + 3, hj => exact Or.inr ⟨by omega, by simpa using hj, fun hq => by omega⟩)
  · exact (fun ⟨q0, q1, _, qr⟩ hx => ⟨q0, q1, hx, qr⟩)
theorem Gx_astore_n_2 {a0 a1 : gV} {b : gV} {r : List gV} {x : Int} (d : decode M.2.1 pc = .ok (.astore_n 2, 1)) (hn : 2 < M.2.2.1) (hp : a1.1 ≠ 1) (k : Gx Γ M (pc + 1) (a0::a1::(2, x)::r) st v h t bc bs Q) : Gx Γ M pc (a0::a1::b::r) ((2, x) :: st) v h t bc bs Q := by
  refine Gx_astore_n (i := 2) d (rfl) ?_ ?_ hn k
  · exact (by
    intro j a hj ha
    match j, hj with
    | 0, hj => exact Or.inr ⟨by omega, hj, fun hq => by omega⟩
    | 1, hj => exact Or.inr ⟨by omega, hj, fun _ => by simp at hj; rw [← hj]; exact hp⟩
    | 2, hj => exact Or.inl ⟨rfl, by simp at hj; exact hj.symm⟩
    | j + 3, hj => exact Or.inr ⟨by omega, by simpa using hj, fun hq => by omega⟩)
  · exact (fun ⟨q0, q1, _, qr⟩ hx => ⟨q0, q1, hx, qr⟩)
theorem Gx_istore_n_3 {a0 a1 a2 : gV} {b : gV} {r : List gV} {x : Int} (d : decode M.2.1 pc = .ok (.istore_n 3, 1)) (hn : 3 < M.2.2.1) (hp : a2.1 ≠ 1) (k : Gx Γ M (pc + 1) (a0::a1::a2::(0, x)::r) st v h t bc bs Q) : Gx Γ M pc (a0::a1::a2::b::r) ((0, x) :: st) v h t bc bs Q := by
  refine Gx_istore_n (i := 3) d (rfl) ?_ ?_ hn k
  · exact (by
    intro j a hj ha
    match j, hj with
    | 0, hj => exact Or.inr ⟨by omega, hj, fun hq => by omega⟩
    | 1, hj => exact Or.inr ⟨by omega, hj, fun hq => by omega⟩
    | 2, hj => exact Or.inr ⟨by omega, hj, fun _ => by simp at hj; rw [← hj]; exact hp⟩
    | 3, hj => exact Or.inl ⟨rfl, by simp at hj; exact hj.symm⟩
    | j + 4, hj => exact Or.inr ⟨by omega, by simpa using hj, fun hq => by omega⟩)
  · exact (fun ⟨q0, q1, q2, _, qr⟩ hx => ⟨q0, q1, q2, hx, qr⟩)
theorem Gx_astore_n_3 {a0 a1 a2 : gV} {b : gV} {r : List gV} {x : Int} (d : decode M.2.1 pc = .ok (.astore_n 3, 1)) (hn : 3 < M.2.2.1) (hp : a2.1 ≠ 1) (k : Gx Γ M (pc + 1) (a0::a1::a2::(2, x)::r) st v h t bc bs Q) : Gx Γ M pc (a0::a1::a2::b::r) ((2, x) :: st) v h t bc bs Q := by
  refine Gx_astore_n (i := 3) d (rfl) ?_ ?_ hn k
  · exact (by
    intro j a hj ha
    match j, hj with
    | 0, hj => exact Or.inr ⟨by omega, hj, fun hq => by omega⟩
    | 1, hj => exact Or.inr ⟨by omega, hj, fun hq => by omega⟩
    | 2, hj => exact Or.inr ⟨by omega, hj, fun _ => by simp at hj; rw [← hj]; exact hp⟩
    | 3, hj => exact Or.inl ⟨rfl, by simp at hj; exact hj.symm⟩
    | j + 4, hj => exact Or.inr ⟨by omega, by simpa using hj, fun hq => by omega⟩)
  · exact (fun ⟨q0, q1, q2, _, qr⟩ hx => ⟨q0, q1, q2, hx, qr⟩)
theorem Gx_istore_4 {a0 a1 a2 a3 : gV} {b : gV} {r : List gV} {x : Int} (d : decode M.2.1 pc = .ok (.istore 4, 2)) (hn : 4 < M.2.2.1) (hp : a3.1 ≠ 1) (k : Gx Γ M (pc + 2) (a0::a1::a2::a3::(0, x)::r) st v h t bc bs Q) : Gx Γ M pc (a0::a1::a2::a3::b::r) ((0, x) :: st) v h t bc bs Q := by
  refine Gx_istore (i := 4) d ?_ ?_ hn k
  · exact (by
    intro j a hj ha
    match j, hj with
    | 0, hj => exact Or.inr ⟨by omega, hj, fun hq => by omega⟩
    | 1, hj => exact Or.inr ⟨by omega, hj, fun hq => by omega⟩
    | 2, hj => exact Or.inr ⟨by omega, hj, fun hq => by omega⟩
    | 3, hj => exact Or.inr ⟨by omega, hj, fun _ => by simp at hj; rw [← hj]; exact hp⟩
    | 4, hj => exact Or.inl ⟨rfl, by simp at hj; exact hj.symm⟩
    | j + 5, hj => exact Or.inr ⟨by omega, by simpa using hj, fun hq => by omega⟩)
  · exact (fun ⟨q0, q1, q2, q3, _, qr⟩ hx => ⟨q0, q1, q2, q3, hx, qr⟩)
theorem Gx_istore_5 {a0 a1 a2 a3 a4 : gV} {b : gV} {r : List gV} {x : Int} (d : decode M.2.1 pc = .ok (.istore 5, 2)) (hn : 5 < M.2.2.1) (hp : a4.1 ≠ 1) (k : Gx Γ M (pc + 2) (a0::a1::a2::a3::a4::(0, x)::r) st v h t bc bs Q) : Gx Γ M pc (a0::a1::a2::a3::a4::b::r) ((0, x) :: st) v h t bc bs Q := by
  refine Gx_istore (i := 5) d ?_ ?_ hn k
  · exact (by
    intro j a hj ha
    match j, hj with
    | 0, hj => exact Or.inr ⟨by omega, hj, fun hq => by omega⟩
    | 1, hj => exact Or.inr ⟨by omega, hj, fun hq => by omega⟩
    | 2, hj => exact Or.inr ⟨by omega, hj, fun hq => by omega⟩
    | 3, hj => exact Or.inr ⟨by omega, hj, fun hq => by omega⟩
    | 4, hj => exact Or.inr ⟨by omega, hj, fun _ => by simp at hj; rw [← hj]; exact hp⟩
    | 5, hj => exact Or.inl ⟨rfl, by simp at hj; exact hj.symm⟩
    | j + 6, hj => exact Or.inr ⟨by omega, by simpa using hj, fun hq => by omega⟩)
  · exact (fun ⟨q0, q1, q2, q3, q4, _, qr⟩ hx => ⟨q0, q1, q2, q3, q4, hx, qr⟩)
theorem Gx_istore_6 {a0 a1 a2 a3 a4 a5 : gV} {b : gV} {r : List gV} {x : Int} (d : decode M.2.1 pc = .ok (.istore 6, 2)) (hn : 6 < M.2.2.1) (hp : a5.1 ≠ 1) (k : Gx Γ M (pc + 2) (a0::a1::a2::a3::a4::a5::(0, x)::r) st v h t bc bs Q) : Gx Γ M pc (a0::a1::a2::a3::a4::a5::b::r) ((0, x) :: st) v h t bc bs Q := by
  refine Gx_istore (i := 6) d ?_ ?_ hn k
  · exact (by
    intro j a hj ha
    match j, hj with
    | 0, hj => exact Or.inr ⟨by omega, hj, fun hq => by omega⟩
    | 1, hj => exact Or.inr ⟨by omega, hj, fun hq => by omega⟩
    | 2, hj => exact Or.inr ⟨by omega, hj, fun hq => by omega⟩
    | 3, hj => exact Or.inr ⟨by omega, hj, fun hq => by omega⟩
    | 4, hj => exact Or.inr ⟨by omega, hj, fun hq => by omega⟩
    | 5, hj => exact Or.inr ⟨by omega, hj, fun _ => by simp at hj; rw [← hj]; exact hp⟩
    | 6, hj => exact Or.inl ⟨rfl, by simp at hj; exact hj.symm⟩
    | j + 7, hj => exact Or.inr ⟨by omega, by simpa using hj, fun hq => by omega⟩)
  · exact (fun ⟨q0, q1, q2, q3, q4, q5, _, qr⟩ hx => ⟨q0, q1, q2, q3, q4, q5, hx, qr⟩)
theorem Gx_istore_7 {a0 a1 a2 a3 a4 a5 a6 : gV} {b : gV} {r : List gV} {x : Int} (d : decode M.2.1 pc = .ok (.istore 7, 2)) (hn : 7 < M.2.2.1) (hp : a6.1 ≠ 1) (k : Gx Γ M (pc + 2) (a0::a1::a2::a3::a4::a5::a6::(0, x)::r) st v h t bc bs Q) : Gx Γ M pc (a0::a1::a2::a3::a4::a5::a6::b::r) ((0, x) :: st) v h t bc bs Q := by
  refine Gx_istore (i := 7) d ?_ ?_ hn k
  · exact (by
    intro j a hj ha
    match j, hj with
    | 0, hj => exact Or.inr ⟨by omega, hj, fun hq => by omega⟩
    | 1, hj => exact Or.inr ⟨by omega, hj, fun hq => by omega⟩
    | 2, hj => exact Or.inr ⟨by omega, hj, fun hq => by omega⟩
    | 3, hj => exact Or.inr ⟨by omega, hj, fun hq => by omega⟩
    | 4, hj => exact Or.inr ⟨by omega, hj, fun hq => by omega⟩
    | 5, hj => exact Or.inr ⟨by omega, hj, fun hq => by omega⟩
    | 6, hj => exact Or.inr ⟨by omega, hj, fun _ => by simp at hj; rw [← hj]; exact hp⟩
    | 7, hj => exact Or.inl ⟨rfl, by simp at hj; exact hj.symm⟩
    | j + 8, hj => exact Or.inr ⟨by omega, by simpa using hj, fun hq => by omega⟩)
  · exact (fun ⟨q0, q1, q2, q3, q4, q5, q6, _, qr⟩ hx => ⟨q0, q1, q2, q3, q4, q5, q6, hx, qr⟩)
theorem Gx_istore_8 {a0 a1 a2 a3 a4 a5 a6 a7 : gV} {b : gV} {r : List gV} {x : Int} (d : decode M.2.1 pc = .ok (.istore 8, 2)) (hn : 8 < M.2.2.1) (hp : a7.1 ≠ 1) (k : Gx Γ M (pc + 2) (a0::a1::a2::a3::a4::a5::a6::a7::(0, x)::r) st v h t bc bs Q) : Gx Γ M pc (a0::a1::a2::a3::a4::a5::a6::a7::b::r) ((0, x) :: st) v h t bc bs Q := by
  refine Gx_istore (i := 8) d ?_ ?_ hn k
  · exact (by
    intro j a hj ha
    match j, hj with
    | 0, hj => exact Or.inr ⟨by omega, hj, fun hq => by omega⟩
    | 1, hj => exact Or.inr ⟨by omega, hj, fun hq => by omega⟩
    | 2, hj => exact Or.inr ⟨by omega, hj, fun hq => by omega⟩
    | 3, hj => exact Or.inr ⟨by omega, hj, fun hq => by omega⟩
    | 4, hj => exact Or.inr ⟨by omega, hj, fun hq => by omega⟩
    | 5, hj => exact Or.inr ⟨by omega, hj, fun hq => by omega⟩
    | 6, hj => exact Or.inr ⟨by omega, hj, fun hq => by omega⟩
    | 7, hj => exact Or.inr ⟨by omega, hj, fun _ => by simp at hj; rw [← hj]; exact hp⟩
    | 8, hj => exact Or.inl ⟨rfl, by simp at hj; exact hj.symm⟩
    | j + 9, hj => exact Or.inr ⟨by omega, by simpa using hj, fun hq => by omega⟩)
  · exact (fun ⟨q0, q1, q2, q3, q4, q5, q6, q7, _, qr⟩ hx => ⟨q0, q1, q2, q3, q4, q5, q6, q7, hx, qr⟩)
theorem Gx_istore_9 {a0 a1 a2 a3 a4 a5 a6 a7 a8 : gV} {b : gV} {r : List gV} {x : Int} (d : decode M.2.1 pc = .ok (.istore 9, 2)) (hn : 9 < M.2.2.1) (hp : a8.1 ≠ 1) (k : Gx Γ M (pc + 2) (a0::a1::a2::a3::a4::a5::a6::a7::a8::(0, x)::r) st v h t bc bs Q) : Gx Γ M pc (a0::a1::a2::a3::a4::a5::a6::a7::a8::b::r) ((0, x) :: st) v h t bc bs Q := by
  refine Gx_istore (i := 9) d ?_ ?_ hn k
  · exact (by
    intro j a hj ha
    match j, hj with
    | 0, hj => exact Or.inr ⟨by omega, hj, fun hq => by omega⟩
    | 1, hj => exact Or.inr ⟨by omega, hj, fun hq => by omega⟩
    | 2, hj => exact Or.inr ⟨by omega, hj, fun hq => by omega⟩
    | 3, hj => exact Or.inr ⟨by omega, hj, fun hq => by omega⟩
    | 4, hj => exact Or.inr ⟨by omega, hj, fun hq => by omega⟩
    | 5, hj => exact Or.inr ⟨by omega, hj, fun hq => by omega⟩
    | 6, hj => exact Or.inr ⟨by omega, hj, fun hq => by omega⟩
    | 7, hj => exact Or.inr ⟨by omega, hj, fun hq => by omega⟩
    | 8, hj => exact Or.inr ⟨by omega, hj, fun _ => by simp at hj; rw [← hj]; exact hp⟩
    | 9, hj => exact Or.inl ⟨rfl, by simp at hj; exact hj.symm⟩
    | j + 10, hj => exact Or.inr ⟨by omega, by simpa using hj, fun hq => by omega⟩)
  · exact (fun ⟨q0, q1, q2, q3, q4, q5, q6, q7, q8, _, qr⟩ hx => ⟨q0, q1, q2, q3, q4, q5, q6, q7, q8, hx, qr⟩)
theorem Gx_istore_10 {a0 a1 a2 a3 a4 a5 a6 a7 a8 a9 : gV} {b : gV} {r : List gV} {x : Int} (d : decode M.2.1 pc = .ok (.istore 10, 2)) (hn : 10 < M.2.2.1) (hp : a9.1 ≠ 1) (k : Gx Γ M (pc + 2) (a0::a1::a2::a3::a4::a5::a6::a7::a8::a9::(0, x)::r) st v h t bc bs Q) : Gx Γ M pc (a0::a1::a2::a3::a4::a5::a6::a7::a8::a9::b::r) ((0, x) :: st) v h t bc bs Q := by
  refine Gx_istore (i := 10) d ?_ ?_ hn k
  · exact (by
    intro j a hj ha
    match j, hj with
    | 0, hj => exact Or.inr ⟨by omega, hj, fun hq => by omega⟩
    | 1, hj => exact Or.inr ⟨by omega, hj, fun hq => by omega⟩
    | 2, hj => exact Or.inr ⟨by omega, hj, fun hq => by omega⟩
    | 3, hj => exact Or.inr ⟨by omega, hj, fun hq => by omega⟩
    | 4, hj => exact Or.inr ⟨by omega, hj, fun hq => by omega⟩
    | 5, hj => exact Or.inr ⟨by omega, hj, fun hq => by omega⟩
    | 6, hj => exact Or.inr ⟨by omega, hj, fun hq => by omega⟩
    | 7, hj => exact Or.inr ⟨by omega, hj, fun hq => by omega⟩
    | 8, hj => exact Or.inr ⟨by omega, hj, fun hq => by omega⟩
    | 9, hj => exact Or.inr ⟨by omega, hj, fun _ => by simp at hj; rw [← hj]; exact hp⟩
    | 10, hj => exact Or.inl ⟨rfl, by simp at hj; exact hj.symm⟩
    | j + 11, hj => exact Or.inr ⟨by omega, by simpa using hj, fun hq => by omega⟩)
  · exact (fun ⟨q0, q1, q2, q3, q4, q5, q6, q7, q8, q9, _, qr⟩ hx => ⟨q0, q1, q2, q3, q4, q5, q6, q7, q8, q9, hx, qr⟩)
theorem Gx_istore_11 {a0 a1 a2 a3 a4 a5 a6 a7 a8 a9 a10 : gV} {b : gV} {r : List gV} {x : Int} (d : decode M.2.1 pc = .ok (.istore 11, 2)) (hn : 11 < M.2.2.1) (hp : a10.1 ≠ 1) (k : Gx Γ M (pc + 2) (a0::a1::a2::a3::a4::a5::a6::a7::a8::a9::a10::(0, x)::r) st v h t bc bs Q) : Gx Γ M pc (a0::a1::a2::a3::a4::a5::a6::a7::a8::a9::a10::b::r) ((0, x) :: st) v h t bc bs Q := by
  refine Gx_istore (i := 11) d ?_ ?_ hn k
  · exact (by
    intro j a hj ha
    match j, hj with
    | 0, hj => exact Or.inr ⟨by omega, hj, fun hq => by omega⟩
    | 1, hj => exact Or.inr ⟨by omega, hj, fun hq => by omega⟩
    | 2, hj => exact Or.inr ⟨by omega, hj, fun hq => by omega⟩
    | 3, hj => exact Or.inr ⟨by omega, hj, fun hq => by omega⟩
    | 4, hj => exact Or.inr ⟨by omega, hj, fun hq => by omega⟩
    | 5, hj => exact Or.inr ⟨by omega, hj, fun hq => by omega⟩
    | 6, hj => exact Or.inr ⟨by omega, hj, fun hq => by omega⟩
    | 7, hj => exact Or.inr ⟨by omega, hj, fun hq => by omega⟩
    | 8, hj => exact Or.inr ⟨by omega, hj, fun hq => by omega⟩
    | 9, hj => exact Or.inr ⟨by omega, hj, fun hq => by omega⟩
    | 10, hj => exact Or.inr ⟨by omega, hj, fun _ => by simp at hj; rw [← hj]; exact hp⟩
    | 11, hj => exact Or.inl ⟨rfl, by simp at hj; exact hj.symm⟩
    | j + 12, hj => exact Or.inr ⟨by omega, by simpa using hj, fun hq => by omega⟩)
  · exact (fun ⟨q0, q1, q2, q3, q4, q5, q6, q7, q8, q9, q10, _, qr⟩ hx => ⟨q0, q1, q2, q3, q4, q5, q6, q7, q8, q9, q10, hx, qr⟩)
theorem Gx_istore_12 {a0 a1 a2 a3 a4 a5 a6 a7 a8 a9 a10 a11 : gV} {b : gV} {r : List gV} {x : Int} (d : decode M.2.1 pc = .ok (.istore 12, 2)) (hn : 12 < M.2.2.1) (hp : a11.1 ≠ 1) (k : Gx Γ M (pc + 2) (a0::a1::a2::a3::a4::a5::a6::a7::a8::a9::a10::a11::(0, x)::r) st v h t bc bs Q) : Gx Γ M pc (a0::a1::a2::a3::a4::a5::a6::a7::a8::a9::a10::a11::b::r) ((0, x) :: st) v h t bc bs Q := by
  refine Gx_istore (i := 12) d ?_ ?_ hn k
  · exact (by
    intro j a hj ha
    match j, hj with
    | 0, hj => exact Or.inr ⟨by omega, hj, fun hq => by omega⟩
    | 1, hj => exact Or.inr ⟨by omega, hj, fun hq => by omega⟩
    | 2, hj => exact Or.inr ⟨by omega, hj, fun hq => by omega⟩
    | 3, hj => exact Or.inr ⟨by omega, hj, fun hq => by omega⟩
    | 4, hj => exact Or.inr ⟨by omega, hj, fun hq => by omega⟩
    | 5, hj => exact Or.inr ⟨by omega, hj, fun hq => by omega⟩
    | 6, hj => exact Or.inr ⟨by omega, hj, fun hq => by omega⟩
    | 7, hj => exact Or.inr ⟨by omega, hj, fun hq => by omega⟩
    | 8, hj => exact Or.inr ⟨by omega, hj, fun hq => by omega⟩
    | 9, hj => exact Or.inr ⟨by omega, hj, fun hq => by omega⟩
    | 10, hj => exact Or.inr ⟨by omega, hj, fun hq => by omega⟩
    | 11, hj => exact Or.inr ⟨by omega, hj, fun _ => by simp at hj; rw [← hj]; exact hp⟩
    | 12, hj => exact Or.inl ⟨rfl, by simp at hj; exact hj.symm⟩
    | j + 13, hj => exact Or.inr ⟨by omega, by simpa using hj, fun hq => by omega⟩)
  · exact (fun ⟨q0, q1, q2, q3, q4, q5, q6, q7, q8, q9, q10, q11, _, qr⟩ hx => ⟨q0, q1, q2, q3, q4, q5, q6, q7, q8, q9, q10, q11, hx, qr⟩)
theorem Gx_istore_13 {a0 a1 a2 a3 a4 a5 a6 a7 a8 a9 a10 a11 a12 : gV} {b : gV} {r : List gV} {x : Int} (d : decode M.2.1 pc = .ok (.istore 13, 2)) (hn : 13 < M.2.2.1) (hp : a12.1 ≠ 1) (k : Gx Γ M (pc + 2) (a0::a1::a2::a3::a4::a5::a6::a7::a8::a9::a10::a11::a12::(0, x)::r) st v h t bc bs Q) : Gx Γ M pc (a0::a1::a2::a3::a4::a5::a6::a7::a8::a9::a10::a11::a12::b::r) ((0, x) :: st) v h t bc bs Q := by
  refine Gx_istore (i := 13) d ?_ ?_ hn k
  · exact (by
    intro j a hj ha
    match j, hj with
    | 0, hj => exact Or.inr ⟨by omega, hj, fun hq => by omega⟩
    | 1, hj => exact Or.inr ⟨by omega, hj, fun hq => by omega⟩
    | 2, hj => exact Or.inr ⟨by omega, hj, fun hq => by omega⟩
    | 3, hj => exact Or.inr ⟨by omega, hj, fun hq => by omega⟩
    | 4, hj => exact Or.inr ⟨by omega, hj, fun hq => by omega⟩
    | 5, hj => exact Or.inr ⟨by omega, hj, fun hq => by omega⟩
    | 6, hj => exact Or.inr ⟨by omega, hj, fun hq => by omega⟩
    | 7, hj => exact Or.inr ⟨by omega, hj, fun hq => by omega⟩
    | 8, hj => exact Or.inr ⟨by omega, hj, fun hq => by omega⟩
    | 9, hj => exact Or.inr ⟨by omega, hj, fun hq => by omega⟩
    | 10, hj => exact Or.inr ⟨by omega, hj, fun hq => by omega⟩
    | 11, hj => exact Or.inr ⟨by omega, hj, fun hq => by omega⟩
    | 12, hj => exact Or.inr ⟨by omega, hj, fun _ => by simp at hj; rw [← hj]; exact hp⟩
    | 13, hj => exact Or.inl ⟨rfl, by simp at hj; exact hj.symm⟩
    | j + 14, hj => exact Or.inr ⟨by omega, by simpa using hj, fun hq => by omega⟩)
  · exact (fun ⟨q0, q1, q2, q3, q4, q5, q6, q7, q8, q9, q10, q11, q12, _, qr⟩ hx => ⟨q0, q1, q2, q3, q4, q5, q6, q7, q8, q9, q10, q11, q12, hx, qr⟩)
theorem Gx_istore_14 {a0 a1 a2 a3 a4 a5 a6 a7 a8 a9 a10 a11 a12 a13 : gV} {b : gV} {r : List gV} {x : Int} (d : decode M.2.1 pc = .ok (.istore 14, 2)) (hn : 14 < M.2.2.1) (hp : a13.1 ≠ 1) (k : Gx Γ M (pc + 2) (a0::a1::a2::a3::a4::a5::a6::a7::a8::a9::a10::a11::a12::a13::(0, x)::r) st v h t bc bs Q) : Gx Γ M pc (a0::a1::a2::a3::a4::a5::a6::a7::a8::a9::a10::a11::a12::a13::b::r) ((0, x) :: st) v h t bc bs Q := by
  refine Gx_istore (i := 14) d ?_ ?_ hn k
  · exact (by
    intro j a hj ha
    match j, hj with
    | 0, hj => exact Or.inr ⟨by omega, hj, fun hq => by omega⟩
    | 1, hj => exact Or.inr ⟨by omega, hj, fun hq => by omega⟩
    | 2, hj => exact Or.inr ⟨by omega, hj, fun hq => by omega⟩
    | 3, hj => exact Or.inr ⟨by omega, hj, fun hq => by omega⟩
    | 4, hj => exact Or.inr ⟨by omega, hj, fun hq => by omega⟩
    | 5, hj => exact Or.inr ⟨by omega, hj, fun hq => by omega⟩
    | 6, hj => exact Or.inr ⟨by omega, hj, fun hq => by omega⟩
    | 7, hj => exact Or.inr ⟨by omega, hj, fun hq => by omega⟩
    | 8, hj => exact Or.inr ⟨by omega, hj, fun hq => by omega⟩
    | 9, hj => exact Or.inr ⟨by omega, hj, fun hq => by omega⟩
    | 10, hj => exact Or.inr ⟨by omega, hj, fun hq => by omega⟩
    | 11, hj => exact Or.inr ⟨by omega, hj, fun hq => by omega⟩
    | 12, hj => exact Or.inr ⟨by omega, hj, fun hq => by omega⟩
    | 13, hj => exact Or.inr ⟨by omega, hj, fun _ => by simp at hj; rw [← hj]; exact hp⟩
    | 14, hj => exact Or.inl ⟨rfl, by simp at hj; exact hj.symm⟩
    | j + 15, hj => exact Or.inr ⟨by omega, by simpa using hj, fun hq => by omega⟩)
  · exact (fun ⟨q0, q1, q2, q3, q4, q5, q6, q7, q8, q9, q10, q11, q12, q13, _, qr⟩ hx => ⟨q0, q1, q2, q3, q4, q5, q6, q7, q8, q9, q10, q11, q12, q13, hx, qr⟩)
theorem Gx_istore_15 {a0 a1 a2 a3 a4 a5 a6 a7 a8 a9 a10 a11 a12 a13 a14 : gV} {b : gV} {r : List gV} {x : Int} (d : decode M.2.1 pc = .ok (.istore 15, 2)) (hn : 15 < M.2.2.1) (hp : a14.1 ≠ 1) (k : Gx Γ M (pc + 2) (a0::a1::a2::a3::a4::a5::a6::a7::a8::a9::a10::a11::a12::a13::a14::(0, x)::r) st v h t bc bs Q) : Gx Γ M pc (a0::a1::a2::a3::a4::a5::a6::a7::a8::a9::a10::a11::a12::a13::a14::b::r) ((0, x) :: st) v h t bc bs Q := by
  refine Gx_istore (i := 15) d ?_ ?_ hn k
  · exact (by
    intro j a hj ha
    match j, hj with
    | 0, hj => exact Or.inr ⟨by omega, hj, fun hq => by omega⟩
    | 1, hj => exact Or.inr ⟨by omega, hj, fun hq => by omega⟩
    | 2, hj => exact Or.inr ⟨by omega, hj, fun hq => by omega⟩
    | 3, hj => exact Or.inr ⟨by omega, hj, fun hq => by omega⟩
    | 4, hj => exact Or.inr ⟨by omega, hj, fun hq => by omega⟩
    | 5, hj => exact Or.inr ⟨by omega, hj, fun hq => by omega⟩
    | 6, hj => exact Or.inr ⟨by omega, hj, fun hq => by omega⟩
    | 7, hj => exact Or.inr ⟨by omega, hj, fun hq => by omega⟩
    | 8, hj => exact Or.inr ⟨by omega, hj, fun hq => by omega⟩
    | 9, hj => exact Or.inr ⟨by omega, hj, fun hq => by omega⟩
    | 10, hj => exact Or.inr ⟨by omega, hj, fun hq => by omega⟩
    | 11, hj => exact Or.inr ⟨by omega, hj, fun hq => by omega⟩
    | 12, hj => exact Or.inr ⟨by omega, hj, fun hq => by omega⟩
    | 13, hj => exact Or.inr ⟨by omega, hj, fun hq => by omega⟩
    | 14, hj => exact Or.inr ⟨by omega, hj, fun _ => by simp at hj; rw [← hj]; exact hp⟩
    | 15, hj => exact Or.inl ⟨rfl, by simp at hj; exact hj.symm⟩
    | j + 16, hj => exact Or.inr ⟨by omega, by simpa using hj, fun hq => by omega⟩)
  · exact (fun ⟨q0, q1, q2, q3, q4, q5, q6, q7, q8, q9, q10, q11, q12, q13, q14, _, qr⟩ hx => ⟨q0, q1, q2, q3, q4, q5, q6, q7, q8, q9, q10, q11, q12, q13, q14, hx, qr⟩)
theorem Gx_istore_16 {a0 a1 a2 a3 a4 a5 a6 a7 a8 a9 a10 a11 a12 a13 a14 a15 : gV} {b : gV} {r : List gV} {x : Int} (d : decode M.2.1 pc = .ok (.istore 16, 2)) (hn : 16 < M.2.2.1) (hp : a15.1 ≠ 1) (k : Gx Γ M (pc + 2) (a0::a1::a2::a3::a4::a5::a6::a7::a8::a9::a10::a11::a12::a13::a14::a15::(0, x)::r) st v h t bc bs Q) : Gx Γ M pc (a0::a1::a2::a3::a4::a5::a6::a7::a8::a9::a10::a11::a12::a13::a14::a15::b::r) ((0, x) :: st) v h t bc bs Q := by
  refine Gx_istore (i := 16) d ?_ ?_ hn k
  · exact (by
    intro j a hj ha
    match j, hj with
    | 0, hj => exact Or.inr ⟨by omega, hj, fun hq => by omega⟩
    | 1, hj => exact Or.inr ⟨by omega, hj, fun hq => by omega⟩
    | 2, hj => exact Or.inr ⟨by omega, hj, fun hq => by omega⟩
    | 3, hj => exact Or.inr ⟨by omega, hj, fun hq => by omega⟩
    | 4, hj => exact Or.inr ⟨by omega, hj, fun hq => by omega⟩
    | 5, hj => exact Or.inr ⟨by omega, hj, fun hq => by omega⟩
    | 6, hj => exact Or.inr ⟨by omega, hj, fun hq => by omega⟩
    | 7, hj => exact Or.inr ⟨by omega, hj, fun hq => by omega⟩
    | 8, hj => exact Or.inr ⟨by omega, hj, fun hq => by omega⟩
    | 9, hj => exact Or.inr ⟨by omega, hj, fun hq => by omega⟩
    | 10, hj => exact Or.inr ⟨by omega, hj, fun hq => by omega⟩
    | 11, hj => exact Or.inr ⟨by omega, hj, fun hq => by omega⟩
    | 12, hj => exact Or.inr ⟨by omega, hj, fun hq => by omega⟩
    | 13, hj => exact Or.inr ⟨by omega, hj, fun hq => by omega⟩
    | 14, hj => exact Or.inr ⟨by omega, hj, fun hq => by omega⟩
    | 15, hj => exact Or.inr ⟨by omega, hj, fun _ => by simp at hj; rw [← hj]; exact hp⟩
    | 16, hj => exact Or.inl ⟨rfl, by simp at hj; exact hj.symm⟩
    | j + 17, hj => exact Or.inr ⟨by omega, by simpa using hj, fun hq => by omega⟩)
  · exact (fun ⟨q0, q1, q2, q3, q4, q5, q6, q7, q8, q9, q10, q11, q12, q13, q14, q15, _, qr⟩ hx => ⟨q0, q1, q2, q3, q4, q5, q6, q7, q8, q9, q10, q11, q12, q13, q14, q15, hx, qr⟩)
theorem Gx_istore_17 {a0 a1 a2 a3 a4 a5 a6 a7 a8 a9 a10 a11 a12 a13 a14 a15 a16 : gV} {b : gV} {r : List gV} {x : Int} (d : decode M.2.1 pc = .ok (.istore 17, 2)) (hn : 17 < M.2.2.1) (hp : a16.1 ≠ 1) (k : Gx Γ M (pc + 2) (a0::a1::a2::a3::a4::a5::a6::a7::a8::a9::a10::a11::a12::a13::a14::a15::a16::(0, x)::r) st v h t bc bs Q) : Gx Γ M pc (a0::a1::a2::a3::a4::a5::a6::a7::a8::a9::a10::a11::a12::a13::a14::a15::a16::b::r) ((0, x) :: st) v h t bc bs Q := by
  refine Gx_istore (i := 17) d ?_ ?_ hn k
  · exact (by
    intro j a hj ha
    match j, hj with
    | 0, hj => exact Or.inr ⟨by omega, hj, fun hq => by omega⟩
    | 1, hj => exact Or.inr ⟨by omega, hj, fun hq => by omega⟩
    | 2, hj => exact Or.inr ⟨by omega, hj, fun hq => by omega⟩
    | 3, hj => exact Or.inr ⟨by omega, hj, fun hq => by omega⟩
    | 4, hj => exact Or.inr ⟨by omega, hj, fun hq => by omega⟩
    | 5, hj => exact Or.inr ⟨by omega, hj, fun hq => by omega⟩
    | 6, hj => exact Or.inr ⟨by omega, hj, fun hq => by omega⟩
    | 7, hj => exact Or.inr ⟨by omega, hj, fun hq => by omega⟩
    | 8, hj => exact Or.inr ⟨by omega, hj, fun hq => by omega⟩
    | 9, hj => exact Or.inr ⟨by omega, hj, fun hq => by omega⟩
    | 10, hj => exact Or.inr ⟨by omega, hj, fun hq => by omega⟩
    | 11, hj => exact Or.inr ⟨by omega, hj, fun hq => by omega⟩
    | 12, hj => exact Or.inr ⟨by omega, hj, fun hq => by omega⟩
    | 13, hj => exact Or.inr ⟨by omega, hj, fun hq => by omega⟩
    | 14, hj => exact Or.inr ⟨by omega, hj, fun hq => by omega⟩
    | 15, hj => exact Or.inr ⟨by omega, hj, fun hq => by omega⟩
    | 16, hj => exact Or.inr ⟨by omega, hj, fun _ => by simp at hj; rw [← hj]; exact hp⟩
    | 17, hj => exact Or.inl ⟨rfl, by simp at hj; exact hj.symm⟩
    | j + 18, hj => exact Or.inr ⟨by omega, by simpa using hj, fun hq => by omega⟩)
  · exact (fun ⟨q0, q1, q2, q3, q4, q5, q6, q7, q8, q9, q10, q11, q12, q13, q14, q15, q16, _, qr⟩ hx => ⟨q0, q1, q2, q3, q4, q5, q6, q7, q8, q9, q10, q11, q12, q13, q14, q15, q16, hx, qr⟩)
theorem Gx_istore_18 {a0 a1 a2 a3 a4 a5 a6 a7 a8 a9 a10 a11 a12 a13 a14 a15 a16 a17 : gV} {b : gV} {r : List gV} {x : Int} (d : decode M.2.1 pc = .ok (.istore 18, 2)) (hn : 18 < M.2.2.1) (hp : a17.1 ≠ 1) (k : Gx Γ M (pc + 2) (a0::a1::a2::a3::a4::a5::a6::a7::a8::a9::a10::a11::a12::a13::a14::a15::a16::a17::(0, x)::r) st v h t bc bs Q) : Gx Γ M pc (a0::a1::a2::a3::a4::a5::a6::a7::a8::a9::a10::a11::a12::a13::a14::a15::a16::a17::b::r) ((0, x) :: st) v h t bc bs Q := by
  refine Gx_istore (i := 18) d ?_ ?_ hn k
  · exact (by
    intro j a hj ha
    match j, hj with
    | 0, hj => exact Or.inr ⟨by omega, hj, fun hq => by omega⟩
    | 1, hj => exact Or.inr ⟨by omega, hj, fun hq => by omega⟩
    | 2, hj => exact Or.inr ⟨by omega, hj, fun hq => by omega⟩
    | 3, hj => exact Or.inr ⟨by omega, hj, fun hq => by omega⟩
    | 4, hj => exact Or.inr ⟨by omega, hj, fun hq => by omega⟩
    | 5, hj => exact Or.inr ⟨by omega, hj, fun hq => by omega⟩
    | 6, hj => exact Or.inr ⟨by omega, hj, fun hq => by omega⟩
    | 7, hj => exact Or.inr ⟨by omega, hj, fun hq => by omega⟩
    | 8, hj => exact Or.inr ⟨by omega, hj, fun hq => by omega⟩
    | 9, hj => exact Or.inr ⟨by omega, hj, fun hq => by omega⟩
    | 10, hj => exact Or.inr ⟨by omega, hj, fun hq => by omega⟩
    | 11, hj => exact Or.inr ⟨by omega, hj, fun hq => by omega⟩
    | 12, hj => exact Or.inr ⟨by omega, hj, fun hq => by omega⟩
    | 13, hj => exact Or.inr ⟨by omega, hj, fun hq => by omega⟩
    | 14, hj => exact Or.inr ⟨by omega, hj, fun hq => by omega⟩
    | 15, hj => exact Or.inr ⟨by omega, hj, fun hq => by omega⟩
    | 16, hj => exact Or.inr ⟨by omega, hj, fun hq => by omega⟩
    | 17, hj => exact Or.inr ⟨by omega, hj, fun _ => by simp at hj; rw [← hj]; exact hp⟩
    | 18, hj => exact Or.inl ⟨rfl, by simp at hj; exact hj.symm⟩
    | j + 19, hj => exact Or.inr ⟨by omega, by simpa using hj, fun hq => by omega⟩)
  · exact (fun ⟨q0, q1, q2, q3, q4, q5, q6, q7, q8, q9, q10, q11, q12, q13, q14, q15, q16, q17, _, qr⟩ hx => ⟨q0, q1, q2, q3, q4, q5, q6, q7, q8, q9, q10, q11, q12, q13, q14, q15, q16, q17, hx, qr⟩)
theorem Gx_istore_19 {a0 a1 a2 a3 a4 a5 a6 a7 a8 a9 a10 a11 a12 a13 a14 a15 a16 a17 a18 : gV} {b : gV} {r : List gV} {x : Int} (d : decode M.2.1 pc = .ok (.istore 19, 2)) (hn : 19 < M.2.2.1) (hp : a18.1 ≠ 1) (k : Gx Γ M (pc + 2) (a0::a1::a2::a3::a4::a5::a6::a7::a8::a9::a10::a11::a12::a13::a14::a15::a16::a17::a18::(0, x)::r) st v h t bc bs Q) : Gx Γ M pc (a0::a1::a2::a3::a4::a5::a6::a7::a8::a9::a10::a11::a12::a13::a14::a15::a16::a17::a18::b::r) ((0, x) :: st) v h t bc bs Q := by
  refine Gx_istore (i := 19) d ?_ ?_ hn k
  · exact (by
    intro j a hj ha
    match j, hj with
    | 0, hj => exact Or.inr ⟨by omega, hj, fun hq => by omega⟩
    | 1, hj => exact Or.inr ⟨by omega, hj, fun hq => by omega⟩
    | 2, hj => exact Or.inr ⟨by omega, hj, fun hq => by omega⟩
    | 3, hj => exact Or.inr ⟨by omega, hj, fun hq => by omega⟩
    | 4, hj => exact Or.inr ⟨by omega, hj, fun hq => by omega⟩
    | 5, hj => exact Or.inr ⟨by omega, hj, fun hq => by omega⟩
    | 6, hj => exact Or.inr ⟨by omega, hj, fun hq => by omega⟩
    | 7, hj => exact Or.inr ⟨by omega, hj, fun hq => by omega⟩
    | 8, hj => exact Or.inr ⟨by omega, hj, fun hq => by omega⟩
    | 9, hj => exact Or.inr ⟨by omega, hj, fun hq => by omega⟩
    | 10, hj => exact Or.inr ⟨by omega, hj, fun hq => by omega⟩
    | 11, hj => exact Or.inr ⟨by omega, hj, fun hq => by omega⟩
    | 12, hj => exact Or.inr ⟨by omega, hj, fun hq => by omega⟩
    | 13, hj => exact Or.inr ⟨by omega, hj, fun hq => by omega⟩
    | 14, hj => exact Or.inr ⟨by omega, hj, fun hq => by omega⟩
    | 15, hj => exact Or.inr ⟨by omega, hj, fun hq => by omega⟩
    | 16, hj => exact Or.inr ⟨by omega, hj, fun hq => by omega⟩
    | 17, hj => exact Or.inr ⟨by omega, hj, fun hq => by omega⟩
    | 18, hj => exact Or.inr ⟨by omega, hj, fun _ => by simp at hj; rw [← hj]; exact hp⟩
    | 19, hj => exact Or.inl ⟨rfl, by simp at hj; exact hj.symm⟩
    | j + 20, hj => exact Or.inr ⟨by omega, by simpa using hj, fun hq => by omega⟩)
  · exact (fun ⟨q0, q1, q2, q3, q4, q5, q6, q7, q8, q9, q10, q11, q12, q13, q14, q15, q16, q17, q18, _, qr⟩ hx => ⟨q0, q1, q2, q3, q4, q5, q6, q7, q8, q9, q10, q11, q12, q13, q14, q15, q16, q17, q18, hx, qr⟩)
theorem Gx_istore_20 {a0 a1 a2 a3 a4 a5 a6 a7 a8 a9 a10 a11 a12 a13 a14 a15 a16 a17 a18 a19 : gV} {b : gV} {r : List gV} {x : Int} (d : decode M.2.1 pc = .ok (.istore 20, 2)) (hn : 20 < M.2.2.1) (hp : a19.1 ≠ 1) (k : Gx Γ M (pc + 2) (a0::a1::a2::a3::a4::a5::a6::a7::a8::a9::a10::a11::a12::a13::a14::a15::a16::a17::a18::a19::(0, x)::r) st v h t bc bs Q) : Gx Γ M pc (a0::a1::a2::a3::a4::a5::a6::a7::a8::a9::a10::a11::a12::a13::a14::a15::a16::a17::a18::a19::b::r) ((0, x) :: st) v h t bc bs Q := by
  refine Gx_istore (i := 20) d ?_ ?_ hn k
  · exact (by
    intro j a hj ha
    match j, hj with
    | 0, hj => exact Or.inr ⟨by omega, hj, fun hq => by omega⟩
    | 1, hj => exact Or.inr ⟨by omega, hj, fun hq => by omega⟩
    | 2, hj => exact Or.inr ⟨by omega, hj, fun hq => by omega⟩
    | 3, hj => exact Or.inr ⟨by omega, hj, fun hq => by omega⟩
    | 4, hj => exact Or.inr ⟨by omega, hj, fun hq => by omega⟩
    | 5, hj => exact Or.inr ⟨by omega, hj, fun hq => by omega⟩
    | 6, hj => exact Or.inr ⟨by omega, hj, fun hq => by omega⟩
    | 7, hj => exact Or.inr ⟨by omega, hj, fun hq => by omega⟩
    | 8, hj => exact Or.inr ⟨by omega, hj, fun hq => by omega⟩
    | 9, hj => exact Or.inr ⟨by omega, hj, fun hq => by omega⟩
    | 10, hj => exact Or.inr ⟨by omega, hj, fun hq => by omega⟩
    | 11, hj => exact Or.inr ⟨by omega, hj, fun hq => by omega⟩
    | 12, hj => exact Or.inr ⟨by omega, hj, fun hq => by omega⟩
    | 13, hj => exact Or.inr ⟨by omega, hj, fun hq => by omega⟩
    | 14, hj => exact Or.inr ⟨by omega, hj, fun hq => by omega⟩
    | 15, hj => exact Or.inr ⟨by omega, hj, fun hq => by omega⟩
    | 16, hj => exact Or.inr ⟨by omega, hj, fun hq => by omega⟩
    | 17, hj => exact Or.inr ⟨by omega, hj, fun hq => by omega⟩
    | 18, hj => exact Or.inr ⟨by omega, hj, fun hq => by omega⟩
    | 19, hj => exact Or.inr ⟨by omega, hj, fun _ => by simp at hj; rw [← hj]; exact hp⟩
    | 20, hj => exact Or.inl ⟨rfl, by simp at hj; exact hj.symm⟩
    | j + 21, hj => exact Or.inr ⟨by omega, by simpa using hj, fun hq => by omega⟩)
  · exact (fun ⟨q0, q1, q2, q3, q4, q5, q6, q7, q8, q9, q10, q11, q12, q13, q14, q15, q16, q17, q18, q19, _, qr⟩ hx => ⟨q0, q1, q2, q3, q4, q5, q6, q7, q8, q9, q10, q11, q12, q13, q14, q15, q16, q17, q18, q19, hx, qr⟩)
theorem Gx_istore_21 {a0 a1 a2 a3 a4 a5 a6 a7 a8 a9 a10 a11 a12 a13 a14 a15 a16 a17 a18 a19 a20 : gV} {b : gV} {r : List gV} {x : Int} (d : decode M.2.1 pc = .ok (.istore 21, 2)) (hn : 21 < M.2.2.1) (hp : a20.1 ≠ 1) (k : Gx Γ M (pc + 2) (a0::a1::a2::a3::a4::a5::a6::a7::a8::a9::a10::a11::a12::a13::a14::a15::a16::a17::a18::a19::a20::(0, x)::r) st v h t bc bs Q) : Gx Γ M pc (a0::a1::a2::a3::a4::a5::a6::a7::a8::a9::a10::a11::a12::a13::a14::a15::a16::a17::a18::a19::a20::b::r) ((0, x) :: st) v h t bc bs Q := by
  refine Gx_istore (i := 21) d ?_ ?_ hn k
  · exact (by
    intro j a hj ha
    match j, hj with
    | 0, hj => exact Or.inr ⟨by omega, hj, fun hq => by omega⟩
    | 1, hj => exact Or.inr ⟨by omega, hj, fun hq => by omega⟩
    | 2, hj => exact Or.inr ⟨by omega, hj, fun hq => by omega⟩
    | 3, hj => exact Or.inr ⟨by omega, hj, fun hq => by omega⟩
    | 4, hj => exact Or.inr ⟨by omega, hj, fun hq => by omega⟩
    | 5, hj => exact Or.inr ⟨by omega, hj, fun hq => by omega⟩
    | 6, hj => exact Or.inr ⟨by omega, hj, fun hq => by omega⟩
    | 7, hj => exact Or.inr ⟨by omega, hj, fun hq => by omega⟩
    | 8, hj => exact Or.inr ⟨by omega, hj, fun hq => by omega⟩
    | 9, hj => exact Or.inr ⟨by omega, hj, fun hq => by omega⟩
    | 10, hj => exact Or.inr ⟨by omega, hj, fun hq => by omega⟩
    | 11, hj => exact Or.inr ⟨by omega, hj, fun hq => by omega⟩
    | 12, hj => exact Or.inr ⟨by omega, hj, fun hq => by omega⟩
    | 13, hj => exact Or.inr ⟨by omega, hj, fun hq => by omega⟩
    | 14, hj => exact Or.inr ⟨by omega, hj, fun hq => by omega⟩
    | 15, hj => exact Or.inr ⟨by omega, hj, fun hq => by omega⟩
    | 16, hj => exact Or.inr ⟨by omega, hj, fun hq => by omega⟩
    | 17, hj => exact Or.inr ⟨by omega, hj, fun hq => by omega⟩
    | 18, hj => exact Or.inr ⟨by omega, hj, fun hq => by omega⟩
    | 19, hj => exact Or.inr ⟨by omega, hj, fun hq => by omega⟩
    | 20, hj => exact Or.inr ⟨by omega, hj, fun _ => by simp at hj; rw [← hj]; exact hp⟩
    | 21, hj => exact Or.inl ⟨rfl, by simp at hj; exact hj.symm⟩
    | j + 22, hj => exact Or.inr ⟨by omega, by simpa using hj, fun hq => by omega⟩)
  · exact (fun ⟨q0, q1, q2, q3, q4, q5, q6, q7, q8, q9, q10, q11, q12, q13, q14, q15, q16, q17, q18, q19, q20, _, qr⟩ hx => ⟨q0, q1, q2, q3, q4, q5, q6, q7, q8, q9, q10, q11, q12, q13, q14, q15, q16, q17, q18, q19, q20, hx, qr⟩)
theorem Gx_istore_22 {a0 a1 a2 a3 a4 a5 a6 a7 a8 a9 a10 a11 a12 a13 a14 a15 a16 a17 a18 a19 a20 a21 : gV} {b : gV} {r : List gV} {x : Int} (d : decode M.2.1 pc = .ok (.istore 22, 2)) (hn : 22 < M.2.2.1) (hp : a21.1 ≠ 1) (k : Gx Γ M (pc + 2) (a0::a1::a2::a3::a4::a5::a6::a7::a8::a9::a10::a11::a12::a13::a14::a15::a16::a17::a18::a19::a20::a21::(0, x)::r) st v h t bc bs Q) : Gx Γ M pc (a0::a1::a2::a3::a4::a5::a6::a7::a8::a9::a10::a11::a12::a13::a14::a15::a16::a17::a18::a19::a20::a21::b::r) ((0, x) :: st) v h t bc bs Q := by
  refine Gx_istore (i := 22) d ?_ ?_ hn k
  · exact (by
    intro j a hj ha
    match j, hj with
    | 0, hj => exact Or.inr ⟨by omega, hj, fun hq => by omega⟩
    | 1, hj => exact Or.inr ⟨by omega, hj, fun hq => by omega⟩
    | 2, hj => exact Or.inr ⟨by omega, hj, fun hq => by omega⟩
    | 3, hj => exact Or.inr ⟨by omega, hj, fun hq => by omega⟩
    | 4, hj => exact Or.inr ⟨by omega, hj, fun hq => by omega⟩
    | 5, hj => exact Or.inr ⟨by omega, hj, fun hq => by omega⟩
    | 6, hj => exact Or.inr ⟨by omega, hj, fun hq => by omega⟩
    | 7, hj => exact Or.inr ⟨by omega, hj, fun hq => by omega⟩
    | 8, hj => exact Or.inr ⟨by omega, hj, fun hq => by omega⟩
    | 9, hj => exact Or.inr ⟨by omega, hj, fun hq => by omega⟩
    | 10, hj => exact Or.inr ⟨by omega, hj, fun hq => by omega⟩
    | 11, hj => exact Or.inr ⟨by omega, hj, fun hq => by omega⟩
    | 12, hj => exact Or.inr ⟨by omega, hj, fun hq => by omega⟩
    | 13, hj => exact Or.inr ⟨by omega, hj, fun hq => by omega⟩
    | 14, hj => exact Or.inr ⟨by omega, hj, fun hq => by omega⟩
    | 15, hj => exact Or.inr ⟨by omega, hj, fun hq => by omega⟩
    | 16, hj => exact Or.inr ⟨by omega, hj, fun hq => by omega⟩
    | 17, hj => exact Or.inr ⟨by omega, hj, fun hq => by omega⟩
    | 18, hj => exact Or.inr ⟨by omega, hj, fun hq => by omega⟩
    | 19, hj => exact Or.inr ⟨by omega, hj, fun hq => by omega⟩
    | 20, hj => exact Or.inr ⟨by omega, hj, fun hq => by omega⟩
    | 21, hj => exact Or.inr ⟨by omega, hj, fun _ => by simp at hj; rw [← hj]; exact hp⟩
    | 22, hj => exact Or.inl ⟨rfl, by simp at hj; exact hj.symm⟩
    | j + 23, hj => exact Or.inr ⟨by omega, by simpa using hj, fun hq => by omega⟩)
  · exact (fun ⟨q0, q1, q2, q3, q4, q5, q6, q7, q8, q9, q10, q11, q12, q13, q14, q15, q16, q17, q18, q19, q20, q21, _, qr⟩ hx => ⟨q0, q1, q2, q3, q4, q5, q6, q7, q8, q9, q10, q11, q12, q13, q14, q15, q16, q17, q18, q19, q20, q21, hx, qr⟩)
theorem Gx_istore_23 {a0 a1 a2 a3 a4 a5 a6 a7 a8 a9 a10 a11 a12 a13 a14 a15 a16 a17 a18 a19 a20 a21 a22 : gV} {b : gV} {r : List gV} {x : Int} (d : decode M.2.1 pc = .ok (.istore 23, 2)) (hn : 23 < M.2.2.1) (hp : a22.1 ≠ 1) (k : Gx Γ M (pc + 2) (a0::a1::a2::a3::a4::a5::a6::a7::a8::a9::a10::a11::a12::a13::a14::a15::a16::a17::a18::a19::a20::a21::a22::(0, x)::r) st v h t bc bs Q) : Gx Γ M pc (a0::a1::a2::a3::a4::a5::a6::a7::a8::a9::a10::a11::a12::a13::a14::a15::a16::a17::a18::a19::a20::a21::a22::b::r) ((0, x) :: st) v h t bc bs Q := by
  refine Gx_istore (i := 23) d ?_ ?_ hn k
  · exact (by
    intro j a hj ha
    match j, hj with
    | 0, hj => exact Or.inr ⟨by omega, hj, fun hq => by omega⟩
    | 1, hj => exact Or.inr ⟨by omega, hj, fun hq => by omega⟩
    | 2, hj => exact Or.inr ⟨by omega, hj, fun hq => by omega⟩
    | 3, hj => exact Or.inr ⟨by omega, hj, fun hq => by omega⟩
    | 4, hj => exact Or.inr ⟨by omega, hj, fun hq => by omega⟩
    | 5, hj => exact Or.inr ⟨by omega, hj, fun hq => by omega⟩
    | 6, hj => exact Or.inr ⟨by omega, hj, fun hq => by omega⟩
    | 7, hj => exact Or.inr ⟨by omega, hj, fun hq => by omega⟩
    | 8, hj => exact Or.inr ⟨by omega, hj, fun hq => by omega⟩
    | 9, hj => exact Or.inr ⟨by omega, hj, fun hq => by omega⟩
    | 10, hj => exact Or.inr ⟨by omega, hj, fun hq => by omega⟩
    | 11, hj => exact Or.inr ⟨by omega, hj, fun hq => by omega⟩
    | 12, hj => exact Or.inr ⟨by omega, hj, fun hq => by omega⟩
    | 13, hj => exact Or.inr ⟨by omega, hj, fun hq => by omega⟩
    | 14, hj => exact Or.inr ⟨by omega, hj, fun hq => by omega⟩
    | 15, hj => exact Or.inr ⟨by omega, hj, fun hq => by omega⟩
    | 16, hj => exact Or.inr ⟨by omega, hj, fun hq => by omega⟩
    | 17, hj => exact Or.inr ⟨by omega, hj, fun hq => by omega⟩
    | 18, hj => exact Or.inr ⟨by omega, hj, fun hq => by omega⟩
    | 19, hj => exact Or.inr ⟨by omega, hj, fun hq => by omega⟩
    | 20, hj => exact Or.inr ⟨by omega, hj, fun hq => by omega⟩
    | 21, hj => exact Or.inr ⟨by omega, hj, fun hq => by omega⟩
    | 22, hj => exact Or.inr ⟨by omega, hj, fun _ => by simp at hj; rw [← hj]; exact hp⟩
    | 23, hj => exact Or.inl ⟨rfl, by simp at hj; exact hj.symm⟩
    | j + 24, hj => exact Or.inr ⟨by omega, by simpa using hj, fun hq => by omega⟩)
  · exact (fun ⟨q0, q1, q2, q3, q4, q5, q6, q7, q8, q9, q10, q11, q12, q13, q14, q15, q16, q17, q18, q19, q20, q21, q22, _, qr⟩ hx => ⟨q0, q1, q2, q3, q4, q5, q6, q7, q8, q9, q10, q11, q12, q13, q14, q15, q16, q17, q18, q19, q20, q21, q22, hx, qr⟩)
theorem Gx_istore_24 {a0 a1 a2 a3 a4 a5 a6 a7 a8 a9 a10 a11 a12 a13 a14 a15 a16 a17 a18 a19 a20 a21 a22 a23 : gV} {b : gV} {r : List gV} {x : Int} (d : decode M.2.1 pc = .ok (.istore 24, 2)) (hn : 24 < M.2.2.1) (hp : a23.1 ≠ 1) (k : Gx Γ M (pc + 2) (a0::a1::a2::a3::a4::a5::a6::a7::a8::a9::a10::a11::a12::a13::a14::a15::a16::a17::a18::a19::a20::a21::a22::a23::(0, x)::r) st v h t bc bs Q) : Gx Γ M pc (a0::a1::a2::a3::a4::a5::a6::a7::a8::a9::a10::a11::a12::a13::a14::a15::a16::a17::a18::a19::a20::a21::a22::a23::b::r) ((0, x) :: st) v h t bc bs Q := by
  refine Gx_istore (i := 24) d ?_ ?_ hn k
  · exact (by
    intro j a hj ha
    match j, hj with
    | 0, hj => exact Or.inr ⟨by omega, hj, fun hq => by omega⟩
    | 1, hj => exact Or.inr ⟨by omega, hj, fun hq => by omega⟩
    | 2, hj => exact Or.inr ⟨by omega, hj, fun hq => by omega⟩
    | 3, hj => exact Or.inr ⟨by omega, hj, fun hq => by omega⟩
    | 4, hj => exact Or.inr ⟨by omega, hj, fun hq => by omega⟩
    | 5, hj => exact Or.inr ⟨by omega, hj, fun hq => by omega⟩
    | 6, hj => exact Or.inr ⟨by omega, hj, fun hq => by omega⟩
    | 7, hj => exact Or.inr ⟨by omega, hj, fun hq => by omega⟩
    | 8, hj => exact Or.inr ⟨by omega, hj, fun hq => by omega⟩
    | 9, hj => exact Or.inr ⟨by omega, hj, fun hq => by omega⟩
    | 10, hj => exact Or.inr ⟨by omega, hj, fun hq => by omega⟩
    | 11, hj => exact Or.inr ⟨by omega, hj, fun hq => by omega⟩
    | 12, hj => exact Or.inr ⟨by omega, hj, fun hq => by omega⟩
    | 13, hj => exact Or.inr ⟨by omega, hj, fun hq => by omega⟩
    | 14, hj => exact Or.inr ⟨by omega, hj, fun hq => by omega⟩
    | 15, hj => exact Or.inr ⟨by omega, hj, fun hq => by omega⟩
    | 16, hj => exact Or.inr ⟨by omega, hj, fun hq => by omega⟩
    | 17, hj => exact Or.inr ⟨by omega, hj, fun hq => by omega⟩
    | 18, hj => exact Or.inr ⟨by omega, hj, fun hq => by omega⟩
    | 19, hj => exact Or.inr ⟨by omega, hj, fun hq => by omega⟩
    | 20, hj => exact Or.inr ⟨by omega, hj, fun hq => by omega⟩
    | 21, hj => exact Or.inr ⟨by omega, hj, fun hq => by omega⟩
    | 22, hj => exact Or.inr ⟨by omega, hj, fun hq => by omega⟩
    | 23, hj => exact Or.inr ⟨by omega, hj, fun _ => by simp at hj; rw [← hj]; exact hp⟩
    | 24, hj => exact Or.inl ⟨rfl, by simp at hj; exact hj.symm⟩
    | j + 25, hj => exact Or.inr ⟨by omega, by simpa using hj, fun hq => by omega⟩)
  · exact (fun ⟨q0, q1, q2, q3, q4, q5, q6, q7, q8, q9, q10, q11, q12, q13, q14, q15, q16, q17, q18, q19, q20, q21, q22, q23, _, qr⟩ hx => ⟨q0, q1, q2, q3, q4, q5, q6, q7, q8, q9, q10, q11, q12, q13, q14, q15, q16, q17, q18, q19, q20, q21, q22, q23, hx, qr⟩)
theorem Gx_istore_25 {a0 a1 a2 a3 a4 a5 a6 a7 a8 a9 a10 a11 a12 a13 a14 a15 a16 a17 a18 a19 a20 a21 a22 a23 a24 : gV} {b : gV} {r : List gV} {x : Int} (d : decode M.2.1 pc = .ok (.istore 25, 2)) (hn : 25 < M.2.2.1) (hp : a24.1 ≠ 1) (k : Gx Γ M (pc + 2) (a0::a1::a2::a3::a4::a5::a6::a7::a8::a9::a10::a11::a12::a13::a14::a15::a16::a17::a18::a19::a20::a21::a22::a23::a24::(0, x)::r) st v h t bc bs Q) : Gx Γ M pc (a0::a1::a2::a3::a4::a5::a6::a7::a8::a9::a10::a11::a12::a13::a14::a15::a16::a17::a18::a19::a20::a21::a22::a23::a24::b::r) ((0, x) :: st) v h t bc bs Q := by
  refine Gx_istore (i := 25) d ?_ ?_ hn k
  · exact (by
    intro j a hj ha
    match j, hj with
    | 0, hj => exact Or.inr ⟨by omega, hj, fun hq => by omega⟩
    | 1, hj => exact Or.inr ⟨by omega, hj, fun hq => by omega⟩
    | 2, hj => exact Or.inr ⟨by omega, hj, fun hq => by omega⟩
    | 3, hj => exact Or.inr ⟨by omega, hj, fun hq => by omega⟩
    | 4, hj => exact Or.inr ⟨by omega, hj, fun hq => by omega⟩
    | 5, hj => exact Or.inr ⟨by omega, hj, fun hq => by omega⟩
    | 6, hj => exact Or.inr ⟨by omega, hj, fun hq => by omega⟩
    | 7, hj => exact Or.inr ⟨by omega, hj, fun hq => by omega⟩
    | 8, hj => exact Or.inr ⟨by omega, hj, fun hq => by omega⟩
    | 9, hj => exact Or.inr ⟨by omega, hj, fun hq => by omega⟩
    | 10, hj => exact Or.inr ⟨by omega, hj, fun hq => by omega⟩
    | 11, hj => exact Or.inr ⟨by omega, hj, fun hq => by omega⟩
    | 12, hj => exact Or.inr ⟨by omega, hj, fun hq => by omega⟩
    | 13, hj => exact Or.inr ⟨by omega, hj, fun hq => by omega⟩
    | 14, hj => exact Or.inr ⟨by omega, hj, fun hq => by omega⟩
    | 15, hj => exact Or.inr ⟨by omega, hj, fun hq => by omega⟩
    | 16, hj => exact Or.inr ⟨by omega, hj, fun hq => by omega⟩
    | 17, hj => exact Or.inr ⟨by omega, hj, fun hq => by omega⟩
    | 18, hj => exact Or.inr ⟨by omega, hj, fun hq => by omega⟩
    | 19, hj => exact Or.inr ⟨by omega, hj, fun hq => by omega⟩
    | 20, hj => exact Or.inr ⟨by omega, hj, fun hq => by omega⟩
    | 21, hj => exact Or.inr ⟨by omega, hj, fun hq => by omega⟩
    | 22, hj => exact Or.inr ⟨by omega, hj, fun hq => by omega⟩
    | 23, hj => exact Or.inr ⟨by omega, hj, fun hq => by omega⟩
    | 24, hj => exact Or.inr ⟨by omega, hj, fun _ => by simp at hj; rw [← hj]; exact hp⟩
    | 25, hj => exact Or.inl ⟨rfl, by simp at hj; exact hj.symm⟩
    | j + 26, hj => exact Or.inr ⟨by omega, by simpa using hj, fun hq => by omega⟩)
  · exact (fun ⟨q0, q1, q2, q3, q4, q5, q6, q7, q8, q9, q10, q11, q12, q13, q14, q15, q16, q17, q18, q19, q20, q21, q22, q23, q24, _, qr⟩ hx => ⟨q0, q1, q2, q3, q4, q5, q6, q7, q8, q9, q10, q11, q12, q13, q14, q15, q16, q17, q18, q19, q20, q21, q22, q23, q24, hx, qr⟩)
theorem Gx_astore_4 {a0 a1 a2 a3 : gV} {b : gV} {r : List gV} {x : Int} (d : decode M.2.1 pc = .ok (.astore 4, 2)) (hn : 4 < M.2.2.1) (hp : a3.1 ≠ 1) (k : Gx Γ M (pc + 2) (a0::a1::a2::a3::(2, x)::r) st v h t bc bs Q) : Gx Γ M pc (a0::a1::a2::a3::b::r) ((2, x) :: st) v h t bc bs Q := by
  refine Gx_astore (i := 4) d ?_ ?_ hn k
  · exact (by
    intro j a hj ha
    match j, hj with
    | 0, hj => exact Or.inr ⟨by omega, hj, fun hq => by omega⟩
    | 1, hj => exact Or.inr ⟨by omega, hj, fun hq => by omega⟩
    | 2, hj => exact Or.inr ⟨by omega, hj, fun hq => by omega⟩
    | 3, hj => exact Or.inr ⟨by omega, hj, fun _ => by simp at hj; rw [← hj]; exact hp⟩
    | 4, hj => exact Or.inl ⟨rfl, by simp at hj; exact hj.symm⟩
    | j + 5, hj => exact Or.inr ⟨by omega, by simpa using hj, fun hq => by omega⟩)
  · exact (fun ⟨q0, q1, q2, q3, _, qr⟩ hx => ⟨q0, q1, q2, q3, hx, qr⟩)
theorem Gx_astore_5 {a0 a1 a2 a3 a4 : gV} {b : gV} {r : List gV} {x : Int} (d : decode M.2.1 pc = .ok (.astore 5, 2)) (hn : 5 < M.2.2.1) (hp : a4.1 ≠ 1) (k : Gx Γ M (pc + 2) (a0::a1::a2::a3::a4::(2, x)::r) st v h t bc bs Q) : Gx Γ M pc (a0::a1::a2::a3::a4::b::r) ((2, x) :: st) v h t bc bs Q := by
  refine Gx_astore (i := 5) d ?_ ?_ hn k
  · exact (by
    intro j a hj ha
    match j, hj with
    | 0, hj => exact Or.inr ⟨by omega, hj, fun hq => by omega⟩
    | 1, hj => exact Or.inr ⟨by omega, hj, fun hq => by omega⟩
    | 2, hj => exact Or.inr ⟨by omega, hj, fun hq => by omega⟩
    | 3, hj => exact Or.inr ⟨by omega, hj, fun hq => by omega⟩
    | 4, hj => exact Or.inr ⟨by omega, hj, fun _ => by simp at hj; rw [← hj]; exact hp⟩
    | 5, hj => exact Or.inl ⟨rfl, by simp at hj; exact hj.symm⟩
    | j + 6, hj => exact Or.inr ⟨by omega, by simpa using hj, fun hq => by omega⟩)
  · exact (fun ⟨q0, q1, q2, q3, q4, _, qr⟩ hx => ⟨q0, q1, q2, q3, q4, hx, qr⟩)
theorem Gx_astore_6 {a0 a1 a2 a3 a4 a5 : gV} {b : gV} {r : List gV} {x : Int} (d : decode M.2.1 pc = .ok (.astore 6, 2)) (hn : 6 < M.2.2.1) (hp : a5.1 ≠ 1) (k : Gx Γ M (pc + 2) (a0::a1::a2::a3::a4::a5::(2, x)::r) st v h t bc bs Q) : Gx Γ M pc (a0::a1::a2::a3::a4::a5::b::r) ((2, x) :: st) v h t bc bs Q := by
  refine Gx_astore (i := 6) d ?_ ?_ hn k
  · exact (by
    intro j a hj ha
    match j, hj with
    | 0, hj => exact Or.inr ⟨by omega, hj, fun hq => by omega⟩
    | 1, hj => exact Or.inr ⟨by omega, hj, fun hq => by omega⟩
    | 2, hj => exact Or.inr ⟨by omega, hj, fun hq => by omega⟩
    | 3, hj => exact Or.inr ⟨by omega, hj, fun hq => by omega⟩
    | 4, hj => exact Or.inr ⟨by omega, hj, fun hq => by omega⟩
    | 5, hj => exact Or.inr ⟨by omega, hj, fun _ => by simp at hj; rw [← hj]; exact hp⟩
    | 6, hj => exact Or.inl ⟨rfl, by simp at hj; exact hj.symm⟩
    | j + 7, hj => exact Or.inr ⟨by omega, by simpa using hj, fun hq => by omega⟩)
  · exact (fun ⟨q0, q1, q2, q3, q4, q5, _, qr⟩ hx => ⟨q0, q1, q2, q3, q4, q5, hx, qr⟩)
theorem Gx_astore_7 {a0 a1 a2 a3 a4 a5 a6 : gV} {b : gV} {r : List gV} {x : Int} (d : decode M.2.1 pc = .ok (.astore 7, 2)) (hn : 7 < M.2.2.1) (hp : a6.1 ≠ 1) (k : Gx Γ M (pc + 2) (a0::a1::a2::a3::a4::a5::a6::(2, x)::r) st v h t bc bs Q) : Gx Γ M pc (a0::a1::a2::a3::a4::a5::a6::b::r) ((2, x) :: st) v h t bc bs Q := by
  refine Gx_astore (i := 7) d ?_ ?_ hn k
  · exact (by
    intro j a hj ha
    match j, hj with
    | 0, hj => exact Or.inr ⟨by omega, hj, fun hq => by omega⟩
    | 1, hj => exact Or.inr ⟨by omega, hj, fun hq => by omega⟩
    | 2, hj => exact Or.inr ⟨by omega, hj, fun hq => by omega⟩
    | 3, hj => exact Or.inr ⟨by omega, hj, fun hq => by omega⟩
    | 4, hj => exact Or.inr ⟨by omega, hj, fun hq => by omega⟩
    | 5, hj => exact Or.inr ⟨by omega, hj, fun hq => by omega⟩
    | 6, hj => exact Or.inr ⟨by omega, hj, fun _ => by simp at hj; rw [← hj]; exact hp⟩
    | 7, hj => exact Or.inl ⟨rfl, by simp at hj; exact hj.symm⟩
    | j + 8, hj => exact Or.inr ⟨by omega, by simpa using hj, fun hq => by omega⟩)
  · exact (fun ⟨q0, q1, q2, q3, q4, q5, q6, _, qr⟩ hx => ⟨q0, q1, q2, q3, q4, q5, q6, hx, qr⟩)
theorem Gx_astore_8 {a0 a1 a2 a3 a4 a5 a6 a7 : gV} {b : gV} {r : List gV} {x : Int} (d : decode M.2.1 pc = .ok (.astore 8, 2)) (hn : 8 < M.2.2.1) (hp : a7.1 ≠ 1) (k : Gx Γ M (pc + 2) (a0::a1::a2::a3::a4::a5::a6::a7::(2, x)::r) st v h t bc bs Q) : Gx Γ M pc (a0::a1::a2::a3::a4::a5::a6::a7::b::r) ((2, x) :: st) v h t bc bs Q := by
  refine Gx_astore (i := 8) d ?_ ?_ hn k
  · exact (by
    intro j a hj ha
    match j, hj with
    | 0, hj => exact Or.inr ⟨by omega, hj, fun hq => by omega⟩
    | 1, hj => exact Or.inr ⟨by omega, hj, fun hq => by omega⟩
    | 2, hj => exact Or.inr ⟨by omega, hj, fun hq => by omega⟩
    | 3, hj => exact Or.inr ⟨by omega, hj, fun hq => by omega⟩
    | 4, hj => exact Or.inr ⟨by omega, hj, fun hq => by omega⟩
    | 5, hj => exact Or.inr ⟨by omega, hj, fun hq => by omega⟩
    | 6, hj => exact Or.inr ⟨by omega, hj, fun hq => by omega⟩
    | 7, hj => exact Or.inr ⟨by omega, hj, fun _ => by simp at hj; rw [← hj]; exact hp⟩
    | 8, hj => exact Or.inl ⟨rfl, by simp at hj; exact hj.symm⟩
    | j + 9, hj => exact Or.inr ⟨by omega, by simpa using hj, fun hq => by omega⟩)
  · exact (fun ⟨q0, q1, q2, q3, q4, q5, q6, q7, _, qr⟩ hx => ⟨q0, q1, q2, q3, q4, q5, q6, q7, hx, qr⟩)
theorem Gx_astore_9 {a0 a1 a2 a3 a4 a5 a6 a7 a8 : gV} {b : gV} {r : List gV} {x : Int} (d : decode M.2.1 pc = .ok (.astore 9, 2)) (hn : 9 < M.2.2.1) (hp : a8.1 ≠ 1) (k : Gx Γ M (pc + 2) (a0::a1::a2::a3::a4::a5::a6::a7::a8::(2, x)::r) st v h t bc bs Q) : Gx Γ M pc (a0::a1::a2::a3::a4::a5::a6::a7::a8::b::r) ((2, x) :: st) v h t bc bs Q := by
  refine Gx_astore (i := 9) d ?_ ?_ hn k
  · exact (by
    intro j a hj ha
    match j, hj with
    | 0, hj => exact Or.inr ⟨by omega, hj, fun hq => by omega⟩
    | 1, hj => exact Or.inr ⟨by omega, hj, fun hq => by omega⟩
    | 2, hj => exact Or.inr ⟨by omega, hj, fun hq => by omega⟩
    | 3, hj => exact Or.inr ⟨by omega, hj, fun hq => by omega⟩
    | 4, hj => exact Or.inr ⟨by omega, hj, fun hq => by omega⟩
    | 5, hj => exact Or.inr ⟨by omega, hj, fun hq => by omega⟩
    | 6, hj => exact Or.inr ⟨by omega, hj, fun hq => by omega⟩
    | 7, hj => exact Or.inr ⟨by omega, hj, fun hq => by omega⟩
    | 8, hj => exact Or.inr ⟨by omega, hj, fun _ => by simp at hj; rw [← hj]; exact hp⟩
    | 9, hj => exact Or.inl ⟨rfl, by simp at hj; exact hj.symm⟩
    | j + 10, hj => exact Or.inr ⟨by omega, by simpa using hj, fun hq => by omega⟩)
  · exact (fun ⟨q0, q1, q2, q3, q4, q5, q6, q7, q8, _, qr⟩ hx => ⟨q0, q1, q2, q3, q4, q5, q6, q7, q8, hx, qr⟩)
theorem Gx_astore_10 {a0 a1 a2 a3 a4 a5 a6 a7 a8 a9 : gV} {b : gV} {r : List gV} {x : Int} (d : decode M.2.1 pc = .ok (.astore 10, 2)) (hn : 10 < M.2.2.1) (hp : a9.1 ≠ 1) (k : Gx Γ M (pc + 2) (a0::a1::a2::a3::a4::a5::a6::a7::a8::a9::(2, x)::r) st v h t bc bs Q) : Gx Γ M pc (a0::a1::a2::a3::a4::a5::a6::a7::a8::a9::b::r) ((2, x) :: st) v h t bc bs Q := by
  refine Gx_astore (i := 10) d ?_ ?_ hn k
  · exact (by
    intro j a hj ha
    match j, hj with
    | 0, hj => exact Or.inr ⟨by omega, hj, fun hq => by omega⟩
    | 1, hj => exact Or.inr ⟨by omega, hj, fun hq => by omega⟩
    | 2, hj => exact Or.inr ⟨by omega, hj, fun hq => by omega⟩
    | 3, hj => exact Or.inr ⟨by omega, hj, fun hq => by omega⟩
    | 4, hj => exact Or.inr ⟨by omega, hj, fun hq => by omega⟩
    | 5, hj => exact Or.inr ⟨by omega, hj, fun hq => by omega⟩
    | 6, hj => exact Or.inr ⟨by omega, hj, fun hq => by omega⟩
    | 7, hj => exact Or.inr ⟨by omega, hj, fun hq => by omega⟩
    | 8, hj => exact Or.inr ⟨by omega, hj, fun hq => by omega⟩
    | 9, hj => exact Or.inr ⟨by omega, hj, fun _ => by simp at hj; rw [← hj]; exact hp⟩
    | 10, hj => exact Or.inl ⟨rfl, by simp at hj; exact hj.symm⟩
    | j + 11, hj => exact Or.inr ⟨by omega, by simpa using hj, fun hq => by omega⟩)
  · exact (fun ⟨q0, q1, q2, q3, q4, q5, q6, q7, q8, q9, _, qr⟩ hx => ⟨q0, q1, q2, q3, q4, q5, q6, q7, q8, q9, hx, qr⟩)
theorem Gx_astore_11 {a0 a1 a2 a3 a4 a5 a6 a7 a8 a9 a10 : gV} {b : gV} {r : List gV} {x : Int} (d : decode M.2.1 pc = .ok (.astore 11, 2)) (hn : 11 < M.2.2.1) (hp : a10.1 ≠ 1) (k : Gx Γ M (pc + 2) (a0::a1::a2::a3::a4::a5::a6::a7::a8::a9::a10::(2, x)::r) st v h t bc bs Q) : Gx Γ M pc (a0::a1::a2::a3::a4::a5::a6::a7::a8::a9::a10::b::r) ((2, x) :: st) v h t bc bs Q := by
  refine Gx_astore (i := 11) d ?_ ?_ hn k
  · exact (by
    intro j a hj ha
    match j, hj with
    | 0, hj => exact Or.inr ⟨by omega, hj, fun hq => by omega⟩
    | 1, hj => exact Or.inr ⟨by omega, hj, fun hq => by omega⟩
    | 2, hj => exact Or.inr ⟨by omega, hj, fun hq => by omega⟩
    | 3, hj => exact Or.inr ⟨by omega, hj, fun hq => by omega⟩
    | 4, hj => exact Or.inr ⟨by omega, hj, fun hq => by omega⟩
    | 5, hj => exact Or.inr ⟨by omega, hj, fun hq => by omega⟩
    | 6, hj => exact Or.inr ⟨by omega, hj, fun hq => by omega⟩
    | 7, hj => exact Or.inr ⟨by omega, hj, fun hq => by omega⟩
    | 8, hj => exact Or.inr ⟨by omega, hj, fun hq => by omega⟩
    | 9, hj => exact Or.inr ⟨by omega, hj, fun hq => by omega⟩
    | 10, hj => exact Or.inr ⟨by omega, hj, fun _ => by simp at hj; rw [← hj]; exact hp⟩
    | 11, hj => exact Or.inl ⟨rfl, by simp at hj; exact hj.symm⟩
    | j + 12, hj => exact Or.inr ⟨by omega, by simpa using hj, fun hq => by omega⟩)
  · exact (fun ⟨q0, q1, q2, q3, q4, q5, q6, q7, q8, q9, q10, _, qr⟩ hx => ⟨q0, q1, q2, q3, q4, q5, q6, q7, q8, q9, q10, hx, qr⟩)
theorem Gx_astore_12 {a0 a1 a2 a3 a4 a5 a6 a7 a8 a9 a10 a11 : gV} {b : gV} {r : List gV} {x : Int} (d : decode M.2.1 pc = .ok (.astore 12, 2)) (hn : 12 < M.2.2.1) (hp : a11.1 ≠ 1) (k : Gx Γ M (pc + 2) (a0::a1::a2::a3::a4::a5::a6::a7::a8::a9::a10::a11::(2, x)::r) st v h t bc bs Q) : Gx Γ M pc (a0::a1::a2::a3::a4::a5::a6::a7::a8::a9::a10::a11::b::r) ((2, x) :: st) v h t bc bs Q := by
  refine Gx_astore (i := 12) d ?_ ?_ hn k
  · exact (by
    intro j a hj ha
    match j, hj with
    | 0, hj => exact Or.inr ⟨by omega, hj, fun hq => by omega⟩
    | 1, hj => exact Or.inr ⟨by omega, hj, fun hq => by omega⟩
    | 2, hj => exact Or.inr ⟨by omega, hj, fun hq => by omega⟩
    | 3, hj => exact Or.inr ⟨by omega, hj, fun hq => by omega⟩
    | 4, hj => exact Or.inr ⟨by omega, hj, fun hq => by omega⟩
    | 5, hj => exact Or.inr ⟨by omega, hj, fun hq => by omega⟩
    | 6, hj => exact Or.inr ⟨by omega, hj, fun hq => by omega⟩
    | 7, hj => exact Or.inr ⟨by omega, hj, fun hq => by omega⟩
    | 8, hj => exact Or.inr ⟨by omega, hj, fun hq => by omega⟩
    | 9, hj => exact Or.inr ⟨by omega, hj, fun hq => by omega⟩
    | 10, hj => exact Or.inr ⟨by omega, hj, fun hq => by omega⟩
    | 11, hj => exact Or.inr ⟨by omega, hj, fun _ => by simp at hj; rw [← hj]; exact hp⟩
    | 12, hj => exact Or.inl ⟨rfl, by simp at hj; exact hj.symm⟩
    | j + 13, hj => exact Or.inr ⟨by omega, by simpa using hj, fun hq => by omega⟩)
  · exact (fun ⟨q0, q1, q2, q3, q4, q5, q6, q7, q8, q9, q10, q11, _, qr⟩ hx => ⟨q0, q1, q2, q3, q4, q5, q6, q7, q8, q9, q10, q11, hx, qr⟩)
theorem Gx_astore_13 {a0 a1 a2 a3 a4 a5 a6 a7 a8 a9 a10 a11 a12 : gV} {b : gV} {r : List gV} {x : Int} (d : decode M.2.1 pc = .ok (.astore 13, 2)) (hn : 13 < M.2.2.1) (hp : a12.1 ≠ 1) (k : Gx Γ M (pc + 2) (a0::a1::a2::a3::a4::a5::a6::a7::a8::a9::a10::a11::a12::(2, x)::r) st v h t bc bs Q) : Gx Γ M pc (a0::a1::a2::a3::a4::a5::a6::a7::a8::a9::a10::a11::a12::b::r) ((2, x) :: st) v h t bc bs Q := by
  refine Gx_astore (i := 13) d ?_ ?_ hn k
  · exact (by
    intro j a hj ha
    match j, hj with
    | 0, hj => exact Or.inr ⟨by omega, hj, fun hq => by omega⟩
    | 1, hj => exact Or.inr ⟨by omega, hj, fun hq => by omega⟩
    | 2, hj => exact Or.inr ⟨by omega, hj, fun hq => by omega⟩
    | 3, hj => exact Or.inr ⟨by omega, hj, fun hq => by omega⟩
    | 4, hj => exact Or.inr ⟨by omega, hj, fun hq => by omega⟩
    | 5, hj => exact Or.inr ⟨by omega, hj, fun hq => by omega⟩
    | 6, hj => exact Or.inr ⟨by omega, hj, fun hq => by omega⟩
    | 7, hj => exact Or.inr ⟨by omega, hj, fun hq => by omega⟩
    | 8, hj => exact Or.inr ⟨by omega, hj, fun hq => by omega⟩
    | 9, hj => exact Or.inr ⟨by omega, hj, fun hq => by omega⟩
    | 10, hj => exact Or.inr ⟨by omega, hj, fun hq => by omega⟩
    | 11, hj => exact Or.inr ⟨by omega, hj, fun hq => by omega⟩
    | 12, hj => exact Or.inr ⟨by omega, hj, fun _ => by simp at hj; rw [← hj]; exact hp⟩
    | 13, hj => exact Or.inl ⟨rfl, by simp at hj; exact hj.symm⟩
    | j + 14, hj => exact Or.inr ⟨by omega, by simpa using hj, fun hq => by omega⟩)
  · exact (fun ⟨q0, q1, q2, q3, q4, q5, q6, q7, q8, q9, q10, q11, q12, _, qr⟩ hx => ⟨q0, q1, q2, q3, q4, q5, q6, q7, q8, q9, q10, q11, q12, hx, qr⟩)
theorem Gx_astore_14 {a0 a1 a2 a3 a4 a5 a6 a7 a8 a9 a10 a11 a12 a13 : gV} {b : gV} {r : List gV} {x : Int} (d : decode M.2.1 pc = .ok (.astore 14, 2)) (hn : 14 < M.2.2.1) (hp : a13.1 ≠ 1) (k : Gx Γ M (pc + 2) (a0::a1::a2::a3::a4::a5::a6::a7::a8::a9::a10::a11::a12::a13::(2, x)::r) st v h t bc bs Q) : Gx Γ M pc (a0::a1::a2::a3::a4::a5::a6::a7::a8::a9::a10::a11::a12::a13::b::r) ((2, x) :: st) v h t bc bs Q := by
  refine Gx_astore (i := 14) d ?_ ?_ hn k
  · exact (by
    intro j a hj ha
    match j, hj with
    | 0, hj => exact Or.inr ⟨by omega, hj, fun hq => by omega⟩
    | 1, hj => exact Or.inr ⟨by omega, hj, fun hq => by omega⟩
    | 2, hj => exact Or.inr ⟨by omega, hj, fun hq => by omega⟩
    | 3, hj => exact Or.inr ⟨by omega, hj, fun hq => by omega⟩
    | 4, hj => exact Or.inr ⟨by omega, hj, fun hq => by omega⟩
    | 5, hj => exact Or.inr ⟨by omega, hj, fun hq => by omega⟩
    | 6, hj => exact Or.inr ⟨by omega, hj, fun hq => by omega⟩
    | 7, hj => exact Or.inr ⟨by omega, hj, fun hq => by omega⟩
    | 8, hj => exact Or.inr ⟨by omega, hj, fun hq => by omega⟩
    | 9, hj => exact Or.inr ⟨by omega, hj, fun hq => by omega⟩
    | 10, hj => exact Or.inr ⟨by omega, hj, fun hq => by omega⟩
    | 11, hj => exact Or.inr ⟨by omega, hj, fun hq => by omega⟩
    | 12, hj => exact Or.inr ⟨by omega, hj, fun hq => by omega⟩
    | 13, hj => exact Or.inr ⟨by omega, hj, fun _ => by simp at hj; rw [← hj]; exact hp⟩
    | 14, hj => exact Or.inl ⟨rfl, by simp at hj; exact hj.symm⟩
    | j + 15, hj => exact Or.inr ⟨by omega, by simpa using hj, fun hq => by omega⟩)
  · exact (fun ⟨q0, q1, q2, q3, q4, q5, q6, q7, q8, q9, q10, q11, q12, q13, _, qr⟩ hx => ⟨q0, q1, q2, q3, q4, q5, q6, q7, q8, q9, q10, q11, q12, q13, hx, qr⟩)
theorem Gx_astore_15 {a0 a1 a2 a3 a4 a5 a6 a7 a8 a9 a10 a11 a12 a13 a14 : gV} {b : gV} {r : List gV} {x : Int} (d : decode M.2.1 pc = .ok (.astore 15, 2)) (hn : 15 < M.2.2.1) (hp : a14.1 ≠ 1) (k : Gx Γ M (pc + 2) (a0::a1::a2::a3::a4::a5::a6::a7::a8::a9::a10::a11::a12::a13::a14::(2, x)::r) st v h t bc bs Q) : Gx Γ M pc (a0::a1::a2::a3::a4::a5::a6::a7::a8::a9::a10::a11::a12::a13::a14::b::r) ((2, x) :: st) v h t bc bs Q := by
  refine Gx_astore (i := 15) d ?_ ?_ hn k
  · exact (by
    intro j a hj ha
    match j, hj with
    | 0, hj => exact Or.inr ⟨by omega, hj, fun hq => by omega⟩
    | 1, hj => exact Or.inr ⟨by omega, hj, fun hq => by omega⟩
    | 2, hj => exact Or.inr ⟨by omega, hj, fun hq => by omega⟩
    | 3, hj => exact Or.inr ⟨by omega, hj, fun hq => by omega⟩
    | 4, hj => exact Or.inr ⟨by omega, hj, fun hq => by omega⟩
    | 5, hj => exact Or.inr ⟨by omega, hj, fun hq => by omega⟩
    | 6, hj => exact Or.inr ⟨by omega, hj, fun hq => by omega⟩
    | 7, hj => exact Or.inr ⟨by omega, hj, fun hq => by omega⟩
    | 8, hj => exact Or.inr ⟨by omega, hj, fun hq => by omega⟩
    | 9, hj => exact Or.inr ⟨by omega, hj, fun hq => by omega⟩
    | 10, hj => exact Or.inr ⟨by omega, hj, fun hq => by omega⟩
    | 11, hj => exact Or.inr ⟨by omega, hj, fun hq => by omega⟩
    | 12, hj => exact Or.inr ⟨by omega, hj, fun hq => by omega⟩
    | 13, hj => exact Or.inr ⟨by omega, hj, fun hq => by omega⟩
    | 14, hj => exact Or.inr ⟨by omega, hj, fun _ => by simp at hj; rw [← hj]; exact hp⟩
    | 15, hj => exact Or.inl ⟨rfl, by simp at hj; exact hj.symm⟩
    | j + 16, hj => exact Or.inr ⟨by omega, by simpa using hj, fun hq => by omega⟩)
  · exact (fun ⟨q0, q1, q2, q3, q4, q5, q6, q7, q8, q9, q10, q11, q12, q13, q14, _, qr⟩ hx => ⟨q0, q1, q2, q3, q4, q5, q6, q7, q8, q9, q10, q11, q12, q13, q14, hx, qr⟩)
theorem Gx_iinc_0 {r : List gV} {n x : Int} (d : decode M.2.1 pc = .ok (.iinc 0 n, 3)) (hn : 0 < M.2.2.1) (k : Gx Γ M (pc + 3) ((0, w32 (x + n))::r) st v h t bc bs Q) : Gx Γ M pc ((0, x)::r) st v h t bc bs Q := by
  refine Gx_iinc0 (i := 0) d rfl ?_ ?_ hn k
  · exact (by
    intro j a hj ha
    match j, hj with
    | 0, hj => exact Or.inl ⟨rfl, by simp at hj; exact hj.symm⟩
    | j + 1, hj => exact Or.inr ⟨by omega, by simpa using hj, fun hq => by omega⟩)
  · exact (fun ⟨_, qr⟩ hx => ⟨hx, qr⟩)
theorem Gx_iinc_1 {a0 : gV} {r : List gV} {n x : Int} (d : decode M.2.1 pc = .ok (.iinc 1 n, 3)) (hn : 1 < M.2.2.1) (hp : a0.1 ≠ 1) (k : Gx Γ M (pc + 3) (a0::(0, w32 (x + n))::r) st v h t bc bs Q) : Gx Γ M pc (a0::(0, x)::r) st v h t bc bs Q := by
  refine Gx_iinc0 (i := 1) d rfl ?_ ?_ hn k
  · exact (by
    intro j a hj ha
    match j, hj with
    | 0, hj => exact Or.inr ⟨by omega, hj, fun _ => by simp at hj; rw [← hj]; exact hp⟩
    | 1, hj => exact Or.inl ⟨rfl, by simp at hj; exact hj.symm⟩
    | j + 2, hj => exact Or.inr ⟨by omega, by simpa using hj, fun hq => by omega⟩)
  · exact (fun ⟨q0, _, qr⟩ hx => ⟨q0, hx, qr⟩)
theorem Gx_iinc_2 {a0 a1 : gV} {r : List gV} {n x : Int} (d : decode M.2.1 pc = .ok (.iinc 2 n, 3)) (hn : 2 < M.2.2.1) (hp : a1.1 ≠ 1) (k : Gx Γ M (pc + 3) (a0::a1::(0, w32 (x + n))::r) st v h t bc bs Q) : Gx Γ M pc (a0::a1::(0, x)::r) st v h t bc bs Q := by
  refine Gx_iinc0 (i := 2) d rfl ?_ ?_ hn k
  · exact (by
    intro j a hj ha
    match j, hj with
    | 0, hj => exact Or.inr ⟨by omega, hj, fun hq => by omega⟩
    | 1, hj => exact Or.inr ⟨by omega, hj, fun _ => by simp at hj; rw [← hj]; exact hp⟩
    | 2, hj => exact Or.inl ⟨rfl, by simp at hj; exact hj.symm⟩
    | j + 3, hj => exact Or.inr ⟨by omega, by simpa using hj, fun hq => by omega⟩)
  · exact (fun ⟨q0, q1, _, qr⟩ hx => ⟨q0, q1, hx, qr⟩)
theorem Gx_iinc_3 {a0 a1 a2 : gV} {r : List gV} {n x : Int} (d : decode M.2.1 pc = .ok (.iinc 3 n, 3)) (hn : 3 < M.2.2.1) (hp : a2.1 ≠ 1) (k : Gx Γ M (pc + 3) (a0::a1::a2::(0, w32 (x + n))::r) st v h t bc bs Q) : Gx Γ M pc (a0::a1::a2::(0, x)::r) st v h t bc bs Q := by
  refine Gx_iinc0 (i := 3) d rfl ?_ ?_ hn k
  · exact (by
    intro j a hj ha
    match j, hj with
    | 0, hj => exact Or.inr ⟨by omega, hj, fun hq => by omega⟩
    | 1, hj => exact Or.inr ⟨by omega, hj, fun hq => by omega⟩
    | 2, hj => exact Or.inr ⟨by omega, hj, fun _ => by simp at hj; rw [← hj]; exact hp⟩
    | 3, hj => exact Or.inl ⟨rfl, by simp at hj; exact hj.symm⟩
    | j + 4, hj => exact Or.inr ⟨by omega, by simpa using hj, fun hq => by omega⟩)
  · exact (fun ⟨q0, q1, q2, _, qr⟩ hx => ⟨q0, q1, q2, hx, qr⟩)
theorem Gx_iinc_4 {a0 a1 a2 a3 : gV} {r : List gV} {n x : Int} (d : decode M.2.1 pc = .ok (.iinc 4 n, 3)) (hn : 4 < M.2.2.1) (hp : a3.1 ≠ 1) (k : Gx Γ M (pc + 3) (a0::a1::a2::a3::(0, w32 (x + n))::r) st v h t bc bs Q) : Gx Γ M pc (a0::a1::a2::a3::(0, x)::r) st v h t bc bs Q := by
  refine Gx_iinc0 (i := 4) d rfl ?_ ?_ hn k
  · exact (by
    intro j a hj ha
    match j, hj with
    | 0, hj => exact Or.inr ⟨by omega, hj, fun hq => by omega⟩
    | 1, hj => exact Or.inr ⟨by omega, hj, fun hq => by omega⟩
    | 2, hj => exact Or.inr ⟨by omega, hj, fun hq => by omega⟩
    | 3, hj => exact Or.inr ⟨by omega, hj, fun _ => by simp at hj; rw [← hj]; exact hp⟩
    | 4, hj => exact Or.inl ⟨rfl, by simp at hj; exact hj.symm⟩
    | j + 5, hj => exact Or.inr ⟨by omega, by simpa using hj, fun hq => by omega⟩)
  · exact (fun ⟨q0, q1, q2, q3, _, qr⟩ hx => ⟨q0, q1, q2, q3, hx, qr⟩)
theorem Gx_iinc_5 {a0 a1 a2 a3 a4 : gV} {r : List gV} {n x : Int} (d : decode M.2.1 pc = .ok (.iinc 5 n, 3)) (hn : 5 < M.2.2.1) (hp : a4.1 ≠ 1) (k : Gx Γ M (pc + 3) (a0::a1::a2::a3::a4::(0, w32 (x + n))::r) st v h t bc bs Q) : Gx Γ M pc (a0::a1::a2::a3::a4::(0, x)::r) st v h t bc bs Q := by
  refine Gx_iinc0 (i := 5) d rfl ?_ ?_ hn k
  · exact (by
    intro j a hj ha
    match j, hj with
    | 0, hj => exact Or.inr ⟨by omega, hj, fun hq => by omega⟩
    | 1, hj => exact Or.inr ⟨by omega, hj, fun hq => by omega⟩
    | 2, hj => exact Or.inr ⟨by omega, hj, fun hq => by omega⟩
    | 3, hj => exact Or.inr ⟨by omega, hj, fun hq => by omega⟩
    | 4, hj => exact Or.inr ⟨by omega, hj, fun _ => by simp at hj; rw [← hj]; exact hp⟩
    | 5, hj => exact Or.inl ⟨rfl, by simp at hj; exact hj.symm⟩
    | j + 6, hj => exact Or.inr ⟨by omega, by simpa using hj, fun hq => by omega⟩)
  · exact (fun ⟨q0, q1, q2, q3, q4, _, qr⟩ hx => ⟨q0, q1, q2, q3, q4, hx, qr⟩)
theorem Gx_iinc_6 {a0 a1 a2 a3 a4 a5 : gV} {r : List gV} {n x : Int} (d : decode M.2.1 pc = .ok (.iinc 6 n, 3)) (hn : 6 < M.2.2.1) (hp : a5.1 ≠ 1) (k : Gx Γ M (pc + 3) (a0::a1::a2::a3::a4::a5::(0, w32 (x + n))::r) st v h t bc bs Q) : Gx Γ M pc (a0::a1::a2::a3::a4::a5::(0, x)::r) st v h t bc bs Q := by
  refine Gx_iinc0 (i := 6) d rfl ?_ ?_ hn k
  · exact (by
    intro j a hj ha
    match j, hj with
    | 0, hj => exact Or.inr ⟨by omega, hj, fun hq => by omega⟩
    | 1, hj => exact Or.inr ⟨by omega, hj, fun hq => by omega⟩
    | 2, hj => exact Or.inr ⟨by omega, hj, fun hq => by omega⟩
    | 3, hj => exact Or.inr ⟨by omega, hj, fun hq => by omega⟩
    | 4, hj => exact Or.inr ⟨by omega, hj, fun hq => by omega⟩
    | 5, hj => exact Or.inr ⟨by omega, hj, fun _ => by simp at hj; rw [← hj]; exact hp⟩
    | 6, hj => exact Or.inl ⟨rfl, by simp at hj; exact hj.symm⟩
    | j + 7, hj => exact Or.inr ⟨by omega, by simpa using hj, fun hq => by omega⟩)
  · exact (fun ⟨q0, q1, q2, q3, q4, q5, _, qr⟩ hx => ⟨q0, q1, q2, q3, q4, q5, hx, qr⟩)
theorem Gx_iinc_7 {a0 a1 a2 a3 a4 a5 a6 : gV} {r : List gV} {n x : Int} (d : decode M.2.1 pc = .ok (.iinc 7 n, 3)) (hn : 7 < M.2.2.1) (hp : a6.1 ≠ 1) (k : Gx Γ M (pc + 3) (a0::a1::a2::a3::a4::a5::a6::(0, w32 (x + n))::r) st v h t bc bs Q) : Gx Γ M pc (a0::a1::a2::a3::a4::a5::a6::(0, x)::r) st v h t bc bs Q := by
  refine Gx_iinc0 (i := 7) d rfl ?_ ?_ hn k
  · exact (by
    intro j a hj ha
    match j, hj with
    | 0, hj => exact Or.inr ⟨by omega, hj, fun hq => by omega⟩
    | 1, hj => exact Or.inr ⟨by omega, hj, fun hq => by omega⟩
    | 2, hj => exact Or.inr ⟨by omega, hj, fun hq => by omega⟩
    | 3, hj => exact Or.inr ⟨by omega, hj, fun hq => by omega⟩
    | 4, hj => exact Or.inr ⟨by omega, hj, fun hq => by omega⟩
    | 5, hj => exact Or.inr ⟨by omega, hj, fun hq => by omega⟩
    | 6, hj => exact Or.inr ⟨by omega, hj, fun _ => by simp at hj; rw [← hj]; exact hp⟩
    | 7, hj => exact Or.inl ⟨rfl, by simp at hj; exact hj.symm⟩
    | j + 8, hj => exact Or.inr ⟨by omega, by simpa using hj, fun hq => by omega⟩)
  · exact (fun ⟨q0, q1, q2, q3, q4, q5, q6, _, qr⟩ hx => ⟨q0, q1, q2, q3, q4, q5, q6, hx, qr⟩)
theorem Gx_iinc_8 {a0 a1 a2 a3 a4 a5 a6 a7 : gV} {r : List gV} {n x : Int} (d : decode M.2.1 pc = .ok (.iinc 8 n, 3)) (hn : 8 < M.2.2.1) (hp : a7.1 ≠ 1) (k : Gx Γ M (pc + 3) (a0::a1::a2::a3::a4::a5::a6::a7::(0, w32 (x + n))::r) st v h t bc bs Q) : Gx Γ M pc (a0::a1::a2::a3::a4::a5::a6::a7::(0, x)::r) st v h t bc bs Q := by
  refine Gx_iinc0 (i := 8) d rfl ?_ ?_ hn k
  · exact (by
    intro j a hj ha
    match j, hj with
    | 0, hj => exact Or.inr ⟨by omega, hj, fun hq => by omega⟩
    | 1, hj => exact Or.inr ⟨by omega, hj, fun hq => by omega⟩
    | 2, hj => exact Or.inr ⟨by omega, hj, fun hq => by omega⟩
    | 3, hj => exact Or.inr ⟨by omega, hj, fun hq => by omega⟩
    | 4, hj => exact Or.inr ⟨by omega, hj, fun hq => by omega⟩
    | 5, hj => exact Or.inr ⟨by omega, hj, fun hq => by omega⟩
    | 6, hj => exact Or.inr ⟨by omega, hj, fun hq => by omega⟩
    | 7, hj => exact Or.inr ⟨by omega, hj, fun _ => by simp at hj; rw [← hj]; exact hp⟩
    | 8, hj => exact Or.inl ⟨rfl, by simp at hj; exact hj.symm⟩
    | j + 9, hj => exact Or.inr ⟨by omega, by simpa using hj, fun hq => by omega⟩)
  · exact (fun ⟨q0, q1, q2, q3, q4, q5, q6, q7, _, qr⟩ hx => ⟨q0, q1, q2, q3, q4, q5, q6, q7, hx, qr⟩)
theorem Gx_iinc_9 {a0 a1 a2 a3 a4 a5 a6 a7 a8 : gV} {r : List gV} {n x : Int} (d : decode M.2.1 pc = .ok (.iinc 9 n, 3)) (hn : 9 < M.2.2.1) (hp : a8.1 ≠ 1) (k : Gx Γ M (pc + 3) (a0::a1::a2::a3::a4::a5::a6::a7::a8::(0, w32 (x + n))::r) st v h t bc bs Q) : Gx Γ M pc (a0::a1::a2::a3::a4::a5::a6::a7::a8::(0, x)::r) st v h t bc bs Q := by
  refine Gx_iinc0 (i := 9) d rfl ?_ ?_ hn k
  · exact (by
    intro j a hj ha
    match j, hj with
    | 0, hj => exact Or.inr ⟨by omega, hj, fun hq => by omega⟩
    | 1, hj => exact Or.inr ⟨by omega, hj, fun hq => by omega⟩
    | 2, hj => exact Or.inr ⟨by omega, hj, fun hq => by omega⟩
    | 3, hj => exact Or.inr ⟨by omega, hj, fun hq => by omega⟩
    | 4, hj => exact Or.inr ⟨by omega, hj, fun hq => by omega⟩
    | 5, hj => exact Or.inr ⟨by omega, hj, fun hq => by omega⟩
    | 6, hj => exact Or.inr ⟨by omega, hj, fun hq => by omega⟩
    | 7, hj => exact Or.inr ⟨by omega, hj, fun hq => by omega⟩
    | 8, hj => exact Or.inr ⟨by omega, hj, fun _ => by simp at hj; rw [← hj]; exact hp⟩
    | 9, hj => exact Or.inl ⟨rfl, by simp at hj; exact hj.symm⟩
    | j + 10, hj => exact Or.inr ⟨by omega, by simpa using hj, fun hq => by omega⟩)
  · exact (fun ⟨q0, q1, q2, q3, q4, q5, q6, q7, q8, _, qr⟩ hx => ⟨q0, q1, q2, q3, q4, q5, q6, q7, q8, hx, qr⟩)
theorem Gx_iinc_10 {a0 a1 a2 a3 a4 a5 a6 a7 a8 a9 : gV} {r : List gV} {n x : Int} (d : decode M.2.1 pc = .ok (.iinc 10 n, 3)) (hn : 10 < M.2.2.1) (hp : a9.1 ≠ 1) (k : Gx Γ M (pc + 3) (a0::a1::a2::a3::a4::a5::a6::a7::a8::a9::(0, w32 (x + n))::r) st v h t bc bs Q) : Gx Γ M pc (a0::a1::a2::a3::a4::a5::a6::a7::a8::a9::(0, x)::r) st v h t bc bs Q := by
  refine Gx_iinc0 (i := 10) d rfl ?_ ?_ hn k
  · exact (by
    intro j a hj ha
    match j, hj with
    | 0, hj => exact Or.inr ⟨by omega, hj, fun hq => by omega⟩
    | 1, hj => exact Or.inr ⟨by omega, hj, fun hq => by omega⟩
    | 2, hj => exact Or.inr ⟨by omega, hj, fun hq => by omega⟩
    | 3, hj => exact Or.inr ⟨by omega, hj, fun hq => by omega⟩
    | 4, hj => exact Or.inr ⟨by omega, hj, fun hq => by omega⟩
    | 5, hj => exact Or.inr ⟨by omega, hj, fun hq => by omega⟩
    | 6, hj => exact Or.inr ⟨by omega, hj, fun hq => by omega⟩
    | 7, hj => exact Or.inr ⟨by omega, hj, fun hq => by omega⟩
    | 8, hj => exact Or.inr ⟨by omega, hj, fun hq => by omega⟩
    | 9, hj => exact Or.inr ⟨by omega, hj, fun _ => by simp at hj; rw [← hj]; exact hp⟩
    | 10, hj => exact Or.inl ⟨rfl, by simp at hj; exact hj.symm⟩
    | j + 11, hj => exact Or.inr ⟨by omega, by simpa using hj, fun hq => by omega⟩)
  · exact (fun ⟨q0, q1, q2, q3, q4, q5, q6, q7, q8, q9, _, qr⟩ hx => ⟨q0, q1, q2, q3, q4, q5, q6, q7, q8, q9, hx, qr⟩)
theorem Gx_iinc_11 {a0 a1 a2 a3 a4 a5 a6 a7 a8 a9 a10 : gV} {r : List gV} {n x : Int} (d : decode M.2.1 pc = .ok (.iinc 11 n, 3)) (hn : 11 < M.2.2.1) (hp : a10.1 ≠ 1) (k : Gx Γ M (pc + 3) (a0::a1::a2::a3::a4::a5::a6::a7::a8::a9::a10::(0, w32 (x + n))::r) st v h t bc bs Q) : Gx Γ M pc (a0::a1::a2::a3::a4::a5::a6::a7::a8::a9::a10::(0, x)::r) st v h t bc bs Q := by
  refine Gx_iinc0 (i := 11) d rfl ?_ ?_ hn k
  · exact (by
    intro j a hj ha
    match j, hj with
    | 0, hj => exact Or.inr ⟨by omega, hj, fun hq => by omega⟩
    | 1, hj => exact Or.inr ⟨by omega, hj, fun hq => by omega⟩
    | 2, hj => exact Or.inr ⟨by omega, hj, fun hq => by omega⟩
    | 3, hj => exact Or.inr ⟨by omega, hj, fun hq => by omega⟩
    | 4, hj => exact Or.inr ⟨by omega, hj, fun hq => by omega⟩
    | 5, hj => exact Or.inr ⟨by omega, hj, fun hq => by omega⟩
    | 6, hj => exact Or.inr ⟨by omega, hj, fun hq => by omega⟩
    | 7, hj => exact Or.inr ⟨by omega, hj, fun hq => by omega⟩
    | 8, hj => exact Or.inr ⟨by omega, hj, fun hq => by omega⟩
    | 9, hj => exact Or.inr ⟨by omega, hj, fun hq => by omega⟩
    | 10, hj => exact Or.inr ⟨by omega, hj, fun _ => by simp at hj; rw [← hj]; exact hp⟩
    | 11, hj => exact Or.inl ⟨rfl, by simp at hj; exact hj.symm⟩
    | j + 12, hj => exact Or.inr ⟨by omega, by simpa using hj, fun hq => by omega⟩)
  · exact (fun ⟨q0, q1, q2, q3, q4, q5, q6, q7, q8, q9, q10, _, qr⟩ hx => ⟨q0, q1, q2, q3, q4, q5, q6, q7, q8, q9, q10, hx, qr⟩)
theorem Gx_iinc_12 {a0 a1 a2 a3 a4 a5 a6 a7 a8 a9 a10 a11 : gV} {r : List gV} {n x : Int} (d : decode M.2.1 pc = .ok (.iinc 12 n, 3)) (hn : 12 < M.2.2.1) (hp : a11.1 ≠ 1) (k : Gx Γ M (pc + 3) (a0::a1::a2::a3::a4::a5::a6::a7::a8::a9::a10::a11::(0, w32 (x + n))::r) st v h t bc bs Q) : Gx Γ M pc (a0::a1::a2::a3::a4::a5::a6::a7::a8::a9::a10::a11::(0, x)::r) st v h t bc bs Q := by
  refine Gx_iinc0 (i := 12) d rfl ?_ ?_ hn k
  · exact (by
    intro j a hj ha
    match j, hj with
    | 0, hj => exact Or.inr ⟨by omega, hj, fun hq => by omega⟩
    | 1, hj => exact Or.inr ⟨by omega, hj, fun hq => by omega⟩
    | 2, hj => exact Or.inr ⟨by omega, hj, fun hq => by omega⟩
    | 3, hj => exact Or.inr ⟨by omega, hj, fun hq => by omega⟩
    | 4, hj => exact Or.inr ⟨by omega, hj, fun hq => by omega⟩
    | 5, hj => exact Or.inr ⟨by omega, hj, fun hq => by omega⟩
    | 6, hj => exact Or.inr ⟨by omega, hj, fun hq => by omega⟩
    | 7, hj => exact Or.inr ⟨by omega, hj, fun hq => by omega⟩
    | 8, hj => exact Or.inr ⟨by omega, hj, fun hq => by omega⟩
    | 9, hj => exact Or.inr ⟨by omega, hj, fun hq => by omega⟩
    | 10, hj => exact Or.inr ⟨by omega, hj, fun hq => by omega⟩
    | 11, hj => exact Or.inr ⟨by omega, hj, fun _ => by simp at hj; rw [← hj]; exact hp⟩
    | 12, hj => exact Or.inl ⟨rfl, by simp at hj; exact hj.symm⟩
    | j + 13, hj => exact Or.inr ⟨by omega, by simpa using hj, fun hq => by omega⟩)
  · exact (fun ⟨q0, q1, q2, q3, q4, q5, q6, q7, q8, q9, q10, q11, _, qr⟩ hx => ⟨q0, q1, q2, q3, q4, q5, q6, q7, q8, q9, q10, q11, hx, qr⟩)
theorem Gx_iinc_13 {a0 a1 a2 a3 a4 a5 a6 a7 a8 a9 a10 a11 a12 : gV} {r : List gV} {n x : Int} (d : decode M.2.1 pc = .ok (.iinc 13 n, 3)) (hn : 13 < M.2.2.1) (hp : a12.1 ≠ 1) (k : Gx Γ M (pc + 3) (a0::a1::a2::a3::a4::a5::a6::a7::a8::a9::a10::a11::a12::(0, w32 (x + n))::r) st v h t bc bs Q) : Gx Γ M pc (a0::a1::a2::a3::a4::a5::a6::a7::a8::a9::a10::a11::a12::(0, x)::r) st v h t bc bs Q := by
  refine Gx_iinc0 (i := 13) d rfl ?_ ?_ hn k
  · exact (by
    intro j a hj ha
    match j, hj with
    | 0, hj => exact Or.inr ⟨by omega, hj, fun hq => by omega⟩
    | 1, hj => exact Or.inr ⟨by omega, hj, fun hq => by omega⟩
    | 2, hj => exact Or.inr ⟨by omega, hj, fun hq => by omega⟩
    | 3, hj => exact Or.inr ⟨by omega, hj, fun hq => by omega⟩
    | 4, hj => exact Or.inr ⟨by omega, hj, fun hq => by omega⟩
    | 5, hj => exact Or.inr ⟨by omega, hj, fun hq => by omega⟩
    | 6, hj => exact Or.inr ⟨by omega, hj, fun hq => by omega⟩
    | 7, hj => exact Or.inr ⟨by omega, hj, fun hq => by omega⟩
    | 8, hj => exact Or.inr ⟨by omega, hj, fun hq => by omega⟩
    | 9, hj => exact Or.inr ⟨by omega, hj, fun hq => by omega⟩
    | 10, hj => exact Or.inr ⟨by omega, hj, fun hq => by omega⟩
    | 11, hj => exact Or.inr ⟨by omega, hj, fun hq => by omega⟩
    | 12, hj => exact Or.inr ⟨by omega, hj, fun _ => by simp at hj; rw [← hj]; exact hp⟩
    | 13, hj => exact Or.inl ⟨rfl, by simp at hj; exact hj.symm⟩
    | j + 14, hj => exact Or.inr ⟨by omega, by simpa using hj, fun hq => by omega⟩)
  · exact (fun ⟨q0, q1, q2, q3, q4, q5, q6, q7, q8, q9, q10, q11, q12, _, qr⟩ hx => ⟨q0, q1, q2, q3, q4, q5, q6, q7, q8, q9, q10, q11, q12, hx, qr⟩)
theorem Gx_iinc_14 {a0 a1 a2 a3 a4 a5 a6 a7 a8 a9 a10 a11 a12 a13 : gV} {r : List gV} {n x : Int} (d : decode M.2.1 pc = .ok (.iinc 14 n, 3)) (hn : 14 < M.2.2.1) (hp : a13.1 ≠ 1) (k : Gx Γ M (pc + 3) (a0::a1::a2::a3::a4::a5::a6::a7::a8::a9::a10::a11::a12::a13::(0, w32 (x + n))::r) st v h t bc bs Q) : Gx Γ M pc (a0::a1::a2::a3::a4::a5::a6::a7::a8::a9::a10::a11::a12::a13::(0, x)::r) st v h t bc bs Q := by
  refine Gx_iinc0 (i := 14) d rfl ?_ ?_ hn k
  · exact (by
    intro j a hj ha
    match j, hj with
    | 0, hj => exact Or.inr ⟨by omega, hj, fun hq => by omega⟩
    | 1, hj => exact Or.inr ⟨by omega, hj, fun hq => by omega⟩
    | 2, hj => exact Or.inr ⟨by omega, hj, fun hq => by omega⟩
    | 3, hj => exact Or.inr ⟨by omega, hj, fun hq => by omega⟩
    | 4, hj => exact Or.inr ⟨by omega, hj, fun hq => by omega⟩
    | 5, hj => exact Or.inr ⟨by omega, hj, fun hq => by omega⟩
    | 6, hj => exact Or.inr ⟨by omega, hj, fun hq => by omega⟩
    | 7, hj => exact Or.inr ⟨by omega, hj, fun hq => by omega⟩
    | 8, hj => exact Or.inr ⟨by omega, hj, fun hq => by omega⟩
    | 9, hj => exact Or.inr ⟨by omega, hj, fun hq => by omega⟩
    | 10, hj => exact Or.inr ⟨by omega, hj, fun hq => by omega⟩
    | 11, hj => exact Or.inr ⟨by omega, hj, fun hq => by omega⟩
    | 12, hj => exact Or.inr ⟨by omega, hj, fun hq => by omega⟩
    | 13, hj => exact Or.inr ⟨by omega, hj, fun _ => by simp at hj; rw [← hj]; exact hp⟩
    | 14, hj => exact Or.inl ⟨rfl, by simp at hj; exact hj.symm⟩
    | j + 15, hj => exact Or.inr ⟨by omega, by simpa using hj, fun hq => by omega⟩)
  · exact (fun ⟨q0, q1, q2, q3, q4, q5, q6, q7, q8, q9, q10, q11, q12, q13, _, qr⟩ hx => ⟨q0, q1, q2, q3, q4, q5, q6, q7, q8, q9, q10, q11, q12, q13, hx, qr⟩)
theorem Gx_iinc_15 {a0 a1 a2 a3 a4 a5 a6 a7 a8 a9 a10 a11 a12 a13 a14 : gV} {r : List gV} {n x : Int} (d : decode M.2.1 pc = .ok (.iinc 15 n, 3)) (hn : 15 < M.2.2.1) (hp : a14.1 ≠ 1) (k : Gx Γ M (pc + 3) (a0::a1::a2::a3::a4::a5::a6::a7::a8::a9::a10::a11::a12::a13::a14::(0, w32 (x + n))::r) st v h t bc bs Q) : Gx Γ M pc (a0::a1::a2::a3::a4::a5::a6::a7::a8::a9::a10::a11::a12::a13::a14::(0, x)::r) st v h t bc bs Q := by
  refine Gx_iinc0 (i := 15) d rfl ?_ ?_ hn k
  · exact (by
    intro j a hj ha
    match j, hj with
    | 0, hj => exact Or.inr ⟨by omega, hj, fun hq => by omega⟩
    | 1, hj => exact Or.inr ⟨by omega, hj, fun hq => by omega⟩
    | 2, hj => exact Or.inr ⟨by omega, hj, fun hq => by omega⟩
    | 3, hj => exact Or.inr ⟨by omega, hj, fun hq => by omega⟩
    | 4, hj => exact Or.inr ⟨by omega, hj, fun hq => by omega⟩
    | 5, hj => exact Or.inr ⟨by omega, hj, fun hq => by omega⟩
    | 6, hj => exact Or.inr ⟨by omega, hj, fun hq => by omega⟩
    | 7, hj => exact Or.inr ⟨by omega, hj, fun hq => by omega⟩
    | 8, hj => exact Or.inr ⟨by omega, hj, fun hq => by omega⟩
    | 9, hj => exact Or.inr ⟨by omega, hj, fun hq => by omega⟩
    | 10, hj => exact Or.inr ⟨by omega, hj, fun hq => by omega⟩
    | 11, hj => exact Or.inr ⟨by omega, hj, fun hq => by omega⟩
    | 12, hj => exact Or.inr ⟨by omega, hj, fun hq => by omega⟩
    | 13, hj => exact Or.inr ⟨by omega, hj, fun hq => by omega⟩
    | 14, hj => exact Or.inr ⟨by omega, hj, fun _ => by simp at hj; rw [← hj]; exact hp⟩
    | 15, hj => exact Or.inl ⟨rfl, by simp at hj; exact hj.symm⟩
    | j + 16, hj => exact Or.inr ⟨by omega, by simpa using hj, fun hq => by omega⟩)
  · exact (fun ⟨q0, q1, q2, q3, q4, q5, q6, q7, q8, q9, q10, q11, q12, q13, q14, _, qr⟩ hx => ⟨q0, q1, q2, q3, q4, q5, q6, q7, q8, q9, q10, q11, q12, q13, q14, hx, qr⟩)
theorem Gx_iinc_16 {a0 a1 a2 a3 a4 a5 a6 a7 a8 a9 a10 a11 a12 a13 a14 a15 : gV} {r : List gV} {n x : Int} (d : decode M.2.1 pc = .ok (.iinc 16 n, 3)) (hn : 16 < M.2.2.1) (hp : a15.1 ≠ 1) (k : Gx Γ M (pc + 3) (a0::a1::a2::a3::a4::a5::a6::a7::a8::a9::a10::a11::a12::a13::a14::a15::(0, w32 (x + n))::r) st v h t bc bs Q) : Gx Γ M pc (a0::a1::a2::a3::a4::a5::a6::a7::a8::a9::a10::a11::a12::a13::a14::a15::(0, x)::r) st v h t bc bs Q := by
  refine Gx_iinc0 (i := 16) d rfl ?_ ?_ hn k
  · exact (by
    intro j a hj ha
    match j, hj with
    | 0, hj => exact Or.inr ⟨by omega, hj, fun hq => by omega⟩
    | 1, hj => exact Or.inr ⟨by omega, hj, fun hq => by omega⟩
    | 2, hj => exact Or.inr ⟨by omega, hj, fun hq => by omega⟩
    | 3, hj => exact Or.inr ⟨by omega, hj, fun hq => by omega⟩
    | 4, hj => exact Or.inr ⟨by omega, hj, fun hq => by omega⟩
    | 5, hj => exact Or.inr ⟨by omega, hj, fun hq => by omega⟩
    | 6, hj => exact Or.inr ⟨by omega, hj, fun hq => by omega⟩
    | 7, hj => exact Or.inr ⟨by omega, hj, fun hq => by omega⟩
    | 8, hj => exact Or.inr ⟨by omega, hj, fun hq => by omega⟩
    | 9, hj => exact Or.inr ⟨by omega, hj, fun hq => by omega⟩
    | 10, hj => exact Or.inr ⟨by omega, hj, fun hq => by omega⟩
    | 11, hj => exact Or.inr ⟨by omega, hj, fun hq => by omega⟩
    | 12, hj => exact Or.inr ⟨by omega, hj, fun hq => by omega⟩
    | 13, hj => exact Or.inr ⟨by omega, hj, fun hq => by omega⟩
    | 14, hj => exact Or.inr ⟨by omega, hj, fun hq => by omega⟩
    | 15, hj => exact Or.inr ⟨by omega, hj, fun _ => by simp at hj; rw [← hj]; exact hp⟩
    | 16, hj => exact Or.inl ⟨rfl, by simp at hj; exact hj.symm⟩
    | j + 17, hj => exact Or.inr ⟨by omega, by simpa using hj, fun hq => by omega⟩)
  · exact (fun ⟨q0, q1, q2, q3, q4, q5, q6, q7, q8, q9, q10, q11, q12, q13, q14, q15, _, qr⟩ hx => ⟨q0, q1, q2, q3, q4, q5, q6, q7, q8, q9, q10, q11, q12, q13, q14, q15, hx, qr⟩)
theorem Gx_iinc_17 {a0 a1 a2 a3 a4 a5 a6 a7 a8 a9 a10 a11 a12 a13 a14 a15 a16 : gV} {r : List gV} {n x : Int} (d : decode M.2.1 pc = .ok (.iinc 17 n, 3)) (hn : 17 < M.2.2.1) (hp : a16.1 ≠ 1) (k : Gx Γ M (pc + 3) (a0::a1::a2::a3::a4::a5::a6::a7::a8::a9::a10::a11::a12::a13::a14::a15::a16::(0, w32 (x + n))::r) st v h t bc bs Q) : Gx Γ M pc (a0::a1::a2::a3::a4::a5::a6::a7::a8::a9::a10::a11::a12::a13::a14::a15::a16::(0, x)::r) st v h t bc bs Q := by
  refine Gx_iinc0 (i := 17) d rfl ?_ ?_ hn k
  · exact (by
    intro j a hj ha
    match j, hj with
    | 0, hj => exact Or.inr ⟨by omega, hj, fun hq => by omega⟩
    | 1, hj => exact Or.inr ⟨by omega, hj, fun hq => by omega⟩
    | 2, hj => exact Or.inr ⟨by omega, hj, fun hq => by omega⟩
    | 3, hj => exact Or.inr ⟨by omega, hj, fun hq => by omega⟩
    | 4, hj => exact Or.inr ⟨by omega, hj, fun hq => by omega⟩
    | 5, hj => exact Or.inr ⟨by omega, hj, fun hq => by omega⟩
    | 6, hj => exact Or.inr ⟨by omega, hj, fun hq => by omega⟩
    | 7, hj => exact Or.inr ⟨by omega, hj, fun hq => by omega⟩
    | 8, hj => exact Or.inr ⟨by omega, hj, fun hq => by omega⟩
    | 9, hj => exact Or.inr ⟨by omega, hj, fun hq => by omega⟩
    | 10, hj => exact Or.inr ⟨by omega, hj, fun hq => by omega⟩
    | 11, hj => exact Or.inr ⟨by omega, hj, fun hq => by omega⟩
    | 12, hj => exact Or.inr ⟨by omega, hj, fun hq => by omega⟩
    | 13, hj => exact Or.inr ⟨by omega, hj, fun hq => by omega⟩
    | 14, hj => exact Or.inr ⟨by omega, hj, fun hq => by omega⟩
    | 15, hj => exact Or.inr ⟨by omega, hj, fun hq => by omega⟩
    | 16, hj => exact Or.inr ⟨by omega, hj, fun _ => by simp at hj; rw [← hj]; exact hp⟩
    | 17, hj => exact Or.inl ⟨rfl, by simp at hj; exact hj.symm⟩
    | j + 18, hj => exact Or.inr ⟨by omega, by simpa using hj, fun hq => by omega⟩)
  · exact (fun ⟨q0, q1, q2, q3, q4, q5, q6, q7, q8, q9, q10, q11, q12, q13, q14, q15, q16, _, qr⟩ hx => ⟨q0, q1, q2, q3, q4, q5, q6, q7, q8, q9, q10, q11, q12, q13, q14, q15, q16, hx, qr⟩)
theorem Gx_iinc_18 {a0 a1 a2 a3 a4 a5 a6 a7 a8 a9 a10 a11 a12 a13 a14 a15 a16 a17 : gV} {r : List gV} {n x : Int} (d : decode M.2.1 pc = .ok (.iinc 18 n, 3)) (hn : 18 < M.2.2.1) (hp : a17.1 ≠ 1) (k : Gx Γ M (pc + 3) (a0::a1::a2::a3::a4::a5::a6::a7::a8::a9::a10::a11::a12::a13::a14::a15::a16::a17::(0, w32 (x + n))::r) st v h t bc bs Q) : Gx Γ M pc (a0::a1::a2::a3::a4::a5::a6::a7::a8::a9::a10::a11::a12::a13::a14::a15::a16::a17::(0, x)::r) st v h t bc bs Q := by
  refine Gx_iinc0 (i := 18) d rfl ?_ ?_ hn k
  · exact (by
    intro j a hj ha
    match j, hj with
    | 0, hj => exact Or.inr ⟨by omega, hj, fun hq => by omega⟩
    | 1, hj => exact Or.inr ⟨by omega, hj, fun hq => by omega⟩
    | 2, hj => exact Or.inr ⟨by omega, hj, fun hq => by omega⟩
    | 3, hj => exact Or.inr ⟨by omega, hj, fun hq => by omega⟩
    | 4, hj => exact Or.inr ⟨by omega, hj, fun hq => by omega⟩
    | 5, hj => exact Or.inr ⟨by omega, hj, fun hq => by omega⟩
    | 6, hj => exact Or.inr ⟨by omega, hj, fun hq => by omega⟩
    | 7, hj => exact Or.inr ⟨by omega, hj, fun hq => by omega⟩
    | 8, hj => exact Or.inr ⟨by omega, hj, fun hq => by omega⟩
    | 9, hj => exact Or.inr ⟨by omega, hj, fun hq => by omega⟩
    | 10, hj => exact Or.inr ⟨by omega, hj, fun hq => by omega⟩
    | 11, hj => exact Or.inr ⟨by omega, hj, fun hq => by omega⟩
    | 12, hj => exact Or.inr ⟨by omega, hj, fun hq => by omega⟩
    | 13, hj => exact Or.inr ⟨by omega, hj, fun hq => by omega⟩
    | 14, hj => exact Or.inr ⟨by omega, hj, fun hq => by omega⟩
    | 15, hj => exact Or.inr ⟨by omega, hj, fun hq => by omega⟩
    | 16, hj => exact Or.inr ⟨by omega, hj, fun hq => by omega⟩
    | 17, hj => exact Or.inr ⟨by omega, hj, fun _ => by simp at hj; rw [← hj]; exact hp⟩
    | 18, hj => exact Or.inl ⟨rfl, by simp at hj; exact hj.symm⟩
    | j + 19, hj => exact Or.inr ⟨by omega, by simpa using hj, fun hq => by omega⟩)
  · exact (fun ⟨q0, q1, q2, q3, q4, q5, q6, q7, q8, q9, q10, q11, q12, q13, q14, q15, q16, q17, _, qr⟩ hx => ⟨q0, q1, q2, q3, q4, q5, q6, q7, q8, q9, q10, q11, q12, q13, q14, q15, q16, q17, hx, qr⟩)
theorem Gx_iinc_19 {a0 a1 a2 a3 a4 a5 a6 a7 a8 a9 a10 a11 a12 a13 a14 a15 a16 a17 a18 : gV} {r : List gV} {n x : Int} (d : decode M.2.1 pc = .ok (.iinc 19 n, 3)) (hn : 19 < M.2.2.1) (hp : a18.1 ≠ 1) (k : Gx Γ M (pc + 3) (a0::a1::a2::a3::a4::a5::a6::a7::a8::a9::a10::a11::a12::a13::a14::a15::a16::a17::a18::(0, w32 (x + n))::r) st v h t bc bs Q) : Gx Γ M pc (a0::a1::a2::a3::a4::a5::a6::a7::a8::a9::a10::a11::a12::a13::a14::a15::a16::a17::a18::(0, x)::r) st v h t bc bs Q := by
  refine Gx_iinc0 (i := 19) d rfl ?_ ?_ hn k
  · exact (by
    intro j a hj ha
    match j, hj with
    | 0, hj => exact Or.inr ⟨by omega, hj, fun hq => by omega⟩
    | 1, hj => exact Or.inr ⟨by omega, hj, fun hq => by omega⟩
    | 2, hj => exact Or.inr ⟨by omega, hj, fun hq => by omega⟩
    | 3, hj => exact Or.inr ⟨by omega, hj, fun hq => by omega⟩
    | 4, hj => exact Or.inr ⟨by omega, hj, fun hq => by omega⟩
    | 5, hj => exact Or.inr ⟨by omega, hj, fun hq => by omega⟩
    | 6, hj => exact Or.inr ⟨by omega, hj, fun hq => by omega⟩
    | 7, hj => exact Or.inr ⟨by omega, hj, fun hq => by omega⟩
    | 8, hj => exact Or.inr ⟨by omega, hj, fun hq => by omega⟩
    | 9, hj => exact Or.inr ⟨by omega, hj, fun hq => by omega⟩
    | 10, hj => exact Or.inr ⟨by omega, hj, fun hq => by omega⟩
    | 11, hj => exact Or.inr ⟨by omega, hj, fun hq => by omega⟩
    | 12, hj => exact Or.inr ⟨by omega, hj, fun hq => by omega⟩
    | 13, hj => exact Or.inr ⟨by omega, hj, fun hq => by omega⟩
    | 14, hj => exact Or.inr ⟨by omega, hj, fun hq => by omega⟩
    | 15, hj => exact Or.inr ⟨by omega, hj, fun hq => by omega⟩
    | 16, hj => exact Or.inr ⟨by omega, hj, fun hq => by omega⟩
    | 17, hj => exact Or.inr ⟨by omega, hj, fun hq => by omega⟩
    | 18, hj => exact Or.inr ⟨by omega, hj, fun _ => by simp at hj; rw [← hj]; exact hp⟩
    | 19, hj => exact Or.inl ⟨rfl, by simp at hj; exact hj.symm⟩
    | j + 20, hj => exact Or.inr ⟨by omega, by simpa using hj, fun hq => by omega⟩)
  · exact (fun ⟨q0, q1, q2, q3, q4, q5, q6, q7, q8, q9, q10, q11, q12, q13, q14, q15, q16, q17, q18, _, qr⟩ hx => ⟨q0, q1, q2, q3, q4, q5, q6, q7, q8, q9, q10, q11, q12, q13, q14, q15, q16, q17, q18, hx, qr⟩)
theorem Gx_iinc_20 {a0 a1 a2 a3 a4 a5 a6 a7 a8 a9 a10 a11 a12 a13 a14 a15 a16 a17 a18 a19 : gV} {r : List gV} {n x : Int} (d : decode M.2.1 pc = .ok (.iinc 20 n, 3)) (hn : 20 < M.2.2.1) (hp : a19.1 ≠ 1) (k : Gx Γ M (pc + 3) (a0::a1::a2::a3::a4::a5::a6::a7::a8::a9::a10::a11::a12::a13::a14::a15::a16::a17::a18::a19::(0, w32 (x + n))::r) st v h t bc bs Q) : Gx Γ M pc (a0::a1::a2::a3::a4::a5::a6::a7::a8::a9::a10::a11::a12::a13::a14::a15::a16::a17::a18::a19::(0, x)::r) st v h t bc bs Q := by
  refine Gx_iinc0 (i := 20) d rfl ?_ ?_ hn k
  · exact (by
    intro j a hj ha
    match j, hj with
    | 0, hj => exact Or.inr ⟨by omega, hj, fun hq => by omega⟩
    | 1, hj => exact Or.inr ⟨by omega, hj, fun hq => by omega⟩
    | 2, hj => exact Or.inr ⟨by omega, hj, fun hq => by omega⟩
    | 3, hj => exact Or.inr ⟨by omega, hj, fun hq => by omega⟩
    | 4, hj => exact Or.inr ⟨by omega, hj, fun hq => by omega⟩
    | 5, hj => exact Or.inr ⟨by omega, hj, fun hq => by omega⟩
    | 6, hj => exact Or.inr ⟨by omega, hj, fun hq => by omega⟩
    | 7, hj => exact Or.inr ⟨by omega, hj, fun hq => by omega⟩
    | 8, hj => exact Or.inr ⟨by omega, hj, fun hq => by omega⟩
    | 9, hj => exact Or.inr ⟨by omega, hj, fun hq => by omega⟩
    | 10, hj => exact Or.inr ⟨by omega, hj, fun hq => by omega⟩
    | 11, hj => exact Or.inr ⟨by omega, hj, fun hq => by omega⟩
    | 12, hj => exact Or.inr ⟨by omega, hj, fun hq => by omega⟩
    | 13, hj => exact Or.inr ⟨by omega, hj, fun hq => by omega⟩
    | 14, hj => exact Or.inr ⟨by omega, hj, fun hq => by omega⟩
    | 15, hj => exact Or.inr ⟨by omega, hj, fun hq => by omega⟩
    | 16, hj => exact Or.inr ⟨by omega, hj, fun hq => by omega⟩
    | 17, hj => exact Or.inr ⟨by omega, hj, fun hq => by omega⟩
    | 18, hj => exact Or.inr ⟨by omega, hj, fun hq => by omega⟩
    | 19, hj => exact Or.inr ⟨by omega, hj, fun _ => by simp at hj; rw [← hj]; exact hp⟩
    | 20, hj => exact Or.inl ⟨rfl, by simp at hj; exact hj.symm⟩
    | j + 21, hj => exact Or.inr ⟨by omega, by simpa using hj, fun hq => by omega⟩)
  · exact (fun ⟨q0, q1, q2, q3, q4, q5, q6, q7, q8, q9, q10, q11, q12, q13, q14, q15, q16, q17, q18, q19, _, qr⟩ hx => ⟨q0, q1, q2, q3, q4, q5, q6, q7, q8, q9, q10, q11, q12, q13, q14, q15, q16, q17, q18, q19, hx, qr⟩)
theorem Gx_iinc_21 {a0 a1 a2 a3 a4 a5 a6 a7 a8 a9 a10 a11 a12 a13 a14 a15 a16 a17 a18 a19 a20 : gV} {r : List gV} {n x : Int} (d : decode M.2.1 pc = .ok (.iinc 21 n, 3)) (hn : 21 < M.2.2.1) (hp : a20.1 ≠ 1) (k : Gx Γ M (pc + 3) (a0::a1::a2::a3::a4::a5::a6::a7::a8::a9::a10::a11::a12::a13::a14::a15::a16::a17::a18::a19::a20::(0, w32 (x + n))::r) st v h t bc bs Q) : Gx Γ M pc (a0::a1::a2::a3::a4::a5::a6::a7::a8::a9::a10::a11::a12::a13::a14::a15::a16::a17::a18::a19::a20::(0, x)::r) st v h t bc bs Q := by
  refine Gx_iinc0 (i := 21) d rfl ?_ ?_ hn k
  · exact (by
    intro j a hj ha
    match j, hj with
    | 0, hj => exact Or.inr ⟨by omega, hj, fun hq => by omega⟩
    | 1, hj => exact Or.inr ⟨by omega, hj, fun hq => by omega⟩
    | 2, hj => exact Or.inr ⟨by omega, hj, fun hq => by omega⟩
    | 3, hj => exact Or.inr ⟨by omega, hj, fun hq => by omega⟩
    | 4, hj => exact Or.inr ⟨by omega, hj, fun hq => by omega⟩
    | 5, hj => exact Or.inr ⟨by omega, hj, fun hq => by omega⟩
    | 6, hj => exact Or.inr ⟨by omega, hj, fun hq => by omega⟩
    | 7, hj => exact Or.inr ⟨by omega, hj, fun hq => by omega⟩
    | 8, hj => exact Or.inr ⟨by omega, hj, fun hq => by omega⟩
    | 9, hj => exact Or.inr ⟨by omega, hj, fun hq => by omega⟩
    | 10, hj => exact Or.inr ⟨by omega, hj, fun hq => by omega⟩
    | 11, hj => exact Or.inr ⟨by omega, hj, fun hq => by omega⟩
    | 12, hj => exact Or.inr ⟨by omega, hj, fun hq => by omega⟩
    | 13, hj => exact Or.inr ⟨by omega, hj, fun hq => by omega⟩
    | 14, hj => exact Or.inr ⟨by omega, hj, fun hq => by omega⟩
    | 15, hj => exact Or.inr ⟨by omega, hj, fun hq => by omega⟩
    | 16, hj => exact Or.inr ⟨by omega, hj, fun hq => by omega⟩
    | 17, hj => exact Or.inr ⟨by omega, hj, fun hq => by omega⟩
    | 18, hj => exact Or.inr ⟨by omega, hj, fun hq => by omega⟩
    | 19, hj => exact Or.inr ⟨by omega, hj, fun hq => by omega⟩
    | 20, hj => exact Or.inr ⟨by omega, hj, fun _ => by simp at hj; rw [← hj]; exact hp⟩
    | 21, hj => exact Or.inl ⟨rfl, by simp at hj; exact hj.symm⟩
    | j + 22, hj => exact Or.inr ⟨by omega, by simpa using hj, fun hq => by omega⟩)
  · exact (fun ⟨q0, q1, q2, q3, q4, q5, q6, q7, q8, q9, q10, q11, q12, q13, q14, q15, q16, q17, q18, q19, q20, _, qr⟩ hx => ⟨q0, q1, q2, q3, q4, q5, q6, q7, q8, q9, q10, q11, q12, q13, q14, q15, q16, q17, q18, q19, q20, hx, qr⟩)
theorem Gx_iinc_22 {a0 a1 a2 a3 a4 a5 a6 a7 a8 a9 a10 a11 a12 a13 a14 a15 a16 a17 a18 a19 a20 a21 : gV} {r : List gV} {n x : Int} (d : decode M.2.1 pc = .ok (.iinc 22 n, 3)) (hn : 22 < M.2.2.1) (hp : a21.1 ≠ 1) (k : Gx Γ M (pc + 3) (a0::a1::a2::a3::a4::a5::a6::a7::a8::a9::a10::a11::a12::a13::a14::a15::a16::a17::a18::a19::a20::a21::(0, w32 (x + n))::r) st v h t bc bs Q) : Gx Γ M pc (a0::a1::a2::a3::a4::a5::a6::a7::a8::a9::a10::a11::a12::a13::a14::a15::a16::a17::a18::a19::a20::a21::(0, x)::r) st v h t bc bs Q := by
  refine Gx_iinc0 (i := 22) d rfl ?_ ?_ hn k
  · exact (by
    intro j a hj ha
    match j, hj with
    | 0, hj => exact Or.inr ⟨by omega, hj, fun hq => by omega⟩
    | 1, hj => exact Or.inr ⟨by omega, hj, fun hq => by omega⟩
    | 2, hj => exact Or.inr ⟨by omega, hj, fun hq => by omega⟩
    | 3, hj => exact Or.inr ⟨by omega, hj, fun hq => by omega⟩
    | 4, hj => exact Or.inr ⟨by omega, hj, fun hq => by omega⟩
    | 5, hj => exact Or.inr ⟨by omega, hj, fun hq => by omega⟩
    | 6, hj => exact Or.inr ⟨by omega, hj, fun hq => by omega⟩
    | 7, hj => exact Or.inr ⟨by omega, hj, fun hq => by omega⟩
    | 8, hj => exact Or.inr ⟨by omega, hj, fun hq => by omega⟩
    | 9, hj => exact Or.inr ⟨by omega, hj, fun hq => by omega⟩
    | 10, hj => exact Or.inr ⟨by omega, hj, fun hq => by omega⟩
    | 11, hj => exact Or.inr ⟨by omega, hj, fun hq => by omega⟩
    | 12, hj => exact Or.inr ⟨by omega, hj, fun hq => by omega⟩
    | 13, hj => exact Or.inr ⟨by omega, hj, fun hq => by omega⟩
    | 14, hj => exact Or.inr ⟨by omega, hj, fun hq => by omega⟩
    | 15, hj => exact Or.inr ⟨by omega, hj, fun hq => by omega⟩
    | 16, hj => exact Or.inr ⟨by omega, hj, fun hq => by omega⟩
    | 17, hj => exact Or.inr ⟨by omega, hj, fun hq => by omega⟩
    | 18, hj => exact Or.inr ⟨by omega, hj, fun hq => by omega⟩
    | 19, hj => exact Or.inr ⟨by omega, hj, fun hq => by omega⟩
    | 20, hj => exact Or.inr ⟨by omega, hj, fun hq => by omega⟩
    | 21, hj => exact Or.inr ⟨by omega, hj, fun _ => by simp at hj; rw [← hj]; exact hp⟩
    | 22, hj => exact Or.inl ⟨rfl, by simp at hj; exact hj.symm⟩
    | j + 23, hj => exact Or.inr ⟨by omega, by simpa using hj, fun hq => by omega⟩)
  · exact (fun ⟨q0, q1, q2, q3, q4, q5, q6, q7, q8, q9, q10, q11, q12, q13, q14, q15, q16, q17, q18, q19, q20, q21, _, qr⟩ hx => ⟨q0, q1, q2, q3, q4, q5, q6, q7, q8, q9, q10, q11, q12, q13, q14, q15, q16, q17, q18, q19, q20, q21, hx, qr⟩)
theorem Gx_iinc_23 {a0 a1 a2 a3 a4 a5 a6 a7 a8 a9 a10 a11 a12 a13 a14 a15 a16 a17 a18 a19 a20 a21 a22 : gV} {r : List gV} {n x : Int} (d : decode M.2.1 pc = .ok (.iinc 23 n, 3)) (hn : 23 < M.2.2.1) (hp : a22.1 ≠ 1) (k : Gx Γ M (pc + 3) (a0::a1::a2::a3::a4::a5::a6::a7::a8::a9::a10::a11::a12::a13::a14::a15::a16::a17::a18::a19::a20::a21::a22::(0, w32 (x + n))::r) st v h t bc bs Q) : Gx Γ M pc (a0::a1::a2::a3::a4::a5::a6::a7::a8::a9::a10::a11::a12::a13::a14::a15::a16::a17::a18::a19::a20::a21::a22::(0, x)::r) st v h t bc bs Q := by
  refine Gx_iinc0 (i := 23) d rfl ?_ ?_ hn k
  · exact (by
    intro j a hj ha
    match j, hj with
    | 0, hj => exact Or.inr ⟨by omega, hj, fun hq => by omega⟩
    | 1, hj => exact Or.inr ⟨by omega, hj, fun hq => by omega⟩
    | 2, hj => exact Or.inr ⟨by omega, hj, fun hq => by omega⟩
    | 3, hj => exact Or.inr ⟨by omega, hj, fun hq => by omega⟩
    | 4, hj => exact Or.inr ⟨by omega, hj, fun hq => by omega⟩
    | 5, hj => exact Or.inr ⟨by omega, hj, fun hq => by omega⟩
    | 6, hj => exact Or.inr ⟨by omega, hj, fun hq => by omega⟩
    | 7, hj => exact Or.inr ⟨by omega, hj, fun hq => by omega⟩
    | 8, hj => exact Or.inr ⟨by omega, hj, fun hq => by omega⟩
    | 9, hj => exact Or.inr ⟨by omega, hj, fun hq => by omega⟩
    | 10, hj => exact Or.inr ⟨by omega, hj, fun hq => by omega⟩
    | 11, hj => exact Or.inr ⟨by omega, hj, fun hq => by omega⟩
    | 12, hj => exact Or.inr ⟨by omega, hj, fun hq => by omega⟩
    | 13, hj => exact Or.inr ⟨by omega, hj, fun hq => by omega⟩
    | 14, hj => exact Or.inr ⟨by omega, hj, fun hq => by omega⟩
    | 15, hj => exact Or.inr ⟨by omega, hj, fun hq => by omega⟩
    | 16, hj => exact Or.inr ⟨by omega, hj, fun hq => by omega⟩
    | 17, hj => exact Or.inr ⟨by omega, hj, fun hq => by omega⟩
    | 18, hj => exact Or.inr ⟨by omega, hj, fun hq => by omega⟩
    | 19, hj => exact Or.inr ⟨by omega, hj, fun hq => by omega⟩
    | 20, hj => exact Or.inr ⟨by omega, hj, fun hq => by omega⟩
    | 21, hj => exact Or.inr ⟨by omega, hj, fun hq => by omega⟩
    | 22, hj => exact Or.inr ⟨by omega, hj, fun _ => by simp at hj; rw [← hj]; exact hp⟩
    | 23, hj => exact Or.inl ⟨rfl, by simp at hj; exact hj.symm⟩
    | j + 24, hj => exact Or.inr ⟨by omega, by simpa using hj, fun hq => by omega⟩)
  · exact (fun ⟨q0, q1, q2, q3, q4, q5, q6, q7, q8, q9, q10, q11, q12, q13, q14, q15, q16, q17, q18, q19, q20, q21, q22, _, qr⟩ hx => ⟨q0, q1, q2, q3, q4, q5, q6, q7, q8, q9, q10, q11, q12, q13, q14, q15, q16, q17, q18, q19, q20, q21, q22, hx, qr⟩)
theorem Gx_iinc_24 {a0 a1 a2 a3 a4 a5 a6 a7 a8 a9 a10 a11 a12 a13 a14 a15 a16 a17 a18 a19 a20 a21 a22 a23 : gV} {r : List gV} {n x : Int} (d : decode M.2.1 pc = .ok (.iinc 24 n, 3)) (hn : 24 < M.2.2.1) (hp : a23.1 ≠ 1) (k : Gx Γ M (pc + 3) (a0::a1::a2::a3::a4::a5::a6::a7::a8::a9::a10::a11::a12::a13::a14::a15::a16::a17::a18::a19::a20::a21::a22::a23::(0, w32 (x + n))::r) st v h t bc bs Q) : Gx Γ M pc (a0::a1::a2::a3::a4::a5::a6::a7::a8::a9::a10::a11::a12::a13::a14::a15::a16::a17::a18::a19::a20::a21::a22::a23::(0, x)::r) st v h t bc bs Q := by
  refine Gx_iinc0 (i := 24) d rfl ?_ ?_ hn k
  · exact (by
    intro j a hj ha
    match j, hj with
    | 0, hj => exact Or.inr ⟨by omega, hj, fun hq => by omega⟩
    | 1, hj => exact Or.inr ⟨by omega, hj, fun hq => by omega⟩
    | 2, hj => exact Or.inr ⟨by omega, hj, fun hq => by omega⟩
    | 3, hj => exact Or.inr ⟨by omega, hj, fun hq => by omega⟩
    | 4, hj => exact Or.inr ⟨by omega, hj, fun hq => by omega⟩
    | 5, hj => exact Or.inr ⟨by omega, hj, fun hq => by omega⟩
    | 6, hj => exact Or.inr ⟨by omega, hj, fun hq => by omega⟩
    | 7, hj => exact Or.inr ⟨by omega, hj, fun hq => by omega⟩
    | 8, hj => exact Or.inr ⟨by omega, hj, fun hq => by omega⟩
    | 9, hj => exact Or.inr ⟨by omega, hj, fun hq => by omega⟩
    | 10, hj => exact Or.inr ⟨by omega, hj, fun hq => by omega⟩
    | 11, hj => exact Or.inr ⟨by omega, hj, fun hq => by omega⟩
    | 12, hj => exact Or.inr ⟨by omega, hj, fun hq => by omega⟩
    | 13, hj => exact Or.inr ⟨by omega, hj, fun hq => by omega⟩
    | 14, hj => exact Or.inr ⟨by omega, hj, fun hq => by omega⟩
    | 15, hj => exact Or.inr ⟨by omega, hj, fun hq => by omega⟩
    | 16, hj => exact Or.inr ⟨by omega, hj, fun hq => by omega⟩
    | 17, hj => exact Or.inr ⟨by omega, hj, fun hq => by omega⟩
    | 18, hj => exact Or.inr ⟨by omega, hj, fun hq => by omega⟩
    | 19, hj => exact Or.inr ⟨by omega, hj, fun hq => by omega⟩
    | 20, hj => exact Or.inr ⟨by omega, hj, fun hq => by omega⟩
    | 21, hj => exact Or.inr ⟨by omega, hj, fun hq => by omega⟩
    | 22, hj => exact Or.inr ⟨by omega, hj, fun hq => by omega⟩
    | 23, hj => exact Or.inr ⟨by omega, hj, fun _ => by simp at hj; rw [← hj]; exact hp⟩
    | 24, hj => exact Or.inl ⟨rfl, by simp at hj; exact hj.symm⟩
    | j + 25, hj => exact Or.inr ⟨by omega, by simpa using hj, fun hq => by omega⟩)
  · exact (fun ⟨q0, q1, q2, q3, q4, q5, q6, q7, q8, q9, q10, q11, q12, q13, q14, q15, q16, q17, q18, q19, q20, q21, q22, q23, _, qr⟩ hx => ⟨q0, q1, q2, q3, q4, q5, q6, q7, q8, q9, q10, q11, q12, q13, q14, q15, q16, q17, q18, q19, q20, q21, q22, q23, hx, qr⟩)
theorem Gx_iinc_25 {a0 a1 a2 a3 a4 a5 a6 a7 a8 a9 a10 a11 a12 a13 a14 a15 a16 a17 a18 a19 a20 a21 a22 a23 a24 : gV} {r : List gV} {n x : Int} (d : decode M.2.1 pc = .ok (.iinc 25 n, 3)) (hn : 25 < M.2.2.1) (hp : a24.1 ≠ 1) (k : Gx Γ M (pc + 3) (a0::a1::a2::a3::a4::a5::a6::a7::a8::a9::a10::a11::a12::a13::a14::a15::a16::a17::a18::a19::a20::a21::a22::a23::a24::(0, w32 (x + n))::r) st v h t bc bs Q) : Gx Γ M pc (a0::a1::a2::a3::a4::a5::a6::a7::a8::a9::a10::a11::a12::a13::a14::a15::a16::a17::a18::a19::a20::a21::a22::a23::a24::(0, x)::r) st v h t bc bs Q := by
  refine Gx_iinc0 (i := 25) d rfl ?_ ?_ hn k
  · exact (by
    intro j a hj ha
    match j, hj with
    | 0, hj => exact Or.inr ⟨by omega, hj, fun hq => by omega⟩
    | 1, hj => exact Or.inr ⟨by omega, hj, fun hq => by omega⟩
    | 2, hj => exact Or.inr ⟨by omega, hj, fun hq => by omega⟩
    | 3, hj => exact Or.inr ⟨by omega, hj, fun hq => by omega⟩
    | 4, hj => exact Or.inr ⟨by omega, hj, fun hq => by omega⟩
    | 5, hj => exact Or.inr ⟨by omega, hj, fun hq => by omega⟩
    | 6, hj => exact Or.inr ⟨by omega, hj, fun hq => by omega⟩
    | 7, hj => exact Or.inr ⟨by omega, hj, fun hq => by omega⟩
    | 8, hj => exact Or.inr ⟨by omega, hj, fun hq => by omega⟩
    | 9, hj => exact Or.inr ⟨by omega, hj, fun hq => by omega⟩
    | 10, hj => exact Or.inr ⟨by omega, hj, fun hq => by omega⟩
    | 11, hj => exact Or.inr ⟨by omega, hj, fun hq => by omega⟩
    | 12, hj => exact Or.inr ⟨by omega, hj, fun hq => by omega⟩
    | 13, hj => exact Or.inr ⟨by omega, hj, fun hq => by omega⟩
    | 14, hj => exact Or.inr ⟨by omega, hj, fun hq => by omega⟩
    | 15, hj => exact Or.inr ⟨by omega, hj, fun hq => by omega⟩
    | 16, hj => exact Or.inr ⟨by omega, hj, fun hq => by omega⟩
    | 17, hj => exact Or.inr ⟨by omega, hj, fun hq => by omega⟩
    | 18, hj => exact Or.inr ⟨by omega, hj, fun hq => by omega⟩
    | 19, hj => exact Or.inr ⟨by omega, hj, fun hq => by omega⟩
    | 20, hj => exact Or.inr ⟨by omega, hj, fun hq => by omega⟩
    | 21, hj => exact Or.inr ⟨by omega, hj, fun hq => by omega⟩
    | 22, hj => exact Or.inr ⟨by omega, hj, fun hq => by omega⟩
    | 23, hj => exact Or.inr ⟨by omega, hj, fun hq => by omega⟩
    | 24, hj => exact Or.inr ⟨by omega, hj, fun _ => by simp at hj; rw [← hj]; exact hp⟩
    | 25, hj => exact Or.inl ⟨rfl, by simp at hj; exact hj.symm⟩
    | j + 26, hj => exact Or.inr ⟨by omega, by simpa using hj, fun hq => by omega⟩)
  · exact (fun ⟨q0, q1, q2, q3, q4, q5, q6, q7, q8, q9, q10, q11, q12, q13, q14, q15, q16, q17, q18, q19, q20, q21, q22, q23, q24, _, qr⟩ hx => ⟨q0, q1, q2, q3, q4, q5, q6, q7, q8, q9, q10, q11, q12, q13, q14, q15, q16, q17, q18, q19, q20, q21, q22, q23, q24, hx, qr⟩)
theorem Gx_lstore_n_0 {b b2 : gV} {r : List gV} {x : Int} (d : decode M.2.1 pc = .ok (.lstore_n 0, 1)) (hn : 1 < M.2.2.1) (k : Gx Γ M (pc + 1) ((1, x)::(9, 0)::r) st v h t bc bs Q) : Gx Γ M pc (b::b2::r) ((1, x) :: st) v h t bc bs Q := by
  refine Gx_lstore_n (i := 0) d (rfl) ?_ ?_ hn k
  · exact (by
    intro j a hj ha
    match j, hj with
    | 0, hj => exact Or.inl ⟨rfl, by simp at hj; exact hj.symm⟩
    | 1, hj => exact absurd ha (by simp at hj; rw [← hj]; decide)
    | j + 2, hj => exact Or.inr ⟨by omega, by omega, by simpa using hj, fun hq => by omega⟩)
  · exact (fun ⟨_, _, qr⟩ hx => ⟨hx, trivial, qr⟩)
theorem Gx_lstore_n_1 {a0 : gV} {b b2 : gV} {r : List gV} {x : Int} (d : decode M.2.1 pc = .ok (.lstore_n 1, 1)) (hn : 2 < M.2.2.1) (hp : a0.1 ≠ 1) (k : Gx Γ M (pc + 1) (a0::(1, x)::(9, 0)::r) st v h t bc bs Q) : Gx Γ M pc (a0::b::b2::r) ((1, x) :: st) v h t bc bs Q := by
  refine Gx_lstore_n (i := 1) d (rfl) ?_ ?_ hn k
  · exact (by
    intro j a hj ha
    match j, hj with
    | 0, hj => exact Or.inr ⟨by omega, by omega, hj, fun _ => by simp at hj; rw [← hj]; exact hp⟩
    | 1, hj => exact Or.inl ⟨rfl, by simp at hj; exact hj.symm⟩
    | 2, hj => exact absurd ha (by simp at hj; rw [← hj]; decide)
    | j + 3, hj => exact Or.inr ⟨by omega, by omega, by simpa using hj, fun hq => by omega⟩)
  · exact (fun ⟨q0, _, _, qr⟩ hx => ⟨q0, hx, trivial, qr⟩)
theorem Gx_lstore_n_2 {a0 a1 : gV} {b b2 : gV} {r : List gV} {x : Int} (d : decode M.2.1 pc = .ok (.lstore_n 2, 1)) (hn : 3 < M.2.2.1) (hp : a1.1 ≠ 1) (k : Gx Γ M (pc + 1) (a0::a1::(1, x)::(9, 0)::r) st v h t bc bs Q) : Gx Γ M pc (a0::a1::b::b2::r) ((1, x) :: st) v h t bc bs Q := by
  refine Gx_lstore_n (i := 2) d (rfl) ?_ ?_ hn k
  · exact (by
    intro j a hj ha
    match j, hj with
    | 0, hj => exact Or.inr ⟨by omega, by omega, hj, fun hq => by omega⟩
    | 1, hj => exact Or.inr ⟨by omega, by omega, hj, fun _ => by simp at hj; rw [← hj]; exact hp⟩
    | 2, hj => exact Or.inl ⟨rfl, by simp at hj; exact hj.symm⟩
    | 3, hj => exact absurd ha (by simp at hj; rw [← hj]; decide)
    | j + 4, hj => exact Or.inr ⟨by omega, by omega, by simpa using hj, fun hq => by omega⟩)
  · exact (fun ⟨q0, q1, _, _, qr⟩ hx => ⟨q0, q1, hx, trivial, qr⟩)
theorem Gx_lstore_n_3 {a0 a1 a2 : gV} {b b2 : gV} {r : List gV} {x : Int} (d : decode M.2.1 pc = .ok (.lstore_n 3, 1)) (hn : 4 < M.2.2.1) (hp : a2.1 ≠ 1) (k : Gx Γ M (pc + 1) (a0::a1::a2::(1, x)::(9, 0)::r) st v h t bc bs Q) : Gx Γ M pc (a0::a1::a2::b::b2::r) ((1, x) :: st) v h t bc bs Q := by
  refine Gx_lstore_n (i := 3) d (rfl) ?_ ?_ hn k
  · exact (by
    intro j a hj ha
    match j, hj with
    | 0, hj => exact Or.inr ⟨by omega, by omega, hj, fun hq => by omega⟩
    | 1, hj => exact Or.inr ⟨by omega, by omega, hj, fun hq => by omega⟩
    | 2, hj => exact Or.inr ⟨by omega, by omega, hj, fun _ => by simp at hj; rw [← hj]; exact hp⟩
    | 3, hj => exact Or.inl ⟨rfl, by simp at hj; exact hj.symm⟩
    | 4, hj => exact absurd ha (by simp at hj; rw [← hj]; decide)
    | j + 5, hj => exact Or.inr ⟨by omega, by omega, by simpa using hj, fun hq => by omega⟩)
  · exact (fun ⟨q0, q1, q2, _, _, qr⟩ hx => ⟨q0, q1, q2, hx, trivial, qr⟩)
theorem Gx_lstore_4 {a0 a1 a2 a3 : gV} {b b2 : gV} {r : List gV} {x : Int} (d : decode M.2.1 pc = .ok (.lstore 4, 2)) (hn : 5 < M.2.2.1) (hp : a3.1 ≠ 1) (k : Gx Γ M (pc + 2) (a0::a1::a2::a3::(1, x)::(9, 0)::r) st v h t bc bs Q) : Gx Γ M pc (a0::a1::a2::a3::b::b2::r) ((1, x) :: st) v h t bc bs Q := by
  refine Gx_lstore (i := 4) d ?_ ?_ hn k
  · exact (by
    intro j a hj ha
    match j, hj with
    | 0, hj => exact Or.inr ⟨by omega, by omega, hj, fun hq => by omega⟩
    | 1, hj => exact Or.inr ⟨by omega, by omega, hj, fun hq => by omega⟩
    | 2, hj => exact Or.inr ⟨by omega, by omega, hj, fun hq => by omega⟩
    | 3, hj => exact Or.inr ⟨by omega, by omega, hj, fun _ => by simp at hj; rw [← hj]; exact hp⟩
    | 4, hj => exact Or.inl ⟨rfl, by simp at hj; exact hj.symm⟩
    | 5, hj => exact absurd ha (by simp at hj; rw [← hj]; decide)
    | j + 6, hj => exact Or.inr ⟨by omega, by omega, by simpa using hj, fun hq => by omega⟩)
  · exact (fun ⟨q0, q1, q2, q3, _, _, qr⟩ hx => ⟨q0, q1, q2, q3, hx, trivial, qr⟩)
theorem Gx_lstore_5 {a0 a1 a2 a3 a4 : gV} {b b2 : gV} {r : List gV} {x : Int} (d : decode M.2.1 pc = .ok (.lstore 5, 2)) (hn : 6 < M.2.2.1) (hp : a4.1 ≠ 1) (k : Gx Γ M (pc + 2) (a0::a1::a2::a3::a4::(1, x)::(9, 0)::r) st v h t bc bs Q) : Gx Γ M pc (a0::a1::a2::a3::a4::b::b2::r) ((1, x) :: st) v h t bc bs Q := by
  refine Gx_lstore (i := 5) d ?_ ?_ hn k
  · exact (by
    intro j a hj ha
    match j, hj with
    | 0, hj => exact Or.inr ⟨by omega, by omega, hj, fun hq => by omega⟩
    | 1, hj => exact Or.inr ⟨by omega, by omega, hj, fun hq => by omega⟩
    | 2, hj => exact Or.inr ⟨by omega, by omega, hj, fun hq => by omega⟩
    | 3, hj => exact Or.inr ⟨by omega, by omega, hj, fun hq => by omega⟩
    | 4, hj => exact Or.inr ⟨by omega, by omega, hj, fun _ => by simp at hj; rw [← hj]; exact hp⟩
    | 5, hj => exact Or.inl ⟨rfl, by simp at hj; exact hj.symm⟩
    | 6, hj => exact absurd ha (by simp at hj; rw [← hj]; decide)
    | j + 7, hj => exact Or.inr ⟨by omega, by omega, by simpa using hj, fun hq => by omega⟩)
  · exact (fun ⟨q0, q1, q2, q3, q4, _, _, qr⟩ hx => ⟨q0, q1, q2, q3, q4, hx, trivial, qr⟩)
theorem Gx_lstore_6 {a0 a1 a2 a3 a4 a5 : gV} {b b2 : gV} {r : List gV} {x : Int} (d : decode M.2.1 pc = .ok (.lstore 6, 2)) (hn : 7 < M.2.2.1) (hp : a5.1 ≠ 1) (k : Gx Γ M (pc + 2) (a0::a1::a2::a3::a4::a5::(1, x)::(9, 0)::r) st v h t bc bs Q) : Gx Γ M pc (a0::a1::a2::a3::a4::a5::b::b2::r) ((1, x) :: st) v h t bc bs Q := by
  refine Gx_lstore (i := 6) d ?_ ?_ hn k
  · exact (by
    intro j a hj ha
    match j, hj with
    | 0, hj => exact Or.inr ⟨by omega, by omega, hj, fun hq => by omega⟩
    | 1, hj => exact Or.inr ⟨by omega, by omega, hj, fun hq => by omega⟩
    | 2, hj => exact Or.inr ⟨by omega, by omega, hj, fun hq => by omega⟩
    | 3, hj => exact Or.inr ⟨by omega, by omega, hj, fun hq => by omega⟩
    | 4, hj => exact Or.inr ⟨by omega, by omega, hj, fun hq => by omega⟩
    | 5, hj => exact Or.inr ⟨by omega, by omega, hj, fun _ => by simp at hj; rw [← hj]; exact hp⟩
    | 6, hj => exact Or.inl ⟨rfl, by simp at hj; exact hj.symm⟩
    | 7, hj => exact absurd ha (by simp at hj; rw [← hj]; decide)
    | j + 8, hj => exact Or.inr ⟨by omega, by omega, by simpa using hj, fun hq => by omega⟩)
  · exact (fun ⟨q0, q1, q2, q3, q4, q5, _, _, qr⟩ hx => ⟨q0, q1, q2, q3, q4, q5, hx, trivial, qr⟩)
theorem Gx_lstore_7 {a0 a1 a2 a3 a4 a5 a6 : gV} {b b2 : gV} {r : List gV} {x : Int} (d : decode M.2.1 pc = .ok (.lstore 7, 2)) (hn : 8 < M.2.2.1) (hp : a6.1 ≠ 1) (k : Gx Γ M (pc + 2) (a0::a1::a2::a3::a4::a5::a6::(1, x)::(9, 0)::r) st v h t bc bs Q) : Gx Γ M pc (a0::a1::a2::a3::a4::a5::a6::b::b2::r) ((1, x) :: st) v h t bc bs Q := by
  refine Gx_lstore (i := 7) d ?_ ?_ hn k
  · exact (by
    intro j a hj ha
    match j, hj with
    | 0, hj => exact Or.inr ⟨by omega, by omega, hj, fun hq => by omega⟩
    | 1, hj => exact Or.inr ⟨by omega, by omega, hj, fun hq => by omega⟩
    | 2, hj => exact Or.inr ⟨by omega, by omega, hj, fun hq => by omega⟩
    | 3, hj => exact Or.inr ⟨by omega, by omega, hj, fun hq => by omega⟩
    | 4, hj => exact Or.inr ⟨by omega, by omega, hj, fun hq => by omega⟩
    | 5, hj => exact Or.inr ⟨by omega, by omega, hj, fun hq => by omega⟩
    | 6, hj => exact Or.inr ⟨by omega, by omega, hj, fun _ => by simp at hj; rw [← hj]; exact hp⟩
    | 7, hj => exact Or.inl ⟨rfl, by simp at hj; exact hj.symm⟩
    | 8, hj => exact absurd ha (by simp at hj; rw [← hj]; decide)
    | j + 9, hj => exact Or.inr ⟨by omega, by omega, by simpa using hj, fun hq => by omega⟩)
  · exact (fun ⟨q0, q1, q2, q3, q4, q5, q6, _, _, qr⟩ hx => ⟨q0, q1, q2, q3, q4, q5, q6, hx, trivial, qr⟩)
theorem Gx_lstore_8 {a0 a1 a2 a3 a4 a5 a6 a7 : gV} {b b2 : gV} {r : List gV} {x : Int} (d : decode M.2.1 pc = .ok (.lstore 8, 2)) (hn : 9 < M.2.2.1) (hp : a7.1 ≠ 1) (k : Gx Γ M (pc + 2) (a0::a1::a2::a3::a4::a5::a6::a7::(1, x)::(9, 0)::r) st v h t bc bs Q) : Gx Γ M pc (a0::a1::a2::a3::a4::a5::a6::a7::b::b2::r) ((1, x) :: st) v h t bc bs Q := by
  refine Gx_lstore (i := 8) d ?_ ?_ hn k
  · exact (by
    intro j a hj ha
    match j, hj with
    | 0, hj => exact Or.inr ⟨by omega, by omega, hj, fun hq => by omega⟩
    | 1, hj => exact Or.inr ⟨by omega, by omega, hj, fun hq => by omega⟩
    | 2, hj => exact Or.inr ⟨by omega, by omega, hj, fun hq => by omega⟩
    | 3, hj => exact Or.inr ⟨by omega, by omega, hj, fun hq => by omega⟩
    | 4, hj => exact Or.inr ⟨by omega, by omega, hj, fun hq => by omega⟩
    | 5, hj => exact Or.inr ⟨by omega, by omega, hj, fun hq => by omega⟩
    | 6, hj => exact Or.inr ⟨by omega, by omega, hj, fun hq => by omega⟩
    | 7, hj => exact Or.inr ⟨by omega, by omega, hj, fun _ => by simp at hj; rw [← hj]; exact hp⟩
    | 8, hj => exact Or.inl ⟨rfl, by simp at hj; exact hj.symm⟩
    | 9, hj => exact absurd ha (by simp at hj; rw [← hj]; decide)
    | j + 10, hj => exact Or.inr ⟨by omega, by omega, by simpa using hj, fun hq => by omega⟩)
  · exact (fun ⟨q0, q1, q2, q3, q4, q5, q6, q7, _, _, qr⟩ hx => ⟨q0, q1, q2, q3, q4, q5, q6, q7, hx, trivial, qr⟩)
theorem Gx_lstore_9 {a0 a1 a2 a3 a4 a5 a6 a7 a8 : gV} {b b2 : gV} {r : List gV} {x : Int} (d : decode M.2.1 pc = .ok (.lstore 9, 2)) (hn : 10 < M.2.2.1) (hp : a8.1 ≠ 1) (k : Gx Γ M (pc + 2) (a0::a1::a2::a3::a4::a5::a6::a7::a8::(1, x)::(9, 0)::r) st v h t bc bs Q) : Gx Γ M pc (a0::a1::a2::a3::a4::a5::a6::a7::a8::b::b2::r) ((1, x) :: st) v h t bc bs Q := by
  refine Gx_lstore (i := 9) d ?_ ?_ hn k
  · exact (by
    intro j a hj ha
    match j, hj with
    | 0, hj => exact Or.inr ⟨by omega, by omega, hj, fun hq => by omega⟩
    | 1, hj => exact Or.inr ⟨by omega, by omega, hj, fun hq => by omega⟩
    | 2, hj => exact Or.inr ⟨by omega, by omega, hj, fun hq => by omega⟩
    | 3, hj => exact Or.inr ⟨by omega, by omega, hj, fun hq => by omega⟩
    | 4, hj => exact Or.inr ⟨by omega, by omega, hj, fun hq => by omega⟩
    | 5, hj => exact Or.inr ⟨by omega, by omega, hj, fun hq => by omega⟩
    | 6, hj => exact Or.inr ⟨by omega, by omega, hj, fun hq => by omega⟩
    | 7, hj => exact Or.inr ⟨by omega, by omega, hj, fun hq => by omega⟩
    | 8, hj => exact Or.inr ⟨by omega, by omega, hj, fun _ => by simp at hj; rw [← hj]; exact hp⟩
    | 9, hj => exact Or.inl ⟨rfl, by simp at hj; exact hj.symm⟩
    | 10, hj => exact absurd ha (by simp at hj; rw [← hj]; decide)
    | j + 11, hj => exact Or.inr ⟨by omega, by omega, by simpa using hj, fun hq => by omega⟩)
  · exact (fun ⟨q0, q1, q2, q3, q4, q5, q6, q7, q8, _, _, qr⟩ hx => ⟨q0, q1, q2, q3, q4, q5, q6, q7, q8, hx, trivial, qr⟩)
theorem Gx_lstore_10 {a0 a1 a2 a3 a4 a5 a6 a7 a8 a9 : gV} {b b2 : gV} {r : List gV} {x : Int} (d : decode M.2.1 pc = .ok (.lstore 10, 2)) (hn : 11 < M.2.2.1) (hp : a9.1 ≠ 1) (k : Gx Γ M (pc + 2) (a0::a1::a2::a3::a4::a5::a6::a7::a8::a9::(1, x)::(9, 0)::r) st v h t bc bs Q) : Gx Γ M pc (a0::a1::a2::a3::a4::a5::a6::a7::a8::a9::b::b2::r) ((1, x) :: st) v h t bc bs Q := by
  refine Gx_lstore (i := 10) d ?_ ?_ hn k
  · exact (by
    intro j a hj ha
    match j, hj with
    | 0, hj => exact Or.inr ⟨by omega, by omega, hj, fun hq => by omega⟩
    | 1, hj => exact Or.inr ⟨by omega, by omega, hj, fun hq => by omega⟩
    | 2, hj => exact Or.inr ⟨by omega, by omega, hj, fun hq => by omega⟩
    | 3, hj => exact Or.inr ⟨by omega, by omega, hj, fun hq => by omega⟩
    | 4, hj => exact Or.inr ⟨by omega, by omega, hj, fun hq => by omega⟩
    | 5, hj => exact Or.inr ⟨by omega, by omega, hj, fun hq => by omega⟩
    | 6, hj => exact Or.inr ⟨by omega, by omega, hj, fun hq => by omega⟩
    | 7, hj => exact Or.inr ⟨by omega, by omega, hj, fun hq => by omega⟩
    | 8, hj => exact Or.inr ⟨by omega, by omega, hj, fun hq => by omega⟩
    | 9, hj => exact Or.inr ⟨by omega, by omega, hj, fun _ => by simp at hj; rw [← hj]; exact hp⟩
    | 10, hj => exact Or.inl ⟨rfl, by simp at hj; exact hj.symm⟩
    | 11, hj => exact absurd ha (by simp at hj; rw [← hj]; decide)
    | j + 12, hj => exact Or.inr ⟨by omega, by omega, by simpa using hj, fun hq => by omega⟩)
  · exact (fun ⟨q0, q1, q2, q3, q4, q5, q6, q7, q8, q9, _, _, qr⟩ hx => ⟨q0, q1, q2, q3, q4, q5, q6, q7, q8, q9, hx, trivial, qr⟩)
theorem Gx_lstore_11 {a0 a1 a2 a3 a4 a5 a6 a7 a8 a9 a10 : gV} {b b2 : gV} {r : List gV} {x : Int} (d : decode M.2.1 pc = .ok (.lstore 11, 2)) (hn : 12 < M.2.2.1) (hp : a10.1 ≠ 1) (k : Gx Γ M (pc + 2) (a0::a1::a2::a3::a4::a5::a6::a7::a8::a9::a10::(1, x)::(9, 0)::r) st v h t bc bs Q) : Gx Γ M pc (a0::a1::a2::a3::a4::a5::a6::a7::a8::a9::a10::b::b2::r) ((1, x) :: st) v h t bc bs Q := by
  refine Gx_lstore (i := 11) d ?_ ?_ hn k
  · exact (by
    intro j a hj ha
    match j, hj with
    | 0, hj => exact Or.inr ⟨by omega, by omega, hj, fun hq => by omega⟩
    | 1, hj => exact Or.inr ⟨by omega, by omega, hj, fun hq => by omega⟩
    | 2, hj => exact Or.inr ⟨by omega, by omega, hj, fun hq => by omega⟩
    | 3, hj => exact Or.inr ⟨by omega, by omega, hj, fun hq => by omega⟩
    | 4, hj => exact Or.inr ⟨by omega, by omega, hj, fun hq => by omega⟩
    | 5, hj => exact Or.inr ⟨by omega, by omega, hj, fun hq => by omega⟩
    | 6, hj => exact Or.inr ⟨by omega, by omega, hj, fun hq => by omega⟩
    | 7, hj => exact Or.inr ⟨by omega, by omega, hj, fun hq => by omega⟩
    | 8, hj => exact Or.inr ⟨by omega, by omega, hj, fun hq => by omega⟩
    | 9, hj => exact Or.inr ⟨by omega, by omega, hj, fun hq => by omega⟩
    | 10, hj => exact Or.inr ⟨by omega, by omega, hj, fun _ => by simp at hj; rw [← hj]; exact hp⟩
    | 11, hj => exact Or.inl ⟨rfl, by simp at hj; exact hj.symm⟩
    | 12, hj => exact absurd ha (by simp at hj; rw [← hj]; decide)
    | j + 13, hj => exact Or.inr ⟨by omega, by omega, by simpa using hj, fun hq => by omega⟩)
  · exact (fun ⟨q0, q1, q2, q3, q4, q5, q6, q7, q8, q9, q10, _, _, qr⟩ hx => ⟨q0, q1, q2, q3, q4, q5, q6, q7, q8, q9, q10, hx, trivial, qr⟩)
theorem Gx_lstore_12 {a0 a1 a2 a3 a4 a5 a6 a7 a8 a9 a10 a11 : gV} {b b2 : gV} {r : List gV} {x : Int} (d : decode M.2.1 pc = .ok (.lstore 12, 2)) (hn : 13 < M.2.2.1) (hp : a11.1 ≠ 1) (k : Gx Γ M (pc + 2) (a0::a1::a2::a3::a4::a5::a6::a7::a8::a9::a10::a11::(1, x)::(9, 0)::r) st v h t bc bs Q) : Gx Γ M pc (a0::a1::a2::a3::a4::a5::a6::a7::a8::a9::a10::a11::b::b2::r) ((1, x) :: st) v h t bc bs Q := by
  refine Gx_lstore (i := 12) d ?_ ?_ hn k
  · exact (by
    intro j a hj ha
    match j, hj with
    | 0, hj => exact Or.inr ⟨by omega, by omega, hj, fun hq => by omega⟩
    | 1, hj => exact Or.inr ⟨by omega, by omega, hj, fun hq => by omega⟩
    | 2, hj => exact Or.inr ⟨by omega, by omega, hj, fun hq => by omega⟩
    | 3, hj => exact Or.inr ⟨by omega, by omega, hj, fun hq => by omega⟩
    | 4, hj => exact Or.inr ⟨by omega, by omega, hj, fun hq => by omega⟩
    | 5, hj => exact Or.inr ⟨by omega, by omega, hj, fun hq => by omega⟩
    | 6, hj => exact Or.inr ⟨by omega, by omega, hj, fun hq => by omega⟩
    | 7, hj => exact Or.inr ⟨by omega, by omega, hj, fun hq => by omega⟩
    | 8, hj => exact Or.inr ⟨by omega, by omega, hj, fun hq => by omega⟩
    | 9, hj => exact Or.inr ⟨by omega, by omega, hj, fun hq => by omega⟩
    | 10, hj => exact Or.inr ⟨by omega, by omega, hj, fun hq => by omega⟩
    | 11, hj => exact Or.inr ⟨by omega, by omega, hj, fun _ => by simp at hj; rw [← hj]; exact hp⟩
    | 12, hj => exact Or.inl ⟨rfl, by simp at hj; exact hj.symm⟩
    | 13, hj => exact absurd ha (by simp at hj; rw [← hj]; decide)
    | j + 14, hj => exact Or.inr ⟨by omega, by omega, by simpa using hj, fun hq => by omega⟩)
  · exact (fun ⟨q0, q1, q2, q3, q4, q5, q6, q7, q8, q9, q10, q11, _, _, qr⟩ hx => ⟨q0, q1, q2, q3, q4, q5, q6, q7, q8, q9, q10, q11, hx, trivial, qr⟩)
theorem Gx_lstore_13 {a0 a1 a2 a3 a4 a5 a6 a7 a8 a9 a10 a11 a12 : gV} {b b2 : gV} {r : List gV} {x : Int} (d : decode M.2.1 pc = .ok (.lstore 13, 2)) (hn : 14 < M.2.2.1) (hp : a12.1 ≠ 1) (k : Gx Γ M (pc + 2) (a0::a1::a2::a3::a4::a5::a6::a7::a8::a9::a10::a11::a12::(1, x)::(9, 0)::r) st v h t bc bs Q) : Gx Γ M pc (a0::a1::a2::a3::a4::a5::a6::a7::a8::a9::a10::a11::a12::b::b2::r) ((1, x) :: st) v h t bc bs Q := by
  refine Gx_lstore (i := 13) d ?_ ?_ hn k
  · exact (by
    intro j a hj ha
    match j, hj with
    | 0, hj => exact Or.inr ⟨by omega, by omega, hj, fun hq => by omega⟩
    | 1, hj => exact Or.inr ⟨by omega, by omega, hj, fun hq => by omega⟩
    | 2, hj => exact Or.inr ⟨by omega, by omega, hj, fun hq => by omega⟩
    | 3, hj => exact Or.inr ⟨by omega, by omega, hj, fun hq => by omega⟩
    | 4, hj => exact Or.inr ⟨by omega, by omega, hj, fun hq => by omega⟩
    | 5, hj => exact Or.inr ⟨by omega, by omega, hj, fun hq => by omega⟩
    | 6, hj => exact Or.inr ⟨by omega, by omega, hj, fun hq => by omega⟩
    | 7, hj => exact Or.inr ⟨by omega, by omega, hj, fun hq => by omega⟩
    | 8, hj => exact Or.inr ⟨by omega, by omega, hj, fun hq => by omega⟩
    | 9, hj => exact Or.inr ⟨by omega, by omega, hj, fun hq => by omega⟩
    | 10, hj => exact Or.inr ⟨by omega, by omega, hj, fun hq => by omega⟩
    | 11, hj => exact Or.inr ⟨by omega, by omega, hj, fun hq => by omega⟩
    | 12, hj => exact Or.inr ⟨by omega, by omega, hj, fun _ => by simp at hj; rw [← hj]; exact hp⟩
    | 13, hj => exact Or.inl ⟨rfl, by simp at hj; exact hj.symm⟩
    | 14, hj => exact absurd ha (by simp at hj; rw [← hj]; decide)
    | j + 15, hj => exact Or.inr ⟨by omega, by omega, by simpa using hj, fun hq => by omega⟩)
  · exact (fun ⟨q0, q1, q2, q3, q4, q5, q6, q7, q8, q9, q10, q11, q12, _, _, qr⟩ hx => ⟨q0, q1, q2, q3, q4, q5, q6, q7, q8, q9, q10, q11, q12, hx, trivial, qr⟩)
theorem Gx_lstore_14 {a0 a1 a2 a3 a4 a5 a6 a7 a8 a9 a10 a11 a12 a13 : gV} {b b2 : gV} {r : List gV} {x : Int} (d : decode M.2.1 pc = .ok (.lstore 14, 2)) (hn : 15 < M.2.2.1) (hp : a13.1 ≠ 1) (k : Gx Γ M (pc + 2) (a0::a1::a2::a3::a4::a5::a6::a7::a8::a9::a10::a11::a12::a13::(1, x)::(9, 0)::r) st v h t bc bs Q) : Gx Γ M pc (a0::a1::a2::a3::a4::a5::a6::a7::a8::a9::a10::a11::a12::a13::b::b2::r) ((1, x) :: st) v h t bc bs Q := by
  refine Gx_lstore (i := 14) d ?_ ?_ hn k
  · exact (by
    intro j a hj ha
    match j, hj with
    | 0, hj => exact Or.inr ⟨by omega, by omega, hj, fun hq => by omega⟩
    | 1, hj => exact Or.inr ⟨by omega, by omega, hj, fun hq => by omega⟩
    | 2, hj => exact Or.inr ⟨by omega, by omega, hj, fun hq => by omega⟩
    | 3, hj => exact Or.inr ⟨by omega, by omega, hj, fun hq => by omega⟩
    | 4, hj => exact Or.inr ⟨by omega, by omega, hj, fun hq => by omega⟩
    | 5, hj => exact Or.inr ⟨by omega, by omega, hj, fun hq => by omega⟩
    | 6, hj => exact Or.inr ⟨by omega, by omega, hj, fun hq => by omega⟩
    | 7, hj => exact Or.inr ⟨by omega, by omega, hj, fun hq => by omega⟩
    | 8, hj => exact Or.inr ⟨by omega, by omega, hj, fun hq => by omega⟩
    | 9, hj => exact Or.inr ⟨by omega, by omega, hj, fun hq => by omega⟩
    | 10, hj => exact Or.inr ⟨by omega, by omega, hj, fun hq => by omega⟩
    | 11, hj => exact Or.inr ⟨by omega, by omega, hj, fun hq => by omega⟩
    | 12, hj => exact Or.inr ⟨by omega, by omega, hj, fun hq => by omega⟩
    | 13, hj => exact Or.inr ⟨by omega, by omega, hj, fun _ => by simp at hj; rw [← hj]; exact hp⟩
    | 14, hj => exact Or.inl ⟨rfl, by simp at hj; exact hj.symm⟩
    | 15, hj => exact absurd ha (by simp at hj; rw [← hj]; decide)
    | j + 16, hj => exact Or.inr ⟨by omega, by omega, by simpa using hj, fun hq => by omega⟩)
  · exact (fun ⟨q0, q1, q2, q3, q4, q5, q6, q7, q8, q9, q10, q11, q12, q13, _, _, qr⟩ hx => ⟨q0, q1, q2, q3, q4, q5, q6, q7, q8, q9, q10, q11, q12, q13, hx, trivial, qr⟩)
theorem Gx_lstore_15 {a0 a1 a2 a3 a4 a5 a6 a7 a8 a9 a10 a11 a12 a13 a14 : gV} {b b2 : gV} {r : List gV} {x : Int} (d : decode M.2.1 pc = .ok (.lstore 15, 2)) (hn : 16 < M.2.2.1) (hp : a14.1 ≠ 1) (k : Gx Γ M (pc + 2) (a0::a1::a2::a3::a4::a5::a6::a7::a8::a9::a10::a11::a12::a13::a14::(1, x)::(9, 0)::r) st v h t bc bs Q) : Gx Γ M pc (a0::a1::a2::a3::a4::a5::a6::a7::a8::a9::a10::a11::a12::a13::a14::b::b2::r) ((1, x) :: st) v h t bc bs Q := by
  refine Gx_lstore (i := 15) d ?_ ?_ hn k
  · exact (by
    intro j a hj ha
    match j, hj with
    | 0, hj => exact Or.inr ⟨by omega, by omega, hj, fun hq => by omega⟩
    | 1, hj => exact Or.inr ⟨by omega, by omega, hj, fun hq => by omega⟩
    | 2, hj => exact Or.inr ⟨by omega, by omega, hj, fun hq => by omega⟩
    | 3, hj => exact Or.inr ⟨by omega, by omega, hj, fun hq => by omega⟩
    | 4, hj => exact Or.inr ⟨by omega, by omega, hj, fun hq => by omega⟩
    | 5, hj => exact Or.inr ⟨by omega, by omega, hj, fun hq => by omega⟩
    | 6, hj => exact Or.inr ⟨by omega, by omega, hj, fun hq => by omega⟩
    | 7, hj => exact Or.inr ⟨by omega, by omega, hj, fun hq => by omega⟩
    | 8, hj => exact Or.inr ⟨by omega, by omega, hj, fun hq => by omega⟩
    | 9, hj => exact Or.inr ⟨by omega, by omega, hj, fun hq => by omega⟩
    | 10, hj => exact Or.inr ⟨by omega, by omega, hj, fun hq => by omega⟩
    | 11, hj => exact Or.inr ⟨by omega, by omega, hj, fun hq => by omega⟩
    | 12, hj => exact Or.inr ⟨by omega, by omega, hj, fun hq => by omega⟩
    | 13, hj => exact Or.inr ⟨by omega, by omega, hj, fun hq => by omega⟩
    | 14, hj => exact Or.inr ⟨by omega, by omega, hj, fun _ => by simp at hj; rw [← hj]; exact hp⟩
    | 15, hj => exact Or.inl ⟨rfl, by simp at hj; exact hj.symm⟩
    | 16, hj => exact absurd ha (by simp at hj; rw [← hj]; decide)
    | j + 17, hj => exact Or.inr ⟨by omega, by omega, by simpa using hj, fun hq => by omega⟩)
  · exact (fun ⟨q0, q1, q2, q3, q4, q5, q6, q7, q8, q9, q10, q11, q12, q13, q14, _, _, qr⟩ hx => ⟨q0, q1, q2, q3, q4, q5, q6, q7, q8, q9, q10, q11, q12, q13, q14, hx, trivial, qr⟩)
theorem Gx_lstore_16 {a0 a1 a2 a3 a4 a5 a6 a7 a8 a9 a10 a11 a12 a13 a14 a15 : gV} {b b2 : gV} {r : List gV} {x : Int} (d : decode M.2.1 pc = .ok (.lstore 16, 2)) (hn : 17 < M.2.2.1) (hp : a15.1 ≠ 1) (k : Gx Γ M (pc + 2) (a0::a1::a2::a3::a4::a5::a6::a7::a8::a9::a10::a11::a12::a13::a14::a15::(1, x)::(9, 0)::r) st v h t bc bs Q) : Gx Γ M pc (a0::a1::a2::a3::a4::a5::a6::a7::a8::a9::a10::a11::a12::a13::a14::a15::b::b2::r) ((1, x) :: st) v h t bc bs Q := by
  refine Gx_lstore (i := 16) d ?_ ?_ hn k
  · exact (by
    intro j a hj ha
    match j, hj with
    | 0, hj => exact Or.inr ⟨by omega, by omega, hj, fun hq => by omega⟩
    | 1, hj => exact Or.inr ⟨by omega, by omega, hj, fun hq => by omega⟩
    | 2, hj => exact Or.inr ⟨by omega, by omega, hj, fun hq => by omega⟩
    | 3, hj => exact Or.inr ⟨by omega, by omega, hj, fun hq => by omega⟩
    | 4, hj => exact Or.inr ⟨by omega, by omega, hj, fun hq => by omega⟩
    | 5, hj => exact Or.inr ⟨by omega, by omega, hj, fun hq => by omega⟩
    | 6, hj => exact Or.inr ⟨by omega, by omega, hj, fun hq => by omega⟩
    | 7, hj => exact Or.inr ⟨by omega, by omega, hj, fun hq => by omega⟩
    | 8, hj => exact Or.inr ⟨by omega, by omega, hj, fun hq => by omega⟩
    | 9, hj => exact Or.inr ⟨by omega, by omega, hj, fun hq => by omega⟩
    | 10, hj => exact Or.inr ⟨by omega, by omega, hj, fun hq => by omega⟩
    | 11, hj => exact Or.inr ⟨by omega, by omega, hj, fun hq => by omega⟩
    | 12, hj => exact Or.inr ⟨by omega, by omega, hj, fun hq => by omega⟩
    | 13, hj => exact Or.inr ⟨by omega, by omega, hj, fun hq => by omega⟩
    | 14, hj => exact Or.inr ⟨by omega, by omega, hj, fun hq => by omega⟩
    | 15, hj => exact Or.inr ⟨by omega, by omega, hj, fun _ => by simp at hj; rw [← hj]; exact hp⟩
    | 16, hj => exact Or.inl ⟨rfl, by simp at hj; exact hj.symm⟩
    | 17, hj => exact absurd ha (by simp at hj; rw [← hj]; decide)
    | j + 18, hj => exact Or.inr ⟨by omega, by omega, by simpa using hj, fun hq => by omega⟩)
  · exact (fun ⟨q0, q1, q2, q3, q4, q5, q6, q7, q8, q9, q10, q11, q12, q13, q14, q15, _, _, qr⟩ hx => ⟨q0, q1, q2, q3, q4, q5, q6, q7, q8, q9, q10, q11, q12, q13, q14, q15, hx, trivial, qr⟩)
theorem Gx_lstore_17 {a0 a1 a2 a3 a4 a5 a6 a7 a8 a9 a10 a11 a12 a13 a14 a15 a16 : gV} {b b2 : gV} {r : List gV} {x : Int} (d : decode M.2.1 pc = .ok (.lstore 17, 2)) (hn : 18 < M.2.2.1) (hp : a16.1 ≠ 1) (k : Gx Γ M (pc + 2) (a0::a1::a2::a3::a4::a5::a6::a7::a8::a9::a10::a11::a12::a13::a14::a15::a16::(1, x)::(9, 0)::r) st v h t bc bs Q) : Gx Γ M pc (a0::a1::a2::a3::a4::a5::a6::a7::a8::a9::a10::a11::a12::a13::a14::a15::a16::b::b2::r) ((1, x) :: st) v h t bc bs Q := by
  refine Gx_lstore (i := 17) d ?_ ?_ hn k
  · exact (by
    intro j a hj ha
    match j, hj with
    | 0, hj => exact Or.inr ⟨by omega, by omega, hj, fun hq => by omega⟩
    | 1, hj => exact Or.inr ⟨by omega, by omega, hj, fun hq => by omega⟩
    | 2, hj => exact Or.inr ⟨by omega, by omega, hj, fun hq => by omega⟩
    | 3, hj => exact Or.inr ⟨by omega, by omega, hj, fun hq => by omega⟩
    | 4, hj => exact Or.inr ⟨by omega, by omega, hj, fun hq => by omega⟩
    | 5, hj => exact Or.inr ⟨by omega, by omega, hj, fun hq => by omega⟩
    | 6, hj => exact Or.inr ⟨by omega, by omega, hj, fun hq => by omega⟩
    | 7, hj => exact Or.inr ⟨by omega, by omega, hj, fun hq => by omega⟩
    | 8, hj => exact Or.inr ⟨by omega, by omega, hj, fun hq => by omega⟩
    | 9, hj => exact Or.inr ⟨by omega, by omega, hj, fun hq => by omega⟩
    | 10, hj => exact Or.inr ⟨by omega, by omega, hj, fun hq => by omega⟩
    | 11, hj => exact Or.inr ⟨by omega, by omega, hj, fun hq => by omega⟩
    | 12, hj => exact Or.inr ⟨by omega, by omega, hj, fun hq => by omega⟩
    | 13, hj => exact Or.inr ⟨by omega, by omega, hj, fun hq => by omega⟩
    | 14, hj => exact Or.inr ⟨by omega, by omega, hj, fun hq => by omega⟩
    | 15, hj => exact Or.inr ⟨by omega, by omega, hj, fun hq => by omega⟩
    | 16, hj => exact Or.inr ⟨by omega, by omega, hj, fun _ => by simp at hj; rw [← hj]; exact hp⟩
    | 17, hj => exact Or.inl ⟨rfl, by simp at hj; exact hj.symm⟩
    | 18, hj => exact absurd ha (by simp at hj; rw [← hj]; decide)
    | j + 19, hj => exact Or.inr ⟨by omega, by omega, by simpa using hj, fun hq => by omega⟩)
  · exact (fun ⟨q0, q1, q2, q3, q4, q5, q6, q7, q8, q9, q10, q11, q12, q13, q14, q15, q16, _, _, qr⟩ hx => ⟨q0, q1, q2, q3, q4, q5, q6, q7, q8, q9, q10, q11, q12, q13, q14, q15, q16, hx, trivial, qr⟩)
theorem Gx_lstore_18 {a0 a1 a2 a3 a4 a5 a6 a7 a8 a9 a10 a11 a12 a13 a14 a15 a16 a17 : gV} {b b2 : gV} {r : List gV} {x : Int} (d : decode M.2.1 pc = .ok (.lstore 18, 2)) (hn : 19 < M.2.2.1) (hp : a17.1 ≠ 1) (k : Gx Γ M (pc + 2) (a0::a1::a2::a3::a4::a5::a6::a7::a8::a9::a10::a11::a12::a13::a14::a15::a16::a17::(1, x)::(9, 0)::r) st v h t bc bs Q) : Gx Γ M pc (a0::a1::a2::a3::a4::a5::a6::a7::a8::a9::a10::a11::a12::a13::a14::a15::a16::a17::b::b2::r) ((1, x) :: st) v h t bc bs Q := by
  refine Gx_lstore (i := 18) d ?_ ?_ hn k
  · exact (by
    intro j a hj ha
    match j, hj with
    | 0, hj => exact Or.inr ⟨by omega, by omega, hj, fun hq => by omega⟩
    | 1, hj => exact Or.inr ⟨by omega, by omega, hj, fun hq => by omega⟩
    | 2, hj => exact Or.inr ⟨by omega, by omega, hj, fun hq => by omega⟩
    | 3, hj => exact Or.inr ⟨by omega, by omega, hj, fun hq => by omega⟩
    | 4, hj => exact Or.inr ⟨by omega, by omega, hj, fun hq => by omega⟩
    | 5, hj => exact Or.inr ⟨by omega, by omega, hj, fun hq => by omega⟩
    | 6, hj => exact Or.inr ⟨by omega, by omega, hj, fun hq => by omega⟩
    | 7, hj => exact Or.inr ⟨by omega, by omega, hj, fun hq => by omega⟩
    | 8, hj => exact Or.inr ⟨by omega, by omega, hj, fun hq => by omega⟩
    | 9, hj => exact Or.inr ⟨by omega, by omega, hj, fun hq => by omega⟩
    | 10, hj => exact Or.inr ⟨by omega, by omega, hj, fun hq => by omega⟩
    | 11, hj => exact Or.inr ⟨by omega, by omega, hj, fun hq => by omega⟩
    | 12, hj => exact Or.inr ⟨by omega, by omega, hj, fun hq => by omega⟩
    | 13, hj => exact Or.inr ⟨by omega, by omega, hj, fun hq => by omega⟩
    | 14, hj => exact Or.inr ⟨by omega, by omega, hj, fun hq => by omega⟩
    | 15, hj => exact Or.inr ⟨by omega, by omega, hj, fun hq => by omega⟩
    | 16, hj => exact Or.inr ⟨by omega, by omega, hj, fun hq => by omega⟩
    | 17, hj => exact Or.inr ⟨by omega, by omega, hj, fun _ => by simp at hj; rw [← hj]; exact hp⟩
    | 18, hj => exact Or.inl ⟨rfl, by simp at hj; exact hj.symm⟩
    | 19, hj => exact absurd ha (by simp at hj; rw [← hj]; decide)
    | j + 20, hj => exact Or.inr ⟨by omega, by omega, by simpa using hj, fun hq => by omega⟩)
  · exact (fun ⟨q0, q1, q2, q3, q4, q5, q6, q7, q8, q9, q10, q11, q12, q13, q14, q15, q16, q17, _, _, qr⟩ hx => ⟨q0, q1, q2, q3, q4, q5, q6, q7, q8, q9, q10, q11, q12, q13, q14, q15, q16, q17, hx, trivial, qr⟩)
theorem Gx_lstore_19 {a0 a1 a2 a3 a4 a5 a6 a7 a8 a9 a10 a11 a12 a13 a14 a15 a16 a17 a18 : gV} {b b2 : gV} {r : List gV} {x : Int} (d : decode M.2.1 pc = .ok (.lstore 19, 2)) (hn : 20 < M.2.2.1) (hp : a18.1 ≠ 1) (k : Gx Γ M (pc + 2) (a0::a1::a2::a3::a4::a5::a6::a7::a8::a9::a10::a11::a12::a13::a14::a15::a16::a17::a18::(1, x)::(9, 0)::r) st v h t bc bs Q) : Gx Γ M pc (a0::a1::a2::a3::a4::a5::a6::a7::a8::a9::a10::a11::a12::a13::a14::a15::a16::a17::a18::b::b2::r) ((1, x) :: st) v h t bc bs Q := by
  refine Gx_lstore (i := 19) d ?_ ?_ hn k
  · exact (by
    intro j a hj ha
    match j, hj with
    | 0, hj => exact Or.inr ⟨by omega, by omega, hj, fun hq => by omega⟩
    | 1, hj => exact Or.inr ⟨by omega, by omega, hj, fun hq => by omega⟩
    | 2, hj => exact Or.inr ⟨by omega, by omega, hj, fun hq => by omega⟩
    | 3, hj => exact Or.inr ⟨by omega, by omega, hj, fun hq => by omega⟩
    | 4, hj => exact Or.inr ⟨by omega, by omega, hj, fun hq => by omega⟩
    | 5, hj => exact Or.inr ⟨by omega, by omega, hj, fun hq => by omega⟩
    | 6, hj => exact Or.inr ⟨by omega, by omega, hj, fun hq => by omega⟩
    | 7, hj => exact Or.inr ⟨by omega, by omega, hj, fun hq => by omega⟩
    | 8, hj => exact Or.inr ⟨by omega, by omega, hj, fun hq => by omega⟩
    | 9, hj => exact Or.inr ⟨by omega, by omega, hj, fun hq => by omega⟩
    | 10, hj => exact Or.inr ⟨by omega, by omega, hj, fun hq => by omega⟩
    | 11, hj => exact Or.inr ⟨by omega, by omega, hj, fun hq => by omega⟩
    | 12, hj => exact Or.inr ⟨by omega, by omega, hj, fun hq => by omega⟩
    | 13, hj => exact Or.inr ⟨by omega, by omega, hj, fun hq => by omega⟩
    | 14, hj => exact Or.inr ⟨by omega, by omega, hj, fun hq => by omega⟩
    | 15, hj => exact Or.inr ⟨by omega, by omega, hj, fun hq => by omega⟩
    | 16, hj => exact Or.inr ⟨by omega, by omega, hj, fun hq => by omega⟩
    | 17, hj => exact Or.inr ⟨by omega, by omega, hj, fun hq => by omega⟩
    | 18, hj => exact Or.inr ⟨by omega, by omega, hj, fun _ => by simp at hj; rw [← hj]; exact hp⟩
    | 19, hj => exact Or.inl ⟨rfl, by simp at hj; exact hj.symm⟩
    | 20, hj => exact absurd ha (by simp at hj; rw [← hj]; decide)
    | j + 21, hj => exact Or.inr ⟨by omega, by omega, by simpa using hj, fun hq => by omega⟩)
  · exact (fun ⟨q0, q1, q2, q3, q4, q5, q6, q7, q8, q9, q10, q11, q12, q13, q14, q15, q16, q17, q18, _, _, qr⟩ hx => ⟨q0, q1, q2, q3, q4, q5, q6, q7, q8, q9, q10, q11, q12, q13, q14, q15, q16, q17, q18, hx, trivial, qr⟩)
/-- a local's value is forgotten -/
theorem Gx_dead0 {ls' : List gV} (he : ∀ (j : Nat) (a : gV), ls'[j]? = some a → a.1 < 4 → ls[j]? = some a) (hr : gRs t ls → gRs t ls') (k : Gx Γ M pc ls' st v h t bc bs Q) : Gx Γ M pc ls st v h t bc bs Q := by
  intro p e R s m args below meth c Z C H locs cells slots lsa h1 h2 h3 h4 h5 h6 h7
  refine k p e R s m args below meth c Z C H locs cells slots lsa h1 h2 h3 h4 ⟨h5.1, h5.2.1, fun q hq => ?_⟩ (hr h6) h7
  obtain ⟨j, a, g1, g2, g3⟩ := gLs_lo hq
  rw [Nat.zero_add] at g3
  subst g3
  exact gLs_at h5 (he j a g1 g2) g2
theorem Gx_dead_0 {b : gV} {r : List gV} (k : Gx Γ M pc ((9, 0)::r) st v h t bc bs Q) : Gx Γ M pc (b::r) st v h t bc bs Q := by
  refine Gx_dead0 ?_ ?_ k
  · exact (by
    intro j a hj ha
    match j, hj with
    | 0, hj => exact absurd ha (by simp at hj; rw [← hj]; decide)
    | j + 1, hj => simpa using hj)
  · exact (fun ⟨_, qr⟩ => ⟨trivial, qr⟩)
theorem Gx_dead_1 {a0 : gV} {b : gV} {r : List gV} (k : Gx Γ M pc (a0::(9, 0)::r) st v h t bc bs Q) : Gx Γ M pc (a0::b::r) st v h t bc bs Q := by
  refine Gx_dead0 ?_ ?_ k
  · exact (by
    intro j a hj ha
    match j, hj with
    | 0, hj => exact hj
    | 1, hj => exact absurd ha (by simp at hj; rw [← hj]; decide)
    | j + 2, hj => simpa using hj)
  · exact (fun ⟨q0, _, qr⟩ => ⟨q0, trivial, qr⟩)
theorem Gx_dead_2 {a0 a1 : gV} {b : gV} {r : List gV} (k : Gx Γ M pc (a0::a1::(9, 0)::r) st v h t bc bs Q) : Gx Γ M pc (a0::a1::b::r) st v h t bc bs Q := by
  refine Gx_dead0 ?_ ?_ k
  · exact (by
    intro j a hj ha
    match j, hj with
    | 0, hj => exact hj
    | 1, hj => exact hj
    | 2, hj => exact absurd ha (by simp at hj; rw [← hj]; decide)
    | j + 3, hj => simpa using hj)
  · exact (fun ⟨q0, q1, _, qr⟩ => ⟨q0, q1, trivial, qr⟩)
theorem Gx_dead_3 {a0 a1 a2 : gV} {b : gV} {r : List gV} (k : Gx Γ M pc (a0::a1::a2::(9, 0)::r) st v h t bc bs Q) : Gx Γ M pc (a0::a1::a2::b::r) st v h t bc bs Q := by
  refine Gx_dead0 ?_ ?_ k
  · exact (by
    intro j a hj ha
    match j, hj with
    | 0, hj => exact hj
    | 1, hj => exact hj
    | 2, hj => exact hj
    | 3, hj => exact absurd ha (by simp at hj; rw [← hj]; decide)
    | j + 4, hj => simpa using hj)
  · exact (fun ⟨q0, q1, q2, _, qr⟩ => ⟨q0, q1, q2, trivial, qr⟩)
theorem Gx_dead_4 {a0 a1 a2 a3 : gV} {b : gV} {r : List gV} (k : Gx Γ M pc (a0::a1::a2::a3::(9, 0)::r) st v h t bc bs Q) : Gx Γ M pc (a0::a1::a2::a3::b::r) st v h t bc bs Q := by
  refine Gx_dead0 ?_ ?_ k
  · exact (by
    intro j a hj ha
    match j, hj with
    | 0, hj => exact hj
    | 1, hj => exact hj
    | 2, hj => exact hj
    | 3, hj => exact hj
    | 4, hj => exact absurd ha (by simp at hj; rw [← hj]; decide)
    | j + 5, hj => simpa using hj)
  · exact (fun ⟨q0, q1, q2, q3, _, qr⟩ => ⟨q0, q1, q2, q3, trivial, qr⟩)
theorem Gx_dead_5 {a0 a1 a2 a3 a4 : gV} {b : gV} {r : List gV} (k : Gx Γ M pc (a0::a1::a2::a3::a4::(9, 0)::r) st v h t bc bs Q) : Gx Γ M pc (a0::a1::a2::a3::a4::b::r) st v h t bc bs Q := by
  refine Gx_dead0 ?_ ?_ k
  · exact (by
    intro j a hj ha
    match j, hj with
    | 0, hj => exact hj
    | 1, hj => exact hj
    | 2, hj => exact hj
    | 3, hj => exact hj
    | 4, hj => exact hj
    | 5, hj => exact absurd ha (by simp at hj; rw [← hj]; decide)
    | j + 6, hj => simpa using hj)
  · exact (fun ⟨q0, q1, q2, q3, q4, _, qr⟩ => ⟨q0, q1, q2, q3, q4, trivial, qr⟩)
theorem Gx_dead_6 {a0 a1 a2 a3 a4 a5 : gV} {b : gV} {r : List gV} (k : Gx Γ M pc (a0::a1::a2::a3::a4::a5::(9, 0)::r) st v h t bc bs Q) : Gx Γ M pc (a0::a1::a2::a3::a4::a5::b::r) st v h t bc bs Q := by
  refine Gx_dead0 ?_ ?_ k
  · exact (by
    intro j a hj ha
    match j, hj with
    | 0, hj => exact hj
    | 1, hj => exact hj
    | 2, hj => exact hj
    | 3, hj => exact hj
    | 4, hj => exact hj
    | 5, hj => exact hj
    | 6, hj => exact absurd ha (by simp at hj; rw [← hj]; decide)
    | j + 7, hj => simpa using hj)
  · exact (fun ⟨q0, q1, q2, q3, q4, q5, _, qr⟩ => ⟨q0, q1, q2, q3, q4, q5, trivial, qr⟩)
theorem Gx_dead_7 {a0 a1 a2 a3 a4 a5 a6 : gV} {b : gV} {r : List gV} (k : Gx Γ M pc (a0::a1::a2::a3::a4::a5::a6::(9, 0)::r) st v h t bc bs Q) : Gx Γ M pc (a0::a1::a2::a3::a4::a5::a6::b::r) st v h t bc bs Q := by
  refine Gx_dead0 ?_ ?_ k
  · exact (by
    intro j a hj ha
    match j, hj with
    | 0, hj => exact hj
    | 1, hj => exact hj
    | 2, hj => exact hj
    | 3, hj => exact hj
    | 4, hj => exact hj
    | 5, hj => exact hj
    | 6, hj => exact hj
    | 7, hj => exact absurd ha (by simp at hj; rw [← hj]; decide)
    | j + 8, hj => simpa using hj)
  · exact (fun ⟨q0, q1, q2, q3, q4, q5, q6, _, qr⟩ => ⟨q0, q1, q2, q3, q4, q5, q6, trivial, qr⟩)
theorem Gx_dead_8 {a0 a1 a2 a3 a4 a5 a6 a7 : gV} {b : gV} {r : List gV} (k : Gx Γ M pc (a0::a1::a2::a3::a4::a5::a6::a7::(9, 0)::r) st v h t bc bs Q) : Gx Γ M pc (a0::a1::a2::a3::a4::a5::a6::a7::b::r) st v h t bc bs Q := by
  refine Gx_dead0 ?_ ?_ k
  · exact (by
    intro j a hj ha
    match j, hj with
    | 0, hj => exact hj
    | 1, hj => exact hj
    | 2, hj => exact hj
    | 3, hj => exact hj
    | 4, hj => exact hj
    | 5, hj => exact hj
    | 6, hj => exact hj
    | 7, hj => exact hj
    | 8, hj => exact absurd ha (by simp at hj; rw [← hj]; decide)
    | j + 9, hj => simpa using hj)
  · exact (fun ⟨q0, q1, q2, q3, q4, q5, q6, q7, _, qr⟩ => ⟨q0, q1, q2, q3, q4, q5, q6, q7, trivial, qr⟩)
theorem Gx_dead_9 {a0 a1 a2 a3 a4 a5 a6 a7 a8 : gV} {b : gV} {r : List gV} (k : Gx Γ M pc (a0::a1::a2::a3::a4::a5::a6::a7::a8::(9, 0)::r) st v h t bc bs Q) : Gx Γ M pc (a0::a1::a2::a3::a4::a5::a6::a7::a8::b::r) st v h t bc bs Q := by
  refine Gx_dead0 ?_ ?_ k
  · exact (by
    intro j a hj ha
    match j, hj with
    | 0, hj => exact hj
    | 1, hj => exact hj
    | 2, hj => exact hj
    | 3, hj => exact hj
    | 4, hj => exact hj
    | 5, hj => exact hj
    | 6, hj => exact hj
    | 7, hj => exact hj
    | 8, hj => exact hj
    | 9, hj => exact absurd ha (by simp at hj; rw [← hj]; decide)
    | j + 10, hj => simpa using hj)
  · exact (fun ⟨q0, q1, q2, q3, q4, q5, q6, q7, q8, _, qr⟩ => ⟨q0, q1, q2, q3, q4, q5, q6, q7, q8, trivial, qr⟩)
theorem Gx_dead_10 {a0 a1 a2 a3 a4 a5 a6 a7 a8 a9 : gV} {b : gV} {r : List gV} (k : Gx Γ M pc (a0::a1::a2::a3::a4::a5::a6::a7::a8::a9::(9, 0)::r) st v h t bc bs Q) : Gx Γ M pc (a0::a1::a2::a3::a4::a5::a6::a7::a8::a9::b::r) st v h t bc bs Q := by
  refine Gx_dead0 ?_ ?_ k
  · exact (by
    intro j a hj ha
    match j, hj with
    | 0, hj => exact hj
    | 1, hj => exact hj
    | 2, hj => exact hj
    | 3, hj => exact hj
    | 4, hj => exact hj
    | 5, hj => exact hj
    | 6, hj => exact hj
    | 7, hj => exact hj
    | 8, hj => exact hj
    | 9, hj => exact hj
    | 10, hj => exact absurd ha (by simp at hj; rw [← hj]; decide)
    | j + 11, hj => simpa using hj)
  · exact (fun ⟨q0, q1, q2, q3, q4, q5, q6, q7, q8, q9, _, qr⟩ => ⟨q0, q1, q2, q3, q4, q5, q6, q7, q8, q9, trivial, qr⟩)
theorem Gx_dead_11 {a0 a1 a2 a3 a4 a5 a6 a7 a8 a9 a10 : gV} {b : gV} {r : List gV} (k : Gx Γ M pc (a0::a1::a2::a3::a4::a5::a6::a7::a8::a9::a10::(9, 0)::r) st v h t bc bs Q) : Gx Γ M pc (a0::a1::a2::a3::a4::a5::a6::a7::a8::a9::a10::b::r) st v h t bc bs Q := by
  refine Gx_dead0 ?_ ?_ k
  · exact (by
    intro j a hj ha
    match j, hj with
    | 0, hj => exact hj
    | 1, hj => exact hj
    | 2, hj => exact hj
    | 3, hj => exact hj
    | 4, hj => exact hj
    | 5, hj => exact hj
    | 6, hj => exact hj
    | 7, hj => exact hj
    | 8, hj => exact hj
    | 9, hj => exact hj
    | 10, hj => exact hj
    | 11, hj => exact absurd ha (by simp at hj; rw [← hj]; decide)
    | j + 12, hj => simpa using hj)
  · exact (fun ⟨q0, q1, q2, q3, q4, q5, q6, q7, q8, q9, q10, _, qr⟩ => ⟨q0, q1, q2, q3, q4, q5, q6, q7, q8, q9, q10, trivial, qr⟩)
theorem Gx_dead_12 {a0 a1 a2 a3 a4 a5 a6 a7 a8 a9 a10 a11 : gV} {b : gV} {r : List gV} (k : Gx Γ M pc (a0::a1::a2::a3::a4::a5::a6::a7::a8::a9::a10::a11::(9, 0)::r) st v h t bc bs Q) : Gx Γ M pc (a0::a1::a2::a3::a4::a5::a6::a7::a8::a9::a10::a11::b::r) st v h t bc bs Q := by
  refine Gx_dead0 ?_ ?_ k
  · exact (by
    intro j a hj ha
    match j, hj with
    | 0, hj => exact hj
    | 1, hj => exact hj
    | 2, hj => exact hj
    | 3, hj => exact hj
    | 4, hj => exact hj
    | 5, hj => exact hj
    | 6, hj => exact hj
    | 7, hj => exact hj
    | 8, hj => exact hj
    | 9, hj => exact hj
    | 10, hj => exact hj
    | 11, hj => exact hj
    | 12, hj => exact absurd ha (by simp at hj; rw [← hj]; decide)
    | j + 13, hj => simpa using hj)
  · exact (fun ⟨q0, q1, q2, q3, q4, q5, q6, q7, q8, q9, q10, q11, _, qr⟩ => ⟨q0, q1, q2, q3, q4, q5, q6, q7, q8, q9, q10, q11, trivial, qr⟩)
theorem Gx_dead_13 {a0 a1 a2 a3 a4 a5 a6 a7 a8 a9 a10 a11 a12 : gV} {b : gV} {r : List gV} (k : Gx Γ M pc (a0::a1::a2::a3::a4::a5::a6::a7::a8::a9::a10::a11::a12::(9, 0)::r) st v h t bc bs Q) : Gx Γ M pc (a0::a1::a2::a3::a4::a5::a6::a7::a8::a9::a10::a11::a12::b::r) st v h t bc bs Q := by
  refine Gx_dead0 ?_ ?_ k
  · exact (by
    intro j a hj ha
    match j, hj with
    | 0, hj => exact hj
    | 1, hj => exact hj
    | 2, hj => exact hj
    | 3, hj => exact hj
    | 4, hj => exact hj
    | 5, hj => exact hj
    | 6, hj => exact hj
    | 7, hj => exact hj
    | 8, hj => exact hj
    | 9, hj => exact hj
    | 10, hj => exact hj
    | 11, hj => exact hj
    | 12, hj => exact hj
    | 13, hj => exact absurd ha (by simp at hj; rw [← hj]; decide)
    | j + 14, hj => simpa using hj)
  · exact (fun ⟨q0, q1, q2, q3, q4, q5, q6, q7, q8, q9, q10, q11, q12, _, qr⟩ => ⟨q0, q1, q2, q3, q4, q5, q6, q7, q8, q9, q10, q11, q12, trivial, qr⟩)
theorem Gx_dead_14 {a0 a1 a2 a3 a4 a5 a6 a7 a8 a9 a10 a11 a12 a13 : gV} {b : gV} {r : List gV} (k : Gx Γ M pc (a0::a1::a2::a3::a4::a5::a6::a7::a8::a9::a10::a11::a12::a13::(9, 0)::r) st v h t bc bs Q) : Gx Γ M pc (a0::a1::a2::a3::a4::a5::a6::a7::a8::a9::a10::a11::a12::a13::b::r) st v h t bc bs Q := by
  refine Gx_dead0 ?_ ?_ k
  · exact (by
    intro j a hj ha
    match j, hj with
    | 0, hj => exact hj
    | 1, hj => exact hj
    | 2, hj => exact hj
    | 3, hj => exact hj
    | 4, hj => exact hj
    | 5, hj => exact hj
    | 6, hj => exact hj
    | 7, hj => exact hj
    | 8, hj => exact hj
    | 9, hj => exact hj
    | 10, hj => exact hj
    | 11, hj => exact hj
    | 12, hj => exact hj
    | 13, hj => exact hj
    | 14, hj => exact absurd ha (by simp at hj; rw [← hj]; decide)
    | j + 15, hj => simpa using hj)
  · exact (fun ⟨q0, q1, q2, q3, q4, q5, q6, q7, q8, q9, q10, q11, q12, q13, _, qr⟩ => ⟨q0, q1, q2, q3, q4, q5, q6, q7, q8, q9, q10, q11, q12, q13, trivial, qr⟩)
theorem Gx_dead_15 {a0 a1 a2 a3 a4 a5 a6 a7 a8 a9 a10 a11 a12 a13 a14 : gV} {b : gV} {r : List gV} (k : Gx Γ M pc (a0::a1::a2::a3::a4::a5::a6::a7::a8::a9::a10::a11::a12::a13::a14::(9, 0)::r) st v h t bc bs Q) : Gx Γ M pc (a0::a1::a2::a3::a4::a5::a6::a7::a8::a9::a10::a11::a12::a13::a14::b::r) st v h t bc bs Q := by
  refine Gx_dead0 ?_ ?_ k
  · exact (by
    intro j a hj ha
    match j, hj with
    | 0, hj => exact hj
    | 1, hj => exact hj
    | 2, hj => exact hj
    | 3, hj => exact hj
    | 4, hj => exact hj
    | 5, hj => exact hj
    | 6, hj => exact hj
    | 7, hj => exact hj
    | 8, hj => exact hj
    | 9, hj => exact hj
    | 10, hj => exact hj
    | 11, hj => exact hj
    | 12, hj => exact hj
    | 13, hj => exact hj
    | 14, hj => exact hj
    | 15, hj => exact absurd ha (by simp at hj; rw [← hj]; decide)
    | j + 16, hj => simpa using hj)
  · exact (fun ⟨q0, q1, q2, q3, q4, q5, q6, q7, q8, q9, q10, q11, q12, q13, q14, _, qr⟩ => ⟨q0, q1, q2, q3, q4, q5, q6, q7, q8, q9, q10, q11, q12, q13, q14, trivial, qr⟩)
theorem Gx_dead_16 {a0 a1 a2 a3 a4 a5 a6 a7 a8 a9 a10 a11 a12 a13 a14 a15 : gV} {b : gV} {r : List gV} (k : Gx Γ M pc (a0::a1::a2::a3::a4::a5::a6::a7::a8::a9::a10::a11::a12::a13::a14::a15::(9, 0)::r) st v h t bc bs Q) : Gx Γ M pc (a0::a1::a2::a3::a4::a5::a6::a7::a8::a9::a10::a11::a12::a13::a14::a15::b::r) st v h t bc bs Q := by
  refine Gx_dead0 ?_ ?_ k
  · exact (by
    intro j a hj ha
    match j, hj with
    | 0, hj => exact hj
    | 1, hj => exact hj
    | 2, hj => exact hj
    | 3, hj => exact hj
    | 4, hj => exact hj
    | 5, hj => exact hj
    | 6, hj => exact hj
    | 7, hj => exact hj
    | 8, hj => exact hj
    | 9, hj => exact hj
    | 10, hj => exact hj
    | 11, hj => exact hj
    | 12, hj => exact hj
    | 13, hj => exact hj
    | 14, hj => exact hj
    | 15, hj => exact hj
    | 16, hj => exact absurd ha (by simp at hj; rw [← hj]; decide)
    | j + 17, hj => simpa using hj)
  · exact (fun ⟨q0, q1, q2, q3, q4, q5, q6, q7, q8, q9, q10, q11, q12, q13, q14, q15, _, qr⟩ => ⟨q0, q1, q2, q3, q4, q5, q6, q7, q8, q9, q10, q11, q12, q13, q14, q15, trivial, qr⟩)
theorem Gx_dead_17 {a0 a1 a2 a3 a4 a5 a6 a7 a8 a9 a10 a11 a12 a13 a14 a15 a16 : gV} {b : gV} {r : List gV} (k : Gx Γ M pc (a0::a1::a2::a3::a4::a5::a6::a7::a8::a9::a10::a11::a12::a13::a14::a15::a16::(9, 0)::r) st v h t bc bs Q) : Gx Γ M pc (a0::a1::a2::a3::a4::a5::a6::a7::a8::a9::a10::a11::a12::a13::a14::a15::a16::b::r) st v h t bc bs Q := by
  refine Gx_dead0 ?_ ?_ k
  · exact (by
    intro j a hj ha
    match j, hj with
    | 0, hj => exact hj
    | 1, hj => exact hj
    | 2, hj => exact hj
    | 3, hj => exact hj
    | 4, hj => exact hj
    | 5, hj => exact hj
    | 6, hj => exact hj
    | 7, hj => exact hj
    | 8, hj => exact hj
    | 9, hj => exact hj
    | 10, hj => exact hj
    | 11, hj => exact hj
    | 12, hj => exact hj
    | 13, hj => exact hj
    | 14, hj => exact hj
    | 15, hj => exact hj
    | 16, hj => exact hj
    | 17, hj => exact absurd ha (by simp at hj; rw [← hj]; decide)
    | j + 18, hj => simpa using hj)
  · exact (fun ⟨q0, q1, q2, q3, q4, q5, q6, q7, q8, q9, q10, q11, q12, q13, q14, q15, q16, _, qr⟩ => ⟨q0, q1, q2, q3, q4, q5, q6, q7, q8, q9, q10, q11, q12, q13, q14, q15, q16, trivial, qr⟩)
theorem Gx_dead_18 {a0 a1 a2 a3 a4 a5 a6 a7 a8 a9 a10 a11 a12 a13 a14 a15 a16 a17 : gV} {b : gV} {r : List gV} (k : Gx Γ M pc (a0::a1::a2::a3::a4::a5::a6::a7::a8::a9::a10::a11::a12::a13::a14::a15::a16::a17::(9, 0)::r) st v h t bc bs Q) : Gx Γ M pc (a0::a1::a2::a3::a4::a5::a6::a7::a8::a9::a10::a11::a12::a13::a14::a15::a16::a17::b::r) st v h t bc bs Q := by
  refine Gx_dead0 ?_ ?_ k
  · exact (by
    intro j a hj ha
    match j, hj with
    | 0, hj => exact hj
    | 1, hj => exact hj
    | 2, hj => exact hj
    | 3, hj => exact hj
    | 4, hj => exact hj
    | 5, hj => exact hj
    | 6, hj => exact hj
    | 7, hj => exact hj
    | 8, hj => exact hj
    | 9, hj => exact hj
    | 10, hj => exact hj
    | 11, hj => exact hj
    | 12, hj => exact hj
    | 13, hj => exact hj
    | 14, hj => exact hj
    | 15, hj => exact hj
    | 16, hj => exact hj
    | 17, hj => exact hj
    | 18, hj => exact absurd ha (by simp at hj; rw [← hj]; decide)
    | j + 19, hj => simpa using hj)
  · exact (fun ⟨q0, q1, q2, q3, q4, q5, q6, q7, q8, q9, q10, q11, q12, q13, q14, q15, q16, q17, _, qr⟩ => ⟨q0, q1, q2, q3, q4, q5, q6, q7, q8, q9, q10, q11, q12, q13, q14, q15, q16, q17, trivial, qr⟩)
theorem Gx_dead_19 {a0 a1 a2 a3 a4 a5 a6 a7 a8 a9 a10 a11 a12 a13 a14 a15 a16 a17 a18 : gV} {b : gV} {r : List gV} (k : Gx Γ M pc (a0::a1::a2::a3::a4::a5::a6::a7::a8::a9::a10::a11::a12::a13::a14::a15::a16::a17::a18::(9, 0)::r) st v h t bc bs Q) : Gx Γ M pc (a0::a1::a2::a3::a4::a5::a6::a7::a8::a9::a10::a11::a12::a13::a14::a15::a16::a17::a18::b::r) st v h t bc bs Q := by
  refine Gx_dead0 ?_ ?_ k
  · exact (by
    intro j a hj ha
    match j, hj with
    | 0, hj => exact hj
    | 1, hj => exact hj
    | 2, hj => exact hj
    | 3, hj => exact hj
    | 4, hj => exact hj
    | 5, hj => exact hj
    | 6, hj => exact hj
    | 7, hj => exact hj
    | 8, hj => exact hj
    | 9, hj => exact hj
    | 10, hj => exact hj
    | 11, hj => exact hj
    | 12, hj => exact hj
    | 13, hj => exact hj
    | 14, hj => exact hj
    | 15, hj => exact hj
    | 16, hj => exact hj
    | 17, hj => exact hj
    | 18, hj => exact hj
    | 19, hj => exact absurd ha (by simp at hj; rw [← hj]; decide)
    | j + 20, hj => simpa using hj)
  · exact (fun ⟨q0, q1, q2, q3, q4, q5, q6, q7, q8, q9, q10, q11, q12, q13, q14, q15, q16, q17, q18, _, qr⟩ => ⟨q0, q1, q2, q3, q4, q5, q6, q7, q8, q9, q10, q11, q12, q13, q14, q15, q16, q17, q18, trivial, qr⟩)
theorem Gx_iadd {x y : Int} (d : decode M.2.1 pc = .ok (.iadd, 1)) (k : Gx Γ M (pc + 1) ls ((0, w32 (x + y)) :: st) v h t bc bs Q) : Gx Γ M pc ls ((0, y) :: (0, x) :: st) v h t bc bs Q := by
  refine Gx.op ?_ ?_ k
  · exact (fun hr => ⟨r32_w32 _, hr.2.2⟩)
  · exact (fun hr p e R s m args below meth c Z H locs cells slots lsa hx hb ho hw hl k => lv_iadd hx hb d (by rw [← Int32.ofInt_add, ← of32_w32]; exact k))
theorem Gx_isub {x y : Int} (d : decode M.2.1 pc = .ok (.isub, 1)) (k : Gx Γ M (pc + 1) ls ((0, w32 (x - y)) :: st) v h t bc bs Q) : Gx Γ M pc ls ((0, y) :: (0, x) :: st) v h t bc bs Q := by
  refine Gx.op ?_ ?_ k
  · exact (fun hr => ⟨r32_w32 _, hr.2.2⟩)
  · exact (fun hr p e R s m args below meth c Z H locs cells slots lsa hx hb ho hw hl k => lv_isub hx hb d (by rw [← Int32.ofInt_sub, ← of32_w32]; exact k))
theorem Gx_imul {x y : Int} (d : decode M.2.1 pc = .ok (.imul, 1)) (k : Gx Γ M (pc + 1) ls ((0, w32 (x * y)) :: st) v h t bc bs Q) : Gx Γ M pc ls ((0, y) :: (0, x) :: st) v h t bc bs Q := by
  refine Gx.op ?_ ?_ k
  · exact (fun hr => ⟨r32_w32 _, hr.2.2⟩)
  · exact (fun hr p e R s m args below meth c Z H locs cells slots lsa hx hb ho hw hl k => lv_imul hx hb d (by rw [← Int32.ofInt_mul, ← of32_w32]; exact k))
theorem Gx_iand {x y : Int} (d : decode M.2.1 pc = .ok (.iand, 1)) (k : Gx Γ M (pc + 1) ls ((0, wAnd x y) :: st) v h t bc bs Q) : Gx Γ M pc ls ((0, y) :: (0, x) :: st) v h t bc bs Q := by
  refine Gx.op ?_ ?_ k
  · exact (fun hr => ⟨r32_toInt _, hr.2.2⟩)
  · exact (fun hr p e R s m args below meth c Z H locs cells slots lsa hx hb ho hw hl k => lv_iand hx hb d (by rw [← of32_eq (x := wAnd x y) rfl]; exact k))
theorem Gx_ior {x y : Int} (d : decode M.2.1 pc = .ok (.ior, 1)) (k : Gx Γ M (pc + 1) ls ((0, wOr x y) :: st) v h t bc bs Q) : Gx Γ M pc ls ((0, y) :: (0, x) :: st) v h t bc bs Q := by
  refine Gx.op ?_ ?_ k
  · exact (fun hr => ⟨r32_toInt _, hr.2.2⟩)
  · exact (fun hr p e R s m args below meth c Z H locs cells slots lsa hx hb ho hw hl k => lv_ior hx hb d (by rw [← of32_eq (x := wOr x y) rfl]; exact k))
theorem Gx_ixor {x y : Int} (d : decode M.2.1 pc = .ok (.ixor, 1)) (k : Gx Γ M (pc + 1) ls ((0, wXor x y) :: st) v h t bc bs Q) : Gx Γ M pc ls ((0, y) :: (0, x) :: st) v h t bc bs Q := by
  refine Gx.op ?_ ?_ k
  · exact (fun hr => ⟨r32_toInt _, hr.2.2⟩)
  · exact (fun hr p e R s m args below meth c Z H locs cells slots lsa hx hb ho hw hl k => lv_ixor hx hb d (by rw [← of32_eq (x := wXor x y) rfl]; exact k))
theorem Gx_ishl {x y : Int} (d : decode M.2.1 pc = .ok (.ishl, 1)) (k : Gx Γ M (pc + 1) ls ((0, wShl x y) :: st) v h t bc bs Q) : Gx Γ M pc ls ((0, y) :: (0, x) :: st) v h t bc bs Q := by
  refine Gx.op ?_ ?_ k
  · exact (fun hr => ⟨r32_toInt _, hr.2.2⟩)
  · exact (fun hr p e R s m args below meth c Z H locs cells slots lsa hx hb ho hw hl k => lv_ishl hx hb d (by rw [← of32_eq (x := wShl x y) rfl]; exact k))
theorem Gx_ishr {x y : Int} (d : decode M.2.1 pc = .ok (.ishr, 1)) (k : Gx Γ M (pc + 1) ls ((0, wShr x y) :: st) v h t bc bs Q) : Gx Γ M pc ls ((0, y) :: (0, x) :: st) v h t bc bs Q := by
  refine Gx.op ?_ ?_ k
  · exact (fun hr => ⟨r32_toInt _, hr.2.2⟩)
  · exact (fun hr p e R s m args below meth c Z H locs cells slots lsa hx hb ho hw hl k => lv_ishr hx hb d (by rw [← of32_eq (x := wShr x y) rfl]; exact k))
theorem Gx_iushr {x y : Int} (d : decode M.2.1 pc = .ok (.iushr, 1)) (k : Gx Γ M (pc + 1) ls ((0, wUshr x y) :: st) v h t bc bs Q) : Gx Γ M pc ls ((0, y) :: (0, x) :: st) v h t bc bs Q := by
  refine Gx.op ?_ ?_ k
  · exact (fun hr => ⟨r32_toInt _, hr.2.2⟩)
  · exact (fun hr p e R s m args below meth c Z H locs cells slots lsa hx hb ho hw hl k => lv_iushr hx hb d (v := Int32.ofInt (wUshr x y)) (of32_eq rfl).symm k)
theorem Gx_ladd {x y : Int} (d : decode M.2.1 pc = .ok (.ladd, 1)) (k : Gx Γ M (pc + 1) ls ((1, w64 (x + y)) :: st) v h t bc bs Q) : Gx Γ M pc ls ((1, y) :: (1, x) :: st) v h t bc bs Q := by
  refine Gx.op ?_ ?_ k
  · exact (fun hr => ⟨r64_w64 _, hr.2.2⟩)
  · exact (fun hr p e R s m args below meth c Z H locs cells slots lsa hx hb ho hw hl k => lv_ladd hx hb d (by rw [← Int64.ofInt_add, ← of64_w64]; exact k))
theorem Gx_lsub {x y : Int} (d : decode M.2.1 pc = .ok (.lsub, 1)) (k : Gx Γ M (pc + 1) ls ((1, w64 (x - y)) :: st) v h t bc bs Q) : Gx Γ M pc ls ((1, y) :: (1, x) :: st) v h t bc bs Q := by
  refine Gx.op ?_ ?_ k
  · exact (fun hr => ⟨r64_w64 _, hr.2.2⟩)
  · exact (fun hr p e R s m args below meth c Z H locs cells slots lsa hx hb ho hw hl k => lv_lsub hx hb d (by rw [← Int64.ofInt_sub, ← of64_w64]; exact k))
theorem Gx_lmul {x y : Int} (d : decode M.2.1 pc = .ok (.lmul, 1)) (k : Gx Γ M (pc + 1) ls ((1, w64 (x * y)) :: st) v h t bc bs Q) : Gx Γ M pc ls ((1, y) :: (1, x) :: st) v h t bc bs Q := by
  refine Gx.op ?_ ?_ k
  · exact (fun hr => ⟨r64_w64 _, hr.2.2⟩)
  · exact (fun hr p e R s m args below meth c Z H locs cells slots lsa hx hb ho hw hl k => lv_lmul hx hb d (by rw [← Int64.ofInt_mul, ← of64_w64]; exact k))
theorem Gx_idiv {x y : Int} (d : decode M.2.1 pc = .ok (.idiv, 1)) (hy : y ≠ 0) (k : Gx Γ M (pc + 1) ls ((0, w32 (x.tdiv y)) :: st) v h t bc bs Q) : Gx Γ M pc ls ((0, y) :: (0, x) :: st) v h t bc bs Q := by
  refine Gx.op ?_ ?_ k
  · exact (fun hr => ⟨r32_w32 _, hr.2.2⟩)
  · exact (fun hr p e R s m args below meth c Z H locs cells slots lsa hx hb ho hw hl k => lv_idiv hx hb d (fun h0 => hy ((eq32i hr.1 (by unfold r32; omega)).mp h0)) (by rw [of32_div hr.2.1 hr.1]; exact k))
theorem Gx_irem {x y : Int} (d : decode M.2.1 pc = .ok (.irem, 1)) (hy : y ≠ 0) (k : Gx Γ M (pc + 1) ls ((0, x.tmod y) :: st) v h t bc bs Q) : Gx Γ M pc ls ((0, y) :: (0, x) :: st) v h t bc bs Q := by
  refine Gx.op ?_ ?_ k
  · exact (fun hr => ⟨tmod32 hr.2.1 hr.1 hy, hr.2.2⟩)
  · exact (fun hr p e R s m args below meth c Z H locs cells slots lsa hx hb ho hw hl k => lv_irem hx hb d (fun h0 => hy ((eq32i hr.1 (by unfold r32; omega)).mp h0)) (by rw [of32_rem hr.2.1 hr.1 hy]; exact k))
theorem Gx_ldiv {x y : Int} (d : decode M.2.1 pc = .ok (.ldiv, 1)) (hy : y ≠ 0) (k : Gx Γ M (pc + 1) ls ((1, w64 (x.tdiv y)) :: st) v h t bc bs Q) : Gx Γ M pc ls ((1, y) :: (1, x) :: st) v h t bc bs Q := by
  refine Gx.op ?_ ?_ k
  · exact (fun hr => ⟨r64_w64 _, hr.2.2⟩)
  · exact (fun hr p e R s m args below meth c Z H locs cells slots lsa hx hb ho hw hl k => lv_ldiv hx hb d (fun h0 => hy ((eq64i hr.1 (by unfold r64; omega)).mp h0)) (by rw [of64_div hr.2.1 hr.1]; exact k))
theorem Gx_lrem {x y : Int} (d : decode M.2.1 pc = .ok (.lrem, 1)) (hy : y ≠ 0) (k : Gx Γ M (pc + 1) ls ((1, x.tmod y) :: st) v h t bc bs Q) : Gx Γ M pc ls ((1, y) :: (1, x) :: st) v h t bc bs Q := by
  refine Gx.op ?_ ?_ k
  · exact (fun hr => ⟨tmod64 hr.2.1 hr.1 hy, hr.2.2⟩)
  · exact (fun hr p e R s m args below meth c Z H locs cells slots lsa hx hb ho hw hl k => lv_lrem hx hb d (fun h0 => hy ((eq64i hr.1 (by unfold r64; omega)).mp h0)) (by rw [of64_rem hr.2.1 hr.1 hy]; exact k))
theorem Gx_i2l {x : Int} (d : decode M.2.1 pc = .ok (.i2l, 1)) (k : Gx Γ M (pc + 1) ls ((1, x) :: st) v h t bc bs Q) : Gx Γ M pc ls ((0, x) :: st) v h t bc bs Q := by
  refine Gx.op ?_ ?_ k
  · exact (fun hr => ⟨r64_r32 hr.1, hr.2⟩)
  · exact (fun hr p e R s m args below meth c Z H locs cells slots lsa hx hb ho hw hl k => lv_i2l hx hb d (of32_i2l hr.1) k)
theorem Gx_l2i {x : Int} (d : decode M.2.1 pc = .ok (.l2i, 1)) (k : Gx Γ M (pc + 1) ls ((0, w32 x) :: st) v h t bc bs Q) : Gx Γ M pc ls ((1, x) :: st) v h t bc bs Q := by
  refine Gx.op ?_ ?_ k
  · exact (fun hr => ⟨r32_w32 _, hr.2⟩)
  · exact (fun hr p e R s m args below meth c Z H locs cells slots lsa hx hb ho hw hl k => lv_l2i hx hb d (of64_l2i hr.1) k)
theorem Gx_i2b {x : Int} (d : decode M.2.1 pc = .ok (.i2b, 1)) (k : Gx Γ M (pc + 1) ls ((0, w8 x) :: st) v h t bc bs Q) : Gx Γ M pc ls ((0, x) :: st) v h t bc bs Q := by
  refine Gx.op ?_ ?_ k
  · exact (fun hr => ⟨r32_w8 _, hr.2⟩)
  · exact (fun hr p e R s m args below meth c Z H locs cells slots lsa hx hb ho hw hl k => lv_i2b hx hb d (of32_i2b x) k)
theorem Gx_i2s {x : Int} (d : decode M.2.1 pc = .ok (.i2s, 1)) (k : Gx Γ M (pc + 1) ls ((0, w16 x) :: st) v h t bc bs Q) : Gx Γ M pc ls ((0, x) :: st) v h t bc bs Q := by
  refine Gx.op ?_ ?_ k
  · exact (fun hr => ⟨r32_w16 _, hr.2⟩)
  · exact (fun hr p e R s m args below meth c Z H locs cells slots lsa hx hb ho hw hl k => lv_i2s hx hb d (of32_i2s x) k)
theorem Gx_lcmp {x y : Int} (d : decode M.2.1 pc = .ok (.lcmp, 1)) (k : Gx Γ M (pc + 1) ls ((0, gCmp x y) :: st) v h t bc bs Q) : Gx Γ M pc ls ((1, y) :: (1, x) :: st) v h t bc bs Q := by
  refine Gx.op ?_ ?_ k
  · exact (fun hr => ⟨r32_gCmp _ _, hr.2.2⟩)
  · exact (fun hr p e R s m args below meth c Z H locs cells slots lsa hx hb ho hw hl k => W.lcmp hx hb d (by rw [of64_cmp hr.2.1 hr.1]; exact k))
theorem Gx_dup {a : gV} (ha : a.1 ≠ 1) (d : decode M.2.1 pc = .ok (.dup, 1)) (k : Gx Γ M (pc + 1) ls (a :: a :: st) v h t bc bs Q) : Gx Γ M pc ls (a :: st) v h t bc bs Q := by
  refine Gx.op ?_ ?_ k
  · exact (fun hr => ⟨hr.1, hr⟩)
  · exact (fun hr p e R s m args below meth c Z H locs cells slots lsa hx hb ho hw hl k => lv_dup hx hb d (by rw [gCv_cat, if_neg ha]) k)
theorem Gx_pop {a : gV} (ha : a.1 ≠ 1) (d : decode M.2.1 pc = .ok (.pop, 1)) (k : Gx Γ M (pc + 1) ls st v h t bc bs Q) : Gx Γ M pc ls (a :: st) v h t bc bs Q := by
  refine Gx.op ?_ ?_ k
  · exact (fun hr => hr.2)
  · exact (fun hr p e R s m args below meth c Z H locs cells slots lsa hx hb ho hw hl k => lv_pop hx hb d (by rw [gCv_cat, if_neg ha]) k)
theorem Gx_dup2 {a b : gV} (ha : a.1 ≠ 1) (hb' : b.1 ≠ 1) (d : decode M.2.1 pc = .ok (.dup2, 1)) (k : Gx Γ M (pc + 1) ls (a :: b :: a :: b :: st) v h t bc bs Q) : Gx Γ M pc ls (a :: b :: st) v h t bc bs Q := by
  refine Gx.op ?_ ?_ k
  · exact (fun hr => ⟨hr.1, hr.2.1, hr⟩)
  · exact (fun hr p e R s m args below meth c Z H locs cells slots lsa hx hb ho hw hl k => lv_dup2_11 hx hb d (by rw [gCv_cat, if_neg ha]) (by rw [gCv_cat, if_neg hb']) k)
theorem Gx_goto {off : Int} {tgt : Nat} (d : decode M.2.1 pc = .ok (.goto off, 3)) (ht : (pc : Int) + off = (tgt : Int)) (k : Gx Γ M tgt ls st v h t bc bs Q) : Gx Γ M pc ls st v h t bc bs Q := by
  refine Gx.op ?_ ?_ k
  · exact (fun hr => hr)
  · exact (fun hr p e R s m args below meth c Z H locs cells slots lsa hx hb ho hw hl k => lv_goto hx hb d ht k)
theorem Gx.br {pc1 pc2 : Nat} {st' : List gV} {P : Prop} (hr : gRs t st → gRs t st')
    (step : gRs t st → ∀ (p : Program) (e : Env) (R : Room) (s : State) (m : MethodId) (args : Array Value) (below : List Frame) (meth : Method) (c : Code) (Z : State → Prop) (H : Heap) (locs : List Loc) (cells slots : Nat) (lsa : Array Slot), p.tables.exec = Jvm.exec → c.code = M.2.1 → (P → W p Γ.1 e R s m args below meth c H locs cells slots Z (F0 m pc1 lsa (st'.map (gCv Γ)))) → (¬ P → W p Γ.1 e R s m args below meth c H locs cells slots Z (F0 m pc2 lsa (st'.map (gCv Γ)))) → W p Γ.1 e R s m args below meth c H locs cells slots Z (F0 m pc lsa (st.map (gCv Γ))))
    (k1 : P → Gx Γ M pc1 ls st' v h t bc bs Q) (k2 : ¬ P → Gx Γ M pc2 ls st' v h t bc bs Q) : Gx Γ M pc ls st v h t bc bs Q := by
  intro p e R s m args below meth c Z C H locs cells slots lsa h1 h2 h3 h4 h5 h6 h7
  exact step h7 p e R s m args below meth c Z H locs cells slots lsa C.1 C.2.1 (fun hp => k1 hp p e R s m args below meth c Z C H locs cells slots lsa h1 h2 h3 h4 h5 h6 (hr h7)) (fun hp => k2 hp p e R s m args below meth c Z C H locs cells slots lsa h1 h2 h3 h4 h5 h6 (hr h7))
theorem Gx_icmp_eq {x y off : Int} {tgt : Nat} (d : decode M.2.1 pc = .ok (.if_icmp .eq off, 3)) (ht : (pc : Int) + off = (tgt : Int)) (k1 : x = y → Gx Γ M tgt ls st v h t bc bs Q) (k2 : x ≠ y → Gx Γ M (pc + 3) ls st v h t bc bs Q) : Gx Γ M pc ls ((0, y) :: (0, x) :: st) v h t bc bs Q := by
  refine Gx.br (P := x = y) ?_ ?_ k1 (fun q => k2 (by omega))
  · exact (fun hr => hr.2.2)
  · exact (fun hr p e R s m args below meth c Z H locs cells slots lsa hx hb k1 k2 => lv_icmp_eq hx hb d ht (fun q => k1 ((eq32i hr.2.1 hr.1).mp q)) (fun q => k2 (fun z => q ((eq32i hr.2.1 hr.1).mpr z))))
theorem Gx_if_eq {x off : Int} {tgt : Nat} (d : decode M.2.1 pc = .ok (.ifCond .eq off, 3)) (ht : (pc : Int) + off = (tgt : Int)) (k1 : x = 0 → Gx Γ M tgt ls st v h t bc bs Q) (k2 : x ≠ 0 → Gx Γ M (pc + 3) ls st v h t bc bs Q) : Gx Γ M pc ls ((0, x) :: st) v h t bc bs Q := by
  refine Gx.br (P := x = 0) ?_ ?_ k1 (fun q => k2 (by omega))
  · exact (fun hr => hr.2)
  · exact (fun hr p e R s m args below meth c Z H locs cells slots lsa hx hb k1 k2 => lv_if_eq hx hb d ht (fun q => k1 ((eq32i hr.1 r32_0).mp q)) (fun q => k2 (fun z => q ((eq32i hr.1 r32_0).mpr z))))
theorem Gx_icmp_ne {x y off : Int} {tgt : Nat} (d : decode M.2.1 pc = .ok (.if_icmp .ne off, 3)) (ht : (pc : Int) + off = (tgt : Int)) (k1 : x ≠ y → Gx Γ M tgt ls st v h t bc bs Q) (k2 : x = y → Gx Γ M (pc + 3) ls st v h t bc bs Q) : Gx Γ M pc ls ((0, y) :: (0, x) :: st) v h t bc bs Q := by
  refine Gx.br (P := x ≠ y) ?_ ?_ k1 (fun q => k2 (by omega))
  · exact (fun hr => hr.2.2)
  · exact (fun hr p e R s m args below meth c Z H locs cells slots lsa hx hb k1 k2 => lv_icmp_ne hx hb d ht (fun q => k1 ((not_congr (eq32i hr.2.1 hr.1)).mp q)) (fun q => k2 (fun z => z ((eq32i hr.2.1 hr.1).mp q))))
theorem Gx_if_ne {x off : Int} {tgt : Nat} (d : decode M.2.1 pc = .ok (.ifCond .ne off, 3)) (ht : (pc : Int) + off = (tgt : Int)) (k1 : x ≠ 0 → Gx Γ M tgt ls st v h t bc bs Q) (k2 : x = 0 → Gx Γ M (pc + 3) ls st v h t bc bs Q) : Gx Γ M pc ls ((0, x) :: st) v h t bc bs Q := by
  refine Gx.br (P := x ≠ 0) ?_ ?_ k1 (fun q => k2 (by omega))
  · exact (fun hr => hr.2)
  · exact (fun hr p e R s m args below meth c Z H locs cells slots lsa hx hb k1 k2 => lv_if_ne hx hb d ht (fun q => k1 ((not_congr (eq32i hr.1 r32_0)).mp q)) (fun q => k2 (fun z => z ((eq32i hr.1 r32_0).mp q))))
theorem Gx_icmp_lt {x y off : Int} {tgt : Nat} (d : decode M.2.1 pc = .ok (.if_icmp .lt off, 3)) (ht : (pc : Int) + off = (tgt : Int)) (k1 : x < y → Gx Γ M tgt ls st v h t bc bs Q) (k2 : y ≤ x → Gx Γ M (pc + 3) ls st v h t bc bs Q) : Gx Γ M pc ls ((0, y) :: (0, x) :: st) v h t bc bs Q := by
  refine Gx.br (P := x < y) ?_ ?_ k1 (fun q => k2 (by omega))
  · exact (fun hr => hr.2.2)
  · exact (fun hr p e R s m args below meth c Z H locs cells slots lsa hx hb k1 k2 => lv_icmp_lt hx hb d ht (fun q => k1 ((lt32 hr.2.1 hr.1).mp q)) (fun q => k2 (fun z => q ((lt32 hr.2.1 hr.1).mpr z))))
theorem Gx_if_lt {x off : Int} {tgt : Nat} (d : decode M.2.1 pc = .ok (.ifCond .lt off, 3)) (ht : (pc : Int) + off = (tgt : Int)) (k1 : x < 0 → Gx Γ M tgt ls st v h t bc bs Q) (k2 : 0 ≤ x → Gx Γ M (pc + 3) ls st v h t bc bs Q) : Gx Γ M pc ls ((0, x) :: st) v h t bc bs Q := by
  refine Gx.br (P := x < 0) ?_ ?_ k1 (fun q => k2 (by omega))
  · exact (fun hr => hr.2)
  · exact (fun hr p e R s m args below meth c Z H locs cells slots lsa hx hb k1 k2 => lv_if_lt hx hb d ht (fun q => k1 ((lt32 hr.1 r32_0).mp q)) (fun q => k2 (fun z => q ((lt32 hr.1 r32_0).mpr z))))
theorem Gx_icmp_ge {x y off : Int} {tgt : Nat} (d : decode M.2.1 pc = .ok (.if_icmp .ge off, 3)) (ht : (pc : Int) + off = (tgt : Int)) (k1 : y ≤ x → Gx Γ M tgt ls st v h t bc bs Q) (k2 : x < y → Gx Γ M (pc + 3) ls st v h t bc bs Q) : Gx Γ M pc ls ((0, y) :: (0, x) :: st) v h t bc bs Q := by
  refine Gx.br (P := y ≤ x) ?_ ?_ k1 (fun q => k2 (by omega))
  · exact (fun hr => hr.2.2)
  · exact (fun hr p e R s m args below meth c Z H locs cells slots lsa hx hb k1 k2 => lv_icmp_ge hx hb d ht (fun q => k1 ((le32 hr.1 hr.2.1).mp q)) (fun q => k2 (fun z => q ((le32 hr.1 hr.2.1).mpr z))))
theorem Gx_if_ge {x off : Int} {tgt : Nat} (d : decode M.2.1 pc = .ok (.ifCond .ge off, 3)) (ht : (pc : Int) + off = (tgt : Int)) (k1 : 0 ≤ x → Gx Γ M tgt ls st v h t bc bs Q) (k2 : x < 0 → Gx Γ M (pc + 3) ls st v h t bc bs Q) : Gx Γ M pc ls ((0, x) :: st) v h t bc bs Q := by
  refine Gx.br (P := 0 ≤ x) ?_ ?_ k1 (fun q => k2 (by omega))
  · exact (fun hr => hr.2)
  · exact (fun hr p e R s m args below meth c Z H locs cells slots lsa hx hb k1 k2 => lv_if_ge hx hb d ht (fun q => k1 ((le32 r32_0 hr.1).mp q)) (fun q => k2 (fun z => q ((le32 r32_0 hr.1).mpr z))))
theorem Gx_icmp_gt {x y off : Int} {tgt : Nat} (d : decode M.2.1 pc = .ok (.if_icmp .gt off, 3)) (ht : (pc : Int) + off = (tgt : Int)) (k1 : y < x → Gx Γ M tgt ls st v h t bc bs Q) (k2 : x ≤ y → Gx Γ M (pc + 3) ls st v h t bc bs Q) : Gx Γ M pc ls ((0, y) :: (0, x) :: st) v h t bc bs Q := by
  refine Gx.br (P := y < x) ?_ ?_ k1 (fun q => k2 (by omega))
  · exact (fun hr => hr.2.2)
  · exact (fun hr p e R s m args below meth c Z H locs cells slots lsa hx hb k1 k2 => lv_icmp_gt hx hb d ht (fun q => k1 ((lt32 hr.1 hr.2.1).mp q)) (fun q => k2 (fun z => q ((lt32 hr.1 hr.2.1).mpr z))))
theorem Gx_if_gt {x off : Int} {tgt : Nat} (d : decode M.2.1 pc = .ok (.ifCond .gt off, 3)) (ht : (pc : Int) + off = (tgt : Int)) (k1 : 0 < x → Gx Γ M tgt ls st v h t bc bs Q) (k2 : x ≤ 0 → Gx Γ M (pc + 3) ls st v h t bc bs Q) : Gx Γ M pc ls ((0, x) :: st) v h t bc bs Q := by
  refine Gx.br (P := 0 < x) ?_ ?_ k1 (fun q => k2 (by omega))
  · exact (fun hr => hr.2)
  · exact (fun hr p e R s m args below meth c Z H locs cells slots lsa hx hb k1 k2 => lv_if_gt hx hb d ht (fun q => k1 ((lt32 r32_0 hr.1).mp q)) (fun q => k2 (fun z => q ((lt32 r32_0 hr.1).mpr z))))
theorem Gx_icmp_le {x y off : Int} {tgt : Nat} (d : decode M.2.1 pc = .ok (.if_icmp .le off, 3)) (ht : (pc : Int) + off = (tgt : Int)) (k1 : x ≤ y → Gx Γ M tgt ls st v h t bc bs Q) (k2 : y < x → Gx Γ M (pc + 3) ls st v h t bc bs Q) : Gx Γ M pc ls ((0, y) :: (0, x) :: st) v h t bc bs Q := by
  refine Gx.br (P := x ≤ y) ?_ ?_ k1 (fun q => k2 (by omega))
  · exact (fun hr => hr.2.2)
  · exact (fun hr p e R s m args below meth c Z H locs cells slots lsa hx hb k1 k2 => lv_icmp_le hx hb d ht (fun q => k1 ((le32 hr.2.1 hr.1).mp q)) (fun q => k2 (fun z => q ((le32 hr.2.1 hr.1).mpr z))))
theorem Gx_if_le {x off : Int} {tgt : Nat} (d : decode M.2.1 pc = .ok (.ifCond .le off, 3)) (ht : (pc : Int) + off = (tgt : Int)) (k1 : x ≤ 0 → Gx Γ M tgt ls st v h t bc bs Q) (k2 : 0 < x → Gx Γ M (pc + 3) ls st v h t bc bs Q) : Gx Γ M pc ls ((0, x) :: st) v h t bc bs Q := by
  refine Gx.br (P := x ≤ 0) ?_ ?_ k1 (fun q => k2 (by omega))
  · exact (fun hr => hr.2)
  · exact (fun hr p e R s m args below meth c Z H locs cells slots lsa hx hb k1 k2 => lv_if_le hx hb d ht (fun q => k1 ((le32 hr.1 r32_0).mp q)) (fun q => k2 (fun z => q ((le32 hr.1 r32_0).mpr z))))
theorem Gx_ifnonnull {x off : Int} {tgt : Nat} (d : decode M.2.1 pc = .ok (.ifnonnull off, 3)) (ht : (pc : Int) + off = (tgt : Int)) (k1 : 0 ≤ x → Gx Γ M tgt ls st v h t bc bs Q) (k2 : x = -1 → Gx Γ M (pc + 3) ls st v h t bc bs Q) : Gx Γ M pc ls ((2, x) :: st) v h t bc bs Q :=
  Gx_ranges (i := 0) rfl (fun h0 => Gx.br (P := 0 ≤ x) (fun hr => hr.2) (fun hr p e R s m args below meth c Z H locs cells slots lsa hx hb k1 k2 => by
    have h0 : -1 ≤ x ∧ x < t := hr.1
    by_cases hx0 : x < 0
    · have e0 : gCv Γ (2, x) = .null := if_pos hx0
      rw [List.map_cons, e0]
      exact lv_ifnonnullN hx hb d (k2 (by omega))
    · have e0 : gCv Γ (2, x) = .ref (gB Γ + x.toNat) := if_neg hx0
      rw [List.map_cons, e0]
      exact lv_ifnonnull hx hb d ht (k1 (by omega))) k1 (fun q => k2 (by have h1 : -1 ≤ x ∧ x < t := h0; omega)))
theorem Gx_tableOut {dflt lo hi x : Int} {offs : Array Int} {len tgt : Nat} (d : decode M.2.1 pc = .ok (.tableswitch dflt lo hi offs, len)) (hx0 : x < lo ∨ hi < x) (ht : (pc : Int) + dflt = (tgt : Int)) (k : Gx Γ M tgt ls st v h t bc bs Q) : Gx Γ M pc ls ((0, x) :: st) v h t bc bs Q := by
  refine Gx.op ?_ ?_ k
  · exact (fun hr => hr.2)
  · exact (fun hr p e R s m args below meth c Z H locs cells slots lsa hx hb ho hw hl k => lv_tableOut hx hb d (by rw [toInt32 hr.1]; exact hx0) ht k)
theorem Gx_tableIn {dflt lo hi x off : Int} {offs : Array Int} {len tgt : Nat} (d : decode M.2.1 pc = .ok (.tableswitch dflt lo hi offs, len)) (h1 : ¬ x < lo) (h2 : ¬ hi < x) (h3 : offs[(x - lo).toNat]? = some off) (ht : (pc : Int) + off = (tgt : Int)) (k : Gx Γ M tgt ls st v h t bc bs Q) : Gx Γ M pc ls ((0, x) :: st) v h t bc bs Q := by
  refine Gx.op ?_ ?_ k
  · exact (fun hr => hr.2)
  · exact (fun hr p e R s m args below meth c Z H locs cells slots lsa hx hb ho hw hl k => lv_tableIn hx hb d (by rw [toInt32 hr.1]; exact h1) (by rw [toInt32 hr.1]; exact h2) (by rw [toInt32 hr.1]; exact h3) ht k)
theorem Gx_lookup {dflt x off : Int} {ps : Array (Int × Int)} {len tgt : Nat} (d : decode M.2.1 pc = .ok (.lookupswitch dflt ps, len)) (hp : (ps.toList.zip (ps.toList.drop 1)).all (fun (a, next) => a.1 < next.1) = true) (h1 : Op.lookupswitch.offset ps.toList dflt x = off) (ht : (pc : Int) + off = (tgt : Int)) (k : Gx Γ M tgt ls st v h t bc bs Q) : Gx Γ M pc ls ((0, x) :: st) v h t bc bs Q := by
  refine Gx.op ?_ ?_ k
  · exact (fun hr => hr.2)
  · exact (fun hr p e R s m args below meth c Z H locs cells slots lsa hx hb ho hw hl k => lv_lookup hx hb d hp (by rw [toInt32 hr.1]; exact h1) ht k)
theorem Gx_ireturn {x : Int} (d : decode M.2.1 pc = .ok (.ireturn, 1)) (hf : gFit M.2.2.2.1 x) (hq : Q (0, x) v h t) : Gx Γ M pc ls [(0, x)] v h t bc bs Q := by
  intro p e R s m args below meth c Z C H locs cells slots lsa h1 h2 h3 h4 h5 h6 h7
  exact (C.2.2.2.2.2.2.2.2.2 (0, x) v h t pc lsa H locs cells slots hq h7.1 h1 h2 (by omega) (by omega)).1 rfl hf d
theorem Gx_lreturn {x : Int} (d : decode M.2.1 pc = .ok (.lreturn, 1)) (hf : M.2.2.2.1 = some .long) (hq : Q (1, x) v h t) : Gx Γ M pc ls [(1, x)] v h t bc bs Q := by
  intro p e R s m args below meth c Z C H locs cells slots lsa h1 h2 h3 h4 h5 h6 h7
  exact (C.2.2.2.2.2.2.2.2.2 (1, x) v h t pc lsa H locs cells slots hq h7.1 h1 h2 (by omega) (by omega)).2.1 rfl hf d
theorem Gx_areturn {x : Int} {n : String} (d : decode M.2.1 pc = .ok (.areturn, 1)) (hf : M.2.2.2.1 = some (.object n)) (hq : Q (2, x) v h t) : Gx Γ M pc ls [(2, x)] v h t bc bs Q := by
  intro p e R s m args below meth c Z C H locs cells slots lsa h1 h2 h3 h4 h5 h6 h7
  exact (C.2.2.2.2.2.2.2.2.2 (2, x) v h t pc lsa H locs cells slots hq h7.1 h1 h2 (by omega) (by omega)).2.2.1 rfl ⟨n, hf⟩ d
theorem Gx_return (d : decode M.2.1 pc = .ok (.return_, 1)) (hf : M.2.2.2.1 = none) (hq : Q (9, 0) v h t) : Gx Γ M pc ls [] v h t bc bs Q := by
  intro p e R s m args below meth c Z C H locs cells slots lsa h1 h2 h3 h4 h5 h6 h7
  exact (C.2.2.2.2.2.2.2.2.2 (9, 0) v h t pc lsa H locs cells slots hq trivial h1 h2 (by omega) (by omega)).2.2.2 rfl hf d
end
