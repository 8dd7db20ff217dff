/-! Exceptions that a native throws, 8: System.arraycopy beyond the bounds; the rules of an arraycopy that throws -/
section XU
theorem xT4 {a x b c : String} {i j k l : Nat} (ha : a.toList.length ≤ i) (hx : x.toList.length ≤ j) (hb : b.toList.length ≤ k) (hc : c.toList.length ≤ l) : (a ++ x ++ b ++ c).toList.length ≤ i + j + k + l := by
  simp only [String.toList_append, List.length_append]
  omega
theorem xT3 {a x b : String} {i j k : Nat} (ha : a.toList.length ≤ i) (hx : x.toList.length ≤ j) (hb : b.toList.length ≤ k) : (a ++ x ++ b).toList.length ≤ i + j + k := by
  simp only [String.toList_append, List.length_append]
  omega
theorem xIp {i : Int} (h0 : 0 ≤ i) (h : i < 8589934592) : (toString i).toList.length ≤ 10 := by
  show (Int.repr i).toList.length ≤ 10
  cases i with
  | ofNat m =>
    have h1' : (m : Int) < 8589934592 := h
    exact nat_print (n := m) (by omega)
  | negSucc m => exact absurd h0 (by omega)
theorem xAr {n : Nat} (h : n < 10 ^ 10) : ("int" ++ "[" ++ toString n ++ "]").toList.length ≤ 3 + 1 + 10 + 1 :=
  xT4 (by decide) (by decide) (nat_print h) (by decide)
def xCpW (sp dp n : Int32) (a b : Nat) : String :=
  if sp < 0 then "source index " ++ toString sp ++ " out of bounds for " ++ ("int" ++ "[" ++ toString a ++ "]")
  else if dp < 0 then "destination index " ++ toString dp ++ " out of bounds for " ++ ("int" ++ "[" ++ toString b ++ "]")
  else if n < 0 then "length " ++ toString n ++ " is negative"
  else if sp.toInt + n.toInt > a then "last source index " ++ toString (sp.toInt + n.toInt) ++ " out of bounds for " ++ ("int" ++ "[" ++ toString a ++ "]")
  else "last destination index " ++ toString (dp.toInt + n.toInt) ++ " out of bounds for " ++ ("int" ++ "[" ++ toString b ++ "]")
theorem xI0 {i : Int32} (c : ¬ i < 0) : 0 ≤ i.toInt := by
  have := Int32.lt_iff_toInt_lt (x := i) (y := 0)
  have h0 : (0 : Int32).toInt = 0 := by decide
  rw [h0] at this
  exact Int.not_lt.mp (fun z => c (this.mpr z))
theorem xCpW_len {srcPos destPos len : Int32} {a b : Nat} (hsz : a < 10 ^ 10) (hdz : b < 10 ^ 10) : (xCpW srcPos destPos len a b).toList.length ≤ 90 := by
  unfold xCpW
  have l1 := Int32.toInt_lt srcPos
  have l2 := Int32.toInt_lt destPos
  have l3 := Int32.toInt_lt len
  by_cases c1 : srcPos < 0
  · rw [if_pos c1]
    exact Nat.le_trans (xT4 (i := 13) (k := 19) (by decide) (int32_print _) (by decide) (xAr hsz)) (by decide)
  by_cases c2 : destPos < 0
  · rw [if_neg c1, if_pos c2]
    exact Nat.le_trans (xT4 (i := 18) (k := 19) (by decide) (int32_print _) (by decide) (xAr hdz)) (by decide)
  by_cases c3 : len < 0
  · rw [if_neg c1, if_neg c2, if_pos c3]
    exact Nat.le_trans (xT3 (i := 7) (k := 12) (by decide) (int32_print _) (by decide)) (by decide)
  have n1 := xI0 c1
  have n2 := xI0 c2
  have n3 := xI0 c3
  by_cases c4 : srcPos.toInt + len.toInt > a
  · rw [if_neg c1, if_neg c2, if_neg c3, if_pos c4]
    exact Nat.le_trans (xT4 (i := 18) (k := 19) (by decide) (xIp (by omega) (by omega)) (by decide) (xAr hsz)) (by decide)
  · rw [if_neg c1, if_neg c2, if_neg c3, if_neg c4]
    exact Nat.le_trans (xT4 (i := 23) (k := 19) (by decide) (xIp (by omega) (by omega)) (by decide) (xAr hdz)) (by decide)
theorem xWpOut {e : Env} {s : State} {src dst : Addr} {srcPos destPos len : Int32} {cs cd : Cell} {ks kd : Class} {sComp dComp : ClassId}
    (hs : s.heap[src]? = some cs) (hd : s.heap[dst]? = some cd) (hsobj : ∀ k, cs.vm ≠ .statics k) (hdobj : ∀ k, cd.vm ≠ .statics k) (hks : s.vm.classes[cs.cls]? = some ks) (hkd : s.vm.classes[cd.cls]? = some kd) (hsk : ks.kind = .array sComp .int) (hdk : kd.kind = .array dComp .int)
    (h : srcPos < 0 ∨ destPos < 0 ∨ len < 0 ∨ srcPos.toInt + len.toInt > cs.slots.size ∨ destPos.toInt + len.toInt > cd.slots.size) :
    wpRun (Native.java_lang_System.arraycopy.sem #[.ref src, .int srcPos, .ref dst, .int destPos, .int len]) (fun _ _ _ => False) (fun x s₁ _ => x = .throwNew "java/lang/ArrayIndexOutOfBoundsException" (some ("arraycopy: " ++ xCpW srcPos destPos len cs.slots.size cd.slots.size)) ∧ s₁ = s) e s := by
  rw [Native.java_lang_System.arraycopy.sem_refs]
  unfold Native.java_lang_System.arraycopy.behind wpRun xCpW
  simp only [wp_bind', W.classOf, W.theClass, hs, hd, hks, hkd, Option.some.injEq, exists_eq_left', hsk, hdk]
  by_cases c1 : srcPos < 0
  · refine ⟨hsobj, hdobj, by simp [c1, hs, hd]; rfl⟩
  by_cases c2 : destPos < 0
  · refine ⟨hsobj, hdobj, by simp [c1, c2, hs, hd]; rfl⟩
  by_cases c3 : len < 0
  · refine ⟨hsobj, hdobj, by simp [c1, c2, c3, hs, hd]; rfl⟩
  by_cases c4 : srcPos.toInt + len.toInt > cs.slots.size
  · refine ⟨hsobj, hdobj, by simp [c1, c2, c3, c4, hs, hd]; rfl⟩
  by_cases c5 : destPos.toInt + len.toInt > cd.slots.size
  · refine ⟨hsobj, hdobj, by simp [c1, c2, c3, c4, c5, hs, hd]; rfl⟩
  · exfalso
    rcases h with h | h | h | h | h
    · exact c1 h
    · exact c2 h
    · exact c3 h
    · exact c4 h
    · exact c5 h
theorem xCpB {what : String} (h : what.toList.length ≤ 90) : (stringBytes (stringToUtf16 ("arraycopy: " ++ what))).size ≤ 420 := by
  have h1 := stringBytes_size_le (stringToUtf16 ("arraycopy: " ++ what))
  have h2 := utf16_size_le ("arraycopy: " ++ what)
  have h3 : ("arraycopy: " ++ what).toList.length ≤ 101 := by
    rw [String.toList_append, List.length_append]
    have : "arraycopy: ".toList.length = 11 := by decide
    omega
  omega
theorem xCpM {what : String} : ("arraycopy: " ++ what == notModelled) = false := by
  refine beq_eq_false_iff_ne.mpr fun h => ?_
  have h1 := congrArg String.toList h
  rw [String.toList_append] at h1
  have h2 := congrArg List.head? h1
  revert h2
  rw [show "arraycopy: ".toList = 'a' :: "rraycopy: ".toList by decide]
  rw [List.cons_append, List.head?_cons]
  decide +kernel
theorem gRv_isRef {B : Nat} {o : Int} : (gRv B o).isRef = true := by
  unfold gRv
  split <;> rfl
variable {Γ : gC} {M : gI} {pc : Nat} {ls st : List gV} {v : gM} {h : gH} {t bc bs : Nat} {Q : gQ}
theorem Gx_copy_n {a b sp dp n : Int} {idx hp bc' bs' : Nat} {own : String} (hfl : Γ.1.stackTraces = false) (d : decode M.2.1 pc = .ok (.invokestatic idx, 3)) (ho : own = M.2.2.2.2.1) (q1 : Cond.methodLink own idx yCopy ∈ lw_all) (q2 : Cond.native yCopy ∈ lw_all) (q3 : Cond.static yCopy ∈ lw_all) (q4 : Cond.initialized "java/lang/System" ∈ lw_all) (hab : a < 0 ∨ b < 0) (hl : xLand M pc "java/lang/NullPointerException" hp = true) (hrm : xRm M st = true) (hb1 : bc' + 1 ≤ bc) (hb2 : 8 + bs' ≤ bs) (kk : Gx Γ M hp ls [(2, (t : Int))] v h (t + 1) bc' bs' Q) : Gx Γ M pc ls ((0, n) :: (0, dp) :: (2, b) :: (0, sp) :: (2, a) :: st) v h t bc bs Q := by
  refine Gx_throwE (st' := st) (k := 1) (N := 8) hl (fun p e s m args below meth c T' locs cells slots lsa hx hb hml hown hws hK X hR hrs hlocs hst hsz hc hs => ?_) (by omega) hb1 hb2 kk
  obtain ⟨r1, r2⟩ := Bool.and_eq_true_iff.mp hrm
  have r1 := of_decide_eq_true r1
  have r2 := of_decide_eq_true r2
  have hts := hK.hts args
  have hW : 2 * (F0 m pc lsa (st.map (gCv Γ))).monitorRoom + ((st.map (gCv Γ)).map fun v => v.category).sum = gCs st := by
    rw [← gCs_sum (Γ := Γ) st]
    simp
  have hW2 : 2 * (F0 m pc lsa (st.map (gCv Γ))).monitorRoom + (((F0 m pc lsa (st.map (gCv Γ))).stack).map fun v => v.category).sum + 10240 ≤ M.2.2.2.2.2.locals := by
    have hW' : 2 * (F0 m pc lsa (st.map (gCv Γ))).monitorRoom + (((F0 m pc lsa (st.map (gCv Γ))).stack).map fun v => v.category).sum = gCs st := hW
    omega
  obtain ⟨vm', nf, XV, hWv, ⟨n1, n2, n3⟩, hstp⟩ := xCopyN X hx hown (by rw [← ho]; exact hts _ q1) (hts _ q2) (hts _ q3) (hts _ q4) (src := gRv (gB Γ) a) (dst := gRv (gB Γ) b) (srcPos := Int32.ofInt sp) (destPos := Int32.ofInt dp) (n := Int32.ofInt n) (cls := "java/lang/NullPointerException") (msg := none)
    (fun vm' fs _ => xWpNull _ _ _ gRv_isRef gRv_isRef (hab.imp gRv_null gRv_null)) gRv_isRef gRv_isRef (g := F0 m pc lsa (((0, n) :: (0, dp) :: (2, b) :: (0, sp) :: (2, a) :: st).map (gCv Γ))) rfl hsz (rest := st.map (gCv Γ)) rfl (by rw [hb]; exact d) (by omega)
    (by have e7 : nativeFrameWords "java/lang/System" "arraycopy" 5 = 7 := rfl
        rw [e7]
        have hW' : 2 * 0 + ((st.map (gCv Γ)).map fun v => v.category).sum = gCs st := hW
        show 2 * 0 + _ + _ ≤ _
        omega)
  obtain ⟨U, L, a1, a2, a3, a4, a5, a6⟩ := xNpeF (g := F0 m pc lsa (st.map (gCv Γ))) XV hx (by rw [X.admits.platform]; exact hfl) (fun a ha => hws a (List.all_eq_true.mp xNpeIn a ha)) hlocs hst rfl hsz n1 n2 n3 r1 hW2 hc hs
  exact ⟨8, Nat.le_refl _, U, L, a1, a2, fun target ht => hstp target (a3 target ht), a4, a5, a6⟩
theorem Gx_copy_o {a b sp dp n na nb : Int} {idx hp bc' bs' : Nat} {own : String} (hfl : Γ.1.stackTraces = false) (d : decode M.2.1 pc = .ok (.invokestatic idx, 3)) (ho : own = M.2.2.2.2.1) (q1 : Cond.methodLink own idx yCopy ∈ lw_all) (q2 : Cond.native yCopy ∈ lw_all) (q3 : Cond.static yCopy ∈ lw_all) (q4 : Cond.initialized "java/lang/System" ∈ lw_all) (hha : h a = (10, na)) (hhb : h b = (10, nb)) (hna : 0 ≤ na ∧ na < 10000) (hnb : 0 ≤ nb ∧ nb < 10000) (hnn : ¬ (0 ≤ sp ∧ 0 ≤ dp ∧ 0 ≤ n ∧ sp + n ≤ na ∧ dp + n ≤ nb)) (hr : r32 sp ∧ r32 dp ∧ r32 n) (hl : xLand M pc "java/lang/ArrayIndexOutOfBoundsException" hp = true) (hrm : xRm M st = true) (hb1 : bc' + 3 ≤ bc) (hb2 : 430 + bs' ≤ bs) (kk : Gx Γ M hp ls [(2, ((t + 2 : Nat) : Int))] v h (t + 3) bc' bs' Q) : Gx Γ M pc ls ((0, n) :: (0, dp) :: (2, b) :: (0, sp) :: (2, a) :: st) v h t bc bs Q := by
  refine Gx_throwE (st' := st) (k := 3) (N := 430) hl (fun p e s m args below meth c T' locs cells slots lsa hx hb hml hown hws hK X hR hrs hlocs hst hsz hc hs => ?_) (by omega) hb1 hb2 kk
  obtain ⟨r1, r2⟩ := Bool.and_eq_true_iff.mp hrm
  have r1 := of_decide_eq_true r1
  have r2 := of_decide_eq_true r2
  have hts := hK.hts args
  have hW : 2 * (F0 m pc lsa (st.map (gCv Γ))).monitorRoom + ((st.map (gCv Γ)).map fun v => v.category).sum = gCs st := by
    rw [← gCs_sum (Γ := Γ) st]
    simp
  have hW2 : 2 * (F0 m pc lsa (st.map (gCv Γ))).monitorRoom + (((F0 m pc lsa (st.map (gCv Γ))).stack).map fun v => v.category).sum + 10240 ≤ M.2.2.2.2.2.locals := by
    have hW' : 2 * (F0 m pc lsa (st.map (gCv Γ))).monitorRoom + (((F0 m pc lsa (st.map (gCv Γ))).stack).map fun v => v.category).sum = gCs st := hW
    omega
  obtain ⟨ha, hA⟩ := gR_arr hR hha (by omega) (by omega)
  obtain ⟨hb', hB⟩ := gR_arr hR hhb (by omega) (by omega)
  obtain ⟨hT, -⟩ := gTys_at (k := 10) hK (by omega) (by omega)
  obtain ⟨-, k0, hk0, cm0, hkk0⟩ := hT na.toNat (fun j => gCt (gB Γ) (gEt 10) (v a j))
  obtain ⟨rs, rd, rn⟩ := hr
  have tn := toInt32 rn
  have td := toInt32 rd
  have tsp := toInt32 rs
  have ln := lt32 rn r32_0
  have ld := lt32 rd r32_0
  have lsp := lt32 rs r32_0
  rw [of32_0] at ln ld lsp
  have hout : Int32.ofInt sp < 0 ∨ Int32.ofInt dp < 0 ∨ Int32.ofInt n < 0 ∨ (Int32.ofInt sp).toInt + (Int32.ofInt n).toInt > (arrV (Γ.2.2.2.1 10) na.toNat (fun j => gCt (gB Γ) (gEt 10) (v a j))).slots.size ∨ (Int32.ofInt dp).toInt + (Int32.ofInt n).toInt > (arrV (Γ.2.2.2.1 10) nb.toNat (fun j => gCt (gB Γ) (gEt 10) (v b j))).slots.size := by
    rw [tn, td, tsp, arrV_size, arrV_size, ln, ld, lsp]
    omega
  have hlen : (xCpW (Int32.ofInt sp) (Int32.ofInt dp) (Int32.ofInt n) na.toNat nb.toNat).toList.length ≤ 90 := xCpW_len (by omega) (by omega)
  have hsem : ∀ (vm' : Vm) (fs : List Frame), s.WarmedH vm' → wpRun (Native.java_lang_System.arraycopy.sem #[gRv (gB Γ) a, .int (Int32.ofInt sp), gRv (gB Γ) b, .int (Int32.ofInt dp), .int (Int32.ofInt n)]) (fun _ _ _ => False) (fun x s₁ _ => x = .throwNew "java/lang/ArrayIndexOutOfBoundsException" (some ("arraycopy: " ++ xCpW (Int32.ofInt sp) (Int32.ofInt dp) (Int32.ofInt n) na.toNat nb.toNat)) ∧ s₁ = (T'.setVm vm').setFrames fs) e ((T'.setVm vm').setFrames fs) := by
    intro vm' fs hWm
    obtain ⟨k1, hk1, he1⟩ := hWm.alike.2.2 _ _ hk0
    have hkk1 : k1.kind = .array cm0 .int := by rw [he1]; exact hkk0
    have := xWpOut (e := e) (s := (T'.setVm vm').setFrames fs) (src := gB Γ + a.toNat) (dst := gB Γ + b.toNat) (srcPos := Int32.ofInt sp) (destPos := Int32.ofInt dp) (len := Int32.ofInt n) (cs := arrV (Γ.2.2.2.1 10) na.toNat (fun j => gCt (gB Γ) (gEt 10) (v a j))) (cd := arrV (Γ.2.2.2.1 10) nb.toNat (fun j => gCt (gB Γ) (gEt 10) (v b j))) hA.1 hB.1 (fun _ z => by cases z) (fun _ z => by cases z) hk1 hk1 hkk1 hkk1 hout
    rw [arrV_size, arrV_size] at this
    rw [gRv_ref ha.1, gRv_ref hb'.1]
    exact this
  obtain ⟨vm', nf, XV, hWv, ⟨n1, n2, n3⟩, hstp⟩ := xCopyN X hx hown (by rw [← ho]; exact hts _ q1) (hts _ q2) (hts _ q3) (hts _ q4) (src := gRv (gB Γ) a) (dst := gRv (gB Γ) b) (srcPos := Int32.ofInt sp) (destPos := Int32.ofInt dp) (n := Int32.ofInt n) (cls := "java/lang/ArrayIndexOutOfBoundsException") (msg := some ("arraycopy: " ++ xCpW (Int32.ofInt sp) (Int32.ofInt dp) (Int32.ofInt n) na.toNat nb.toNat))
    hsem gRv_isRef gRv_isRef (g := F0 m pc lsa (((0, n) :: (0, dp) :: (2, b) :: (0, sp) :: (2, a) :: st).map (gCv Γ))) rfl hsz (rest := st.map (gCv Γ)) rfl (by rw [hb]; exact d) (by omega)
    (by have e7 : nativeFrameWords "java/lang/System" "arraycopy" 5 = 7 := rfl
        rw [e7]
        have hW' : 2 * 0 + ((st.map (gCv Γ)).map fun v => v.category).sum = gCs st := hW
        show 2 * 0 + _ + _ ≤ _
        omega)
  have hby := xCpB hlen
  obtain ⟨U, L, a1, a2, a3, a4, a5, a6⟩ := xMsgF (g := F0 m pc lsa (st.map (gCv Γ))) (names := Bundle.idxUp) XV hx (by rw [X.admits.platform]; exact hfl) (by decide +kernel) (fun n hn => List.all_eq_true.mp (show Bundle.idxUp.all Bundle.fit = true by decide +kernel) n hn) (by decide +kernel) (by decide +kernel) (fun a ha => hws a (List.all_eq_true.mp xIdxIn a ha)) hlocs hst (text := "arraycopy: " ++ xCpW (Int32.ofInt sp) (Int32.ofInt dp) (Int32.ofInt n) na.toNat nb.toNat) xCpM (by rw [Launch.admits_arrayLengthLimit X.admits]; omega) (by rw [X.admits.platform]; show ¬ _ * 1 > 536870912; omega) rfl hsz n1 n2 n3 (by show 3 + 5 < _; omega) hW2 (by decide) hc (by omega)
  exact ⟨_, by omega, U, L, a1, a2, fun target ht => hstp target (a3 target ht), a4, a5, a6⟩
theorem xCt_1 : xLand mX0_copy 44 "java/lang/NullPointerException" 49 = true := by decide +kernel
theorem xCt_2 : xLand mX0_copy 44 "java/lang/ArrayIndexOutOfBoundsException" 57 = true := by decide +kernel
end XU
