/-! class objects, the copy of a list's array, the clone of the enum's array -/
def x_ycp (Y : x_Y) (t0 i0 t1 i1 sp dp n : Nat) : x_Y := fun t' i' => if t' = t1 ∧ i' = i1 then (x_ok Y t1 i1, x_ad Y t1 i1, x_n Y t1 i1, va_cpy (x_r Y t0 i0) (x_r Y t1 i1) sp dp n) else Y t' i'
theorem x_ycp_same (Y : x_Y) (t0 i0 t1 i1 sp dp n : Nat) : ∀ a b, x_ok (x_ycp Y t0 i0 t1 i1 sp dp n) a b = x_ok Y a b ∧ x_ad (x_ycp Y t0 i0 t1 i1 sp dp n) a b = x_ad Y a b ∧ x_n (x_ycp Y t0 i0 t1 i1 sp dp n) a b = x_n Y a b := by
  intro a b
  by_cases h : a = t1 ∧ b = i1
  · obtain ⟨rfl, rfl⟩ := h
    simp [x_ycp, x_ok, x_ad, x_n]
  · simp [x_ycp, x_ok, x_ad, x_n, h]
section XY2
variable {p : Program} {l : Launch} {e : Env} {R : Room} {s : State} {m : MethodId} {args : Array Value} {below : List Frame} {meth : Method} {c : Code} {H : Heap} {locs : List Loc} {cells slots : Nat} {Q : State → Prop}
variable {cc : ByteArray} {pc : Nat} {ls : Array Slot} {rest st As : List Value} {g : x_G} {Y : x_Y} {L : x_L} {I : x_I} {t i j k0 n0 k n t0 i0 t1 i1 : Nat} {P : x_P}
theorem x_Mi (hK : x_K g s) : va_Mi "[Ljava/lang/Object;" (g.2.2.2.2 32) s := by
  obtain ⟨s0, a0, h1, h2, h3, h4, h5, h6, h7, h8, h9, h10⟩ := hK
  exact h10.moved h4.alike
theorem x_getC {own : String} {idx nL F a : Nat} {ret : Option FieldType} (hE : x_E l g p e R s m meth c own cc nL ret F k0 n0) (hls : ls.size = nL) (hw : x_WL g Y L I H locs) (ho : x_ok Y t i ∧ x_ad Y t i = a) (hk : x_kd t = (1, 4)) (m1 : Cond.methodLink own idx ⟨"java/lang/Object", "getClass", "()Ljava/lang/Class;"⟩ ∈ lw_tbl) (hF : 1 ≤ F) (hr : (rest.map fun v => v.category).sum ≤ 8) (hdg : decode cc pc = .ok (.invokevirtual idx, 3))
    (kk : W p l e R s m args below meth c H locs cells slots Q (F0 m (pc + 3) ls (.ref (g.2.2.2.2 32) :: rest))) : W p l e R s m args below meth c H locs cells slots Q (F0 m pc ls (.ref a :: rest)) := by
  obtain ⟨hx, hb, hml, -, hlk, hown, hK, htr, hFR, hLR, hRc, hRs⟩ := hE
  obtain ⟨hok, rfl⟩ := ho
  have har := hw.1.ar hok hk
  have hnm := va_nmO (C := "java/lang/Object") (nm := "[Ljava/lang/Object;") (hK.arr (e := 4) (by decide)).2 (by decide)
  exact va_getC hx hb (hml.trans hls.symm) hown (x_wd hK m1 rfl) (x_wdD hK k_1043) (x_wd hK k_1042 rfl) (x_wd hK k_468 rfl) (x_wd hK k_484 rfl) (x_Mi hK) ⟨_, har, rfl, hnm⟩ (by omega) (by omega) hdg kk
theorem x_VR (hk : x_kd t0 = (1, 4)) : x_V Y L I t0 i0 = fun j => va_rf (x_r Y t0 i0 j) := by
  funext j
  exact x_V2 (x_ska hk)
theorem x_copyR {own : String} {idx nL F a0 a1 : Nat} {ret : Option FieldType} (hE : x_E l g p e R s m meth c own cc nL ret F k0 n0) (hls : ls.size = nL) (hw : x_WL g Y L I H locs) (mlink : Cond.methodLink own idx arraycopyName ∈ lw_tbl) (mnat : Cond.native arraycopyName ∈ lw_tbl) (mstat : Cond.static arraycopyName ∈ lw_tbl) (mini : Cond.initialized "java/lang/System" ∈ lw_tbl)
    (ho0 : x_ok Y t0 i0 ∧ x_ad Y t0 i0 = a0) (ho1 : x_ok Y t1 i1 ∧ x_ad Y t1 i1 = a1) (hk0 : x_kd t0 = (1, 4)) (hk1 : x_kd t1 = (1, 4)) {sp dp n : Int32} (h1 : ¬ sp < 0) (h2 : ¬ dp < 0) (h3 : ¬ n < 0) (h4 : sp.toNatClampNeg + n.toNatClampNeg ≤ x_n Y t0 i0) (h5 : dp.toNatClampNeg + n.toNatClampNeg ≤ x_n Y t1 i1)
    (hel : ∀ q, q < n.toNatClampNeg → ∀ y, x_r Y t0 i0 (sp.toNatClampNeg + q) = some y → ∃ a, x_ok Y 23 a ∧ x_ad Y 23 a = y) (hF : 1 ≤ F) (hr : (rest.map fun v => v.category).sum ≤ 8) (hdg : decode cc pc = .ok (.invokestatic idx, 3))
    (kk : ∀ (Y' : x_Y) (H' : Heap) (locs' : List Loc), Y' = x_ycp Y t0 i0 t1 i1 sp.toNatClampNeg dp.toNatClampNeg n.toNatClampNeg → x_WL g Y' L I H' locs' → W p l e R s m args below meth c H' locs' cells slots Q (F0 m (pc + 3) ls rest)) : W p l e R s m args below meth c H locs cells slots Q (F0 m pc ls (.int n :: .int dp :: .ref a1 :: .int sp :: .ref a0 :: rest)) := by
  obtain ⟨hx, hb, hml, -, hlk, hown, hK, htr, hFR, hLR, hRc, hRs⟩ := hE
  obtain ⟨ok0, rfl⟩ := ho0
  obtain ⟨ok1, rfl⟩ := ho1
  have nn : ∀ z : Int32, ¬ z < 0 → z.toInt = (z.toNatClampNeg : Int) := by
    intro z hz
    have hz0 : (0 : Int) ≤ z.toInt := by
      have := Int32.not_lt.mp hz
      simpa using Int32.le_iff_toInt_le.mp this
    show z.toInt = ((z.toInt.toNat : Nat) : Int)
    omega
  intro T hT X
  have hc0 := hw.1.ar ok0 hk0
  have hc1 := hw.1.ar ok1 hk1
  have hc1' := hc1
  rw [x_VR hk0] at hc0
  rw [x_VR hk1] at hc1
  have hA := (hK.arr (show 4 < 7 by omega)).1
  have hRA : va_RA s (g.2.2.1 4) (.object "java/lang/Object") := (hK.arr (show 4 < 7 by omega)).2
  obtain ⟨-, kA0, hkA0, cm0, hkk0⟩ := hA (x_n Y t0 i0) (fun j => va_rf (x_r Y t0 i0 j))
  obtain ⟨-, kA1, hkA1, cm1, hkk1⟩ := hA (x_n Y t1 i1) (fun j => va_rf (x_r Y t1 i1 j))
  obtain ⟨vm', X', step⟩ := X.arraycopy hx hown (x_wd hK mlink rfl) (x_wd hK mnat rfl) (x_wd hK mstat rfl) (x_wd hK mini rfl) (src := x_ad Y t0 i0) (dst := x_ad Y t1 i1) (cs := arrV (g.2.2.1 4) (x_n Y t0 i0) (fun j => va_rf (x_r Y t0 i0 j))) (cd := arrV (g.2.2.1 4) (x_n Y t1 i1) (fun j => va_rf (x_r Y t1 i1 j))) (srcPos := sp) (destPos := dp) (n := n) (by rw [hT]; exact hc0) (by rw [hT]; exact hc1)
    (fun _ h => by cases h) (fun _ h => by cases h) (fun h => by cases h) (fun h => by cases h) hkA0 hkA1 hkk0 hkk1 rfl h1 h2 h3
    (by rw [nn sp h1, nn n h3, arrV_size]; omega)
    (by rw [nn dp h2, nn n h3, arrV_size]; omega)
    (fun vm₁ hal q hq => by
      have e : (arrV (g.2.2.1 4) (x_n Y t0 i0) (fun j => va_rf (x_r Y t0 i0 j))).slots.getD (sp.toNatClampNeg + q) .null = va_rf (x_r Y t0 i0 (sp.toNatClampNeg + q)) := by
        rw [Array.getD_eq_getD_getElem?, arrV_read _ _ (by omega)]
        rfl
      rw [e]
      cases hy : x_r Y t0 i0 (sp.toNatClampNeg + q) with
      | none => exact ⟨rfl, trivial⟩
      | some y =>
        obtain ⟨a, oka, ea⟩ := hel q hq y hy
        obtain ⟨cellV, g1, g2, g3⟩ := x_recv1 hK hw ⟨oka, ea⟩ (c0 := 7) rfl (by decide)
        obtain ⟨kA, comp, r1, r2, r3, -⟩ := hRA
        cases hkA1.symm.trans r1
        cases hkk1.symm.trans r2
        obtain ⟨c3, c4, w1, w2, w3⟩ := Cond.castable_spec (x_wdC (args := args) hK k_1050)
        cases (show s.vm.findClass "CallLedger$Account" = some cellV.cls from g3).symm.trans w1
        cases r3.symm.trans w2
        obtain ⟨kC, hkC, -⟩ := Vm.findClass_spec g3
        obtain ⟨kE, hkE, -⟩ := Vm.findClass_spec r3
        obtain ⟨kC', hkC', -⟩ := hal.2.2 _ _ hkC
        obtain ⟨kE', hkE', -⟩ := hal.2.2 _ _ hkE
        refine ⟨rfl, cellV, (show T.heap[y]? = some cellV by rw [hT]; exact g1), (fun z h => by rw [h] at g2; cases g2), ⟨kC', hkC'⟩, ?_, ?_⟩
        · exact ⟨kE', hkE'⟩
        · show vm₁.assignable _ _ = true
          rw [hal.assignable]
          exact w3)
    (g := F0 m pc ls (.int n :: .int dp :: .ref (x_ad Y t1 i1) :: .int sp :: .ref (x_ad Y t0 i0) :: rest)) rfl (by rw [hml]; exact hls) (rest := rest) rfl (by rw [hb]; exact hdg) (by omega) (by
      have : nativeFrameWords "java/lang/System" "arraycopy" 5 ≤ 30 := by decide +kernel
      show 2 * 0 + _ + _ ≤ _; omega)
  have ec : copied (arrV (g.2.2.1 4) (x_n Y t0 i0) (fun j => va_rf (x_r Y t0 i0 j))) (arrV (g.2.2.1 4) (x_n Y t1 i1) (fun j => va_rf (x_r Y t1 i1 j))) sp dp n = arrV (g.2.2.1 4) (x_n Y t1 i1) (fun j => va_rf (va_cpy (x_r Y t0 i0) (x_r Y t1 i1) sp.toNatClampNeg dp.toNatClampNeg n.toNatClampNeg j)) := va_copied (fun z => va_rf z) _ _ _ _ h4
  rw [ec] at X' step
  have hl : x_ad Y t1 i1 < H.size := (Array.getElem?_eq_some_iff.mp hc1).1
  generalize hcell : arrV (g.2.2.1 4) (x_n Y t1 i1) (fun j => va_rf (va_cpy (x_r Y t0 i0) (x_r Y t1 i1) sp.toNatClampNeg dp.toNatClampNeg n.toNatClampNeg j)) = cell at X' step
  have hheap : ((T.setVm vm').setCell (x_ad Y t1 i1) cell).heap = H.setIfInBounds (x_ad Y t1 i1) cell := by rw [← hT]; rfl
  obtain ⟨t, a1, b1⟩ := kk _ (H.setIfInBounds (x_ad Y t1 i1) cell) (locs ++ _) rfl ⟨hw.1.put ok1 (by simp) (fun q hq => by simp [Array.getElem?_setIfInBounds, Ne.symm hq]) (x_ycp_same Y t0 i0 t1 i1 _ _ _) (by
      unfold x_at
      rw [hk1, if_neg Nat.one_ne_zero, x_VR hk1]
      rw [show (H.setIfInBounds (x_ad Y t1 i1) cell)[x_ad Y t1 i1]? = some cell by simp [Array.getElem?_setIfInBounds, hl], ← hcell]
      simp [x_ycp, x_r]) (fun a b hab => by
      funext k
      simp [x_V, x_r, x_ycp, hab]), fun q hq => by
      rcases List.mem_append.mp hq with h | h
      · exact hw.2 q h
      · obtain ⟨z, -, hz⟩ := List.mem_map.mp h
        rw [← hz]
        exact (hw.1.2.2.1 t1 i1 ok1).1⟩ _ hheap X'
  exact ⟨t, step t a1, b1⟩
/-- the enum's array -/
theorem x_vin : ∀ j, j < 30 → Cond.eq (.elem (.static "CallLedger$Instruction" "$VALUES" "[LCallLedger$Instruction;") (.int (Int32.ofNat j))) (.static x_Ei (x_enm.getD j "") x_Ed) ∈ flatC (Jvm.Cond.and given_1 narrow_1) := by decide +kernel
theorem x_vaT (hK : x_K g s) (hw : x_W g Y L I H) : ∃ cell : Cell, H[g.2.2.2.2 31]? = some cell ∧ cell.vm ≠ .unknown ∧ cell.vm.isStatics = false ∧ s.vm.findClass "[LCallLedger$Instruction;" = some cell.cls ∧ cell.slots.size = 30 ∧ ∀ j, j < 30 → cell.slots[j]? = some (.ref (g.2.2.2.2 j)) := by
  obtain ⟨s0, a0, h1, h2, h3, h4, h5, h6, h7, h8, h9, h10⟩ := hK
  have hlen : (Term.length (.static "CallLedger$Instruction" "$VALUES" "[LCallLedger$Instruction;")).eval a0 s0 none [] s0 = some (.int 30) := va_eqt (flat_of_before _ h1 _ (by decide +kernel))
  have hall : (Cond.all (.static "CallLedger$Instruction" "$VALUES" "[LCallLedger$Instruction;") (.le (.index 0) (.int 29))).before a0 s0 = true := flat_of_before _ h1 _ (by decide +kernel)
  obtain ⟨t, cell, ht, hat, hv⟩ := Term.length_spec hlen
  cases h9.symm.trans ht
  obtain ⟨hcell, hkn, hst, -⟩ := State.arrayAt?_spec hat
  obtain ⟨a, cc1, cell1, kk1, q1, q2, q3, q4, q5, q6, -⟩ := Cond.exactly_spec (flat_of_before _ h1 (Cond.exactly (.static "CallLedger$Instruction" "$VALUES" "[LCallLedger$Instruction;") "[LCallLedger$Instruction;") (by decide +kernel))
  cases ht.symm.trans q1
  cases hcell.symm.trans q3
  have hall' := Cond.all_elim ht hat (by simpa [Cond.before, Cond.holds] using hall)
  have hle : cell.slots.size ≤ 30 := by
    apply Nat.not_lt.mp
    intro hlt
    have := hall' 30 hlt
    simp [Cond.value, Term.eval] at this
    exact absurd this (by decide)
  have hel : ∀ j, j < 30 → j < cell.slots.size ∧ cell.slots[j]? = some (.ref (g.2.2.2.2 j)) := by
    intro j hj
    have he := va_eqI (args := a0) (first := s0) (s := s0) (o := none) (idx := []) (t := .elem (.static "CallLedger$Instruction" "$VALUES" "[LCallLedger$Instruction;") (.int (Int32.ofNat j))) (u := .static x_Ei (x_enm.getD j "") x_Ed) (by simpa [Cond.before, Cond.holds] using flat_of_before _ h1 _ (x_vin j hj)) (h7 j hj)
    obtain ⟨a, z, cell2, w1, w2, w3, w4, w5⟩ := Term.elem_spec he
    cases ht.symm.trans w1
    cases hat.symm.trans w3
    have hz : z = Int32.ofNat j := by
      have e : (Term.int (Int32.ofNat j)).eval a0 s0 none [] s0 = some (.int (Int32.ofNat j)) := rfl
      cases w2.symm.trans e
      rfl
    have hcl : z.toNatClampNeg = j := by rw [hz]; exact Int32.toNatClampNeg_ofNat_of_lt (by omega)
    rw [hcl] at w4 w5
    exact ⟨Nat.not_le.mp fun q => w4 (Or.inr q), w5⟩
  have hlt : g.2.2.2.2 31 < s0.heap.size := (Array.getElem?_eq_some_iff.mp hcell).1
  refine ⟨cell, ?_, hkn, hst, ?_, ?_, fun j hj => (hel j hj).2⟩
  · rw [h3] at hlt hcell
    rw [hw.2.1 _ hlt]
    exact hcell
  · rw [h4.alike.findClass, q2, q6]
  · have := (hel 29 (by decide)).1
    omega
theorem x_W.newG {H' : Heap} {Y' : x_Y} {L' : x_L} {I' : x_I} {t i nn : Nat} {r : Nat → Option Nat} (h : x_W g Y L I H) (hsz : H'.size = H.size + 1) (hoth : ∀ q, q < H.size → H'[q]? = H[q]?) (hY : Y' = x_yn Y t i H.size nn r) (hV : ∀ a b, ¬ (a = t ∧ b = i) → x_V Y' L' I' a b = x_V Y L I a b) (hself : x_at g t H.size nn (x_V Y' L' I' t i) H') : x_W g Y' L' I' H' := by
  subst hY
  obtain ⟨h1, h2, h3, h4⟩ := h
  refine ⟨by omega, fun q hq => ?_, fun a b hab => ?_, fun a b a' b' hab hab' had => ?_⟩
  · rw [hoth q (by omega)]
    exact h2 q hq
  · by_cases hc : a = t ∧ b = i
    · obtain ⟨rfl, rfl⟩ := hc
      have : x_ad (x_yn Y a b H.size nn r) a b = H.size ∧ x_n (x_yn Y a b H.size nn r) a b = nn := by unfold x_ad x_n; rw [x_yn_s]; exact ⟨rfl, rfl⟩
      rw [this.1, this.2]
      exact ⟨h1, hself⟩
    · rw [hV a b hc]
      unfold x_ok at hab
      unfold x_ad x_n
      rw [x_yn_n Y hc] at hab ⊢
      exact ⟨(h3 a b hab).1, (h3 a b hab).2.kept (hoth _ (h3 a b hab).2.lt)⟩
  · by_cases hc : a = t ∧ b = i
    · by_cases hc' : a' = t ∧ b' = i
      · exact ⟨hc.1.trans hc'.1.symm, hc.2.trans hc'.2.symm⟩
      · exfalso
        obtain ⟨rfl, rfl⟩ := hc
        unfold x_ok at hab'
        unfold x_ad at had
        rw [x_yn_s, x_yn_n Y hc'] at had
        rw [x_yn_n Y hc'] at hab'
        have := (h3 a' b' hab').2.lt
        unfold x_ad at this
        simp only at had
        omega
    · by_cases hc' : a' = t ∧ b' = i
      · exfalso
        obtain ⟨rfl, rfl⟩ := hc'
        unfold x_ok at hab
        unfold x_ad at had
        rw [x_yn_s, x_yn_n Y hc] at had
        rw [x_yn_n Y hc] at hab
        have := (h3 a b hab).2.lt
        unfold x_ad at this
        simp only at had
        omega
      · unfold x_ok at hab hab'
        unfold x_ad at had
        rw [x_yn_n Y hc] at hab had
        rw [x_yn_n Y hc'] at hab' had
        exact h4 a b a' b' hab hab' had
def x_er (g : x_G) : Nat → Option Nat := fun j => some (g.2.2.2.2 j)
theorem x_cloneZ {own : String} {idx nL F : Nat} {ret : Option FieldType} (hE : x_E l g p e R s m meth c own cc nL ret F k0 n0) (hls : ls.size = nL) (hw : x_WL g Y L I H locs) (m1 : Cond.methodLink own idx ⟨"[LCallLedger$Instruction;", "clone", "()Ljava/lang/Object;"⟩ ∈ lw_tbl) (hF : 1 ≤ F) (hr : (rest.map fun v => v.category).sum ≤ 8) (hbd : x_bd k0 n0 k n) (h1 : k + 1 ≤ 600288) (h2 : n + 30 ≤ 7292554) (hdg : decode cc pc = .ok (.invokevirtual idx, 3))
    (kk : ∀ (a k' n' : Nat) (Y' : x_Y) (H' : Heap), Y' = x_yn Y 14 0 a 30 (x_er g) → k' = k + 1 → n' = n + 30 → x_WL g Y' L I H' locs → x_bd k0 n0 k' n' → W p l e R s m args below meth c H' locs (k' - k0) (n' - n0) Q (F0 m (pc + 3) ls (.ref a :: rest))) : W p l e R s m args below meth c H locs (k - k0) (n - n0) Q (F0 m pc ls (.ref (g.2.2.2.2 31) :: rest)) := by
  obtain ⟨hx, hb, hml, -, hlk, hown, hK, htr, hFR, hLR, hRc, hRs⟩ := hE
  obtain ⟨b1, b2, b3, b4⟩ := hbd
  obtain ⟨cell, c1, c2, c3, c4, c5, c6⟩ := x_vaT hK hw.1
  have hRA : va_RA s (g.2.2.1 6) (.object "CallLedger$Instruction") := (hK.arr (show 6 < 7 by omega)).2
  obtain ⟨kS, compS, hkS, hkindS, hfS, hnS⟩ := hRA
  have hcA : cell.cls = g.2.2.1 6 := Option.some.inj (c4.symm.trans (show s.vm.findClass "[LCallLedger$Instruction;" = some (g.2.2.1 6) from (va_nmO (C := "CallLedger$Instruction") ⟨kS, compS, hkS, hkindS, hfS, hnS⟩ (by decide))))
  obtain ⟨d0, t0', f1, f2, f3⟩ := Cond.castable_spec (x_wdC (args := args) hK k_163)
  cases c4.symm.trans f1
  have harr := ((hK.arr (show 6 < 7 by omega)).1 0 (fun _ => .null))
  intro T hT X
  obtain ⟨-, kA, hkA, comp, hkind⟩ := State.isArrayOf_alike X.warmed.alike harr
  obtain ⟨vm', X', st⟩ := X.cloneArray hx hown (x_wd hK m1 rfl) (x_wd hK k_159 rfl) (x_wd hK k_160 rfl) (x_wd hK k_161 rfl) (x_wd hK k_162 rfl) (a := g.2.2.2.2 31) (cell := cell) (by rw [hT]; exact c1) (fun q h => by rw [h] at c3; cases c3) c2 c4 f2 f3
    (fun j v hv => by
      rw [hcA]
      have hk' : T.vm.classes[g.2.2.1 6]? = some kA := hkA
      have hj : j < 30 := by rw [← c5]; exact (Array.getElem?_eq_some_iff.mp hv).1
      rw [c6 j hj] at hv
      cases hv
      simp [State.fitsSlot, State.slotType?, hk', hkind, x_et, fits])
    (g := F0 m pc ls (.ref (g.2.2.2.2 31) :: rest)) rfl (by rw [hml]; exact hls) rfl (by rw [hb]; exact hdg) (by omega) (by show 2 * 0 + _ + 14 ≤ _; omega) (by omega) (by rw [c5]; omega) (hloader := by rw [hcA]; exact Vm.clonesLoader_of_array hkS hkindS)
  rw [c5] at X'
  generalize hcl : ({ cls := cell.cls, slots := cell.slots } : Cell) = cl at X' st
  have hsl : cell.slots = (arrV (g.2.2.1 6) 30 (fun j => .ref (g.2.2.2.2 j))).slots := by
    apply Array.ext_getElem?
    intro j
    by_cases hj : j < 30
    · rw [c6 j hj, arrV_read _ _ hj]
    · rw [Array.getElem?_eq_none (by omega), Array.getElem?_eq_none (by rw [arrV_size]; omega)]
  have hcl2 : cl = arrV (g.2.2.1 6) 30 (fun j => .ref (g.2.2.2.2 j)) := by
    rw [← hcl, hcA, hsl]
    unfold arrV
    rfl
  generalize hH1 : H.push cl = H1
  have z1 : H1.size = H.size + 1 := by rw [← hH1, Array.size_push]
  have e1 : H1[H.size]? = some cl := by rw [← hH1, Array.getElem?_push_size]
  have o1 : ∀ q : Nat, q < H.size → H1[q]? = H[q]? := fun q hq => by rw [← hH1, Array.getElem?_push, if_neg (Nat.ne_of_lt hq)]
  have hwn : x_W g (x_yn Y 14 0 H.size 30 (x_er g)) L I H1 := hw.1.newG z1 o1 rfl (fun a b hab => by
      funext j
      simp [x_V, x_r, x_yn_n Y hab]) (by
      unfold x_at
      rw [if_neg (by decide), e1, hcl2]
      congr 2)
  have := kk H.size _ _ _ H1 rfl rfl rfl ⟨hwn, hw.2⟩ ⟨by omega, by omega, by omega, by omega⟩
  rw [show k + 1 - k0 = k - k0 + 1 by omega, show n + 30 - n0 = n - n0 + 30 by omega] at this
  obtain ⟨t, q1, q2⟩ := this ((T.setVm vm').pushCell cl) (by rw [← hH1, ← hT]; rfl) X'
  refine ⟨t, st t ?_, q2⟩
  rw [hT]
  exact q1
theorem x_castZ {own : String} {ic a : Nat} (hx : p.tables.exec = Jvm.exec) (hb : c.code = cc) (hK : x_K g s) (hw : x_WL g Y L I H locs) (hown : s.vm.findClass own = some m.cls) (ho : x_ok Y 14 0 ∧ x_ad Y 14 0 = a) (m2 : Cond.classLink own ic "[LCallLedger$Instruction;" ∈ lw_tbl) (hdc : decode cc pc = .ok (.checkcast ic, 3))
    (kk : W p l e R s m args below meth c H locs cells slots Q (F0 m (pc + 3) ls (.ref a :: rest))) : W p l e R s m args below meth c H locs cells slots Q (F0 m pc ls (.ref a :: rest)) := by
  obtain ⟨hok, rfl⟩ := ho
  have har := hw.1.ar hok (e0 := 6) rfl
  have hnm := va_nmO (C := "CallLedger$Instruction") (nm := "[LCallLedger$Instruction;") (hK.arr (e := 6) (by decide)).2 (by decide)
  intro T hT X
  obtain ⟨vm', X', st⟩ := X.checkcastYes hx hown (x_wd hK m2 rfl) (by rw [hT]; exact har) rfl hnm (va_asg _ _) (g := F0 m pc ls (.ref (x_ad Y 14 0) :: rest)) rfl rfl (by rw [hb]; exact hdc)
  obtain ⟨t, a1, b1⟩ := kk (T.setVm vm') hT X'
  exact ⟨t, st t a1, b1⟩
theorem x_last1 {a : Nat} (hx : p.tables.exec = Jvm.exec) (hb : c.code = cc) (hK : x_K g s) (hw : x_WL g Y L I H locs) (ho : x_ok Y t i ∧ x_ad Y t i = a) (hk : x_kd t = (1, 1)) {x : Int32} {v : Int64} (hin : vp_in x (x_n Y t i)) (hdg : decode cc pc = .ok (.lastore, 1))
    (kk : ∀ (L' : x_L) (H' : Heap) (locs' : List Loc), L' = x_ul L t i x.toNatClampNeg v → x_WL g Y L' I H' locs' → W p l e R s m args below meth c H' locs' cells slots Q (F0 m (pc + 1) ls rest)) : W p l e R s m args below meth c H locs cells slots Q (F0 m pc ls (.long v :: .int x :: .ref a :: rest)) := by
  obtain ⟨hok, rfl⟩ := ho
  exact x_last hx hb hK hw hok hk rfl hin hdg kk
end XY2
