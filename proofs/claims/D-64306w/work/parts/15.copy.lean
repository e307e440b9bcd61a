/-! System.arraycopy between two int arrays -/
def x_cpI (I : x_I) (t0 i0 t1 i1 sp dp n : Nat) : x_I := fun a b c => if a = t1 ∧ b = i1 then va_cpy (I t0 i0) (I t1 i1) sp dp n c else I a b c
section XCP
variable {p : Program} {l : Launch} {e : Env} {R : Room} {s : State} {m : MethodId} {args : Array Value} {below : List Frame} {meth : Method} {c : Code} {H : Heap} {locs : List Loc} {cells slots : Nat} {Q : State → Prop}
variable {cc : ByteArray} {pc : Nat} {ls : Array Slot} {rest : List Value} {g : x_G} {Y : x_Y} {L : x_L} {I : x_I} {t0 i0 t1 i1 : Nat}
theorem x_VI (hk : x_kd t0 = (1, 0)) : x_V Y L I t0 i0 = fun j => .int (I t0 i0 j) := by
  funext j
  exact x_V0 (x_ska hk)
theorem x_copyI (hx : p.tables.exec = Jvm.exec) (hb : c.code = cc) (hml : c.maxLocals = ls.size) (hK : x_K g s) (hw : x_WL g Y L I H locs) {own : String} {index : Nat} (hown : s.vm.findClass own = some m.cls) (mlink : Cond.methodLink own index arraycopyName ∈ lw_tbl) (mnat : Cond.native arraycopyName ∈ lw_tbl) (mstat : Cond.static arraycopyName ∈ lw_tbl) (mini : Cond.initialized "java/lang/System" ∈ lw_tbl)
    (ok0 : x_ok Y t0 i0) (ok1 : x_ok Y t1 i1) (k0 : x_kd t0 = (1, 0)) (k1 : x_kd t1 = (1, 0)) {n0 n1 : Nat} (e0 : x_n Y t0 i0 = n0) (e1 : x_n Y t1 i1 = n1) {sp dp n : Int32} (h1 : ¬ sp < 0) (h2 : ¬ dp < 0) (h3 : ¬ n < 0) (h4 : sp.toNatClampNeg + n.toNatClampNeg ≤ n0) (h5 : dp.toNatClampNeg + n.toNatClampNeg ≤ n1)
    (hF : 1 ≤ R.frames) (hL : 64 ≤ R.locals) (hr : (rest.map fun v => v.category).sum ≤ 8) (hdg : decode cc pc = .ok (.invokestatic index, 3))
    (kk : ∀ (I' : x_I) (H' : Heap) (locs' : List Loc), I' = x_cpI I t0 i0 t1 i1 sp.toNatClampNeg dp.toNatClampNeg n.toNatClampNeg → x_WL g Y L I' H' locs' → W p l e R s m args below meth c H' locs' cells slots Q (F0 m (pc + 3) ls rest)) : W p l e R s m args below meth c H locs cells slots Q (F0 m pc ls (.int n :: .int dp :: .ref (x_ad Y t1 i1) :: .int sp :: .ref (x_ad Y t0 i0) :: rest)) := by
  have nn : ∀ z : Int32, ¬ z < 0 → z.toInt = (z.toNatClampNeg : Int) := by
    intro z hz
    have hz0 : (0 : Int) ≤ z.toInt := by
      have := Int32.not_lt.mp hz
      simpa using Int32.le_iff_toInt_le.mp this
    show z.toInt = ((z.toInt.toNat : Nat) : Int)
    omega
  intro T hT X
  have hc0 := hw.1.ar ok0 k0
  have hc1 := hw.1.ar ok1 k1
  rw [x_VI k0, e0] at hc0
  rw [x_VI k1, e1] at hc1
  have hA := (hK.arr (show 0 < 7 by omega)).1
  obtain ⟨-, kA0, hk0, cm0, hkk0⟩ := hA n0 (fun j => .int (I t0 i0 j))
  obtain ⟨-, kA1, hk1, cm1, hkk1⟩ := hA n1 (fun j => .int (I t1 i1 j))
  generalize g.2.2.1 0 = cA at hc0 hc1 hk0 hk1
  obtain ⟨vm', X', step⟩ := X.arraycopy hx hown (x_wd hK mlink rfl) (x_wd hK mnat rfl) (x_wd hK mstat rfl) (x_wd hK mini rfl) (src := x_ad Y t0 i0) (dst := x_ad Y t1 i1) (cs := arrV cA n0 (fun j => .int (I t0 i0 j))) (cd := arrV cA n1 (fun j => .int (I t1 i1 j))) (srcPos := sp) (destPos := dp) (n := n) (by rw [hT]; exact hc0) (by rw [hT]; exact hc1)
    (fun _ h => by cases h) (fun _ h => by cases h) (fun h => by cases h) (fun h => by cases h) hk0 hk1 hkk0 hkk1 (by simp [x_et, refKind]) h1 h2 h3
    (by rw [nn sp h1, nn n h3, arrV_size]; omega)
    (by rw [nn dp h2, nn n h3, arrV_size]; omega)
    (fun vm₁ _ i hi => by
      have e : (arrV cA n0 (fun j => .int (I t0 i0 j))).slots.getD (sp.toNatClampNeg + i) .null = .int (I t0 i0 (sp.toNatClampNeg + i)) := by
        rw [Array.getD_eq_getD_getElem?, arrV_read _ _ (by omega)]
        rfl
      refine ⟨?_, ?_⟩
      · rw [e]
        rfl
      · rw [e]
        exact trivial)
    (g := F0 m pc ls (.int n :: .int dp :: .ref (x_ad Y t1 i1) :: .int sp :: .ref (x_ad Y t0 i0) :: rest)) rfl (by rw [hml]) (rest := rest) rfl (by rw [hb]; exact hdg) hF (by
      have : nativeFrameWords "java/lang/System" "arraycopy" 5 ≤ 30 := by decide +kernel
      show 2 * 0 + _ + _ ≤ _; omega)
  have ec : copied (arrV cA n0 (fun j => .int (I t0 i0 j))) (arrV cA n1 (fun j => .int (I t1 i1 j))) sp dp n = arrV cA n1 (fun j => .int (va_cpy (I t0 i0) (I t1 i1) sp.toNatClampNeg dp.toNatClampNeg n.toNatClampNeg j)) := va_copied (fun z => .int z) cA cA _ _ h4
  rw [ec] at X' step
  have hl : x_ad Y t1 i1 < H.size := (Array.getElem?_eq_some_iff.mp hc1).1
  generalize hcell : arrV cA n1 (fun j => .int (va_cpy (I t0 i0) (I t1 i1) sp.toNatClampNeg dp.toNatClampNeg n.toNatClampNeg j)) = cell at X' step
  have hheap : ((T.setVm vm').setCell (x_ad Y t1 i1) cell).heap = H.setIfInBounds (x_ad Y t1 i1) cell := by rw [← hT]; rfl
  have hc1' := hw.1.ar ok1 k1
  have hcA : g.2.2.1 0 = cA := by
    rw [hc1] at hc1'
    exact congrArg Cell.cls (Option.some.inj hc1'.symm)
  obtain ⟨t, a1, b1⟩ := kk _ (H.setIfInBounds (x_ad Y t1 i1) cell) (locs ++ _) rfl ⟨hw.1.put ok1 (by simp) (fun q hq => by simp [Array.getElem?_setIfInBounds, Ne.symm hq]) (x_same Y) (by
      unfold x_at
      rw [k1, if_neg Nat.one_ne_zero, x_VI k1, e1, hcA]
      rw [show (H.setIfInBounds (x_ad Y t1 i1) cell)[x_ad Y t1 i1]? = some cell by simp [Array.getElem?_setIfInBounds, hl], ← hcell]
      simp [x_cpI]) (fun a b hab => by
      funext k
      simp [x_V, x_cpI, hab]), fun q hq => by
      rcases List.mem_append.mp hq with h | h
      · exact hw.2 q h
      · obtain ⟨z, -, hz⟩ := List.mem_map.mp h
        rw [← hz]
        exact (hw.1.2.2.1 t1 i1 ok1).1⟩ _ hheap X'
  exact ⟨t, step t a1, b1⟩
end XCP
