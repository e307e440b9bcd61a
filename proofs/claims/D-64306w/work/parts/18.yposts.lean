/-! ENDS AND CALLS OF METHODS THAT CHANGE THE WORLD'S SHAPE -/
abbrev x_YX : Type := Nat → x_Y → x_L → x_I → Nat → Nat → Prop
def x_ynx : x_YX := fun _ _ _ _ _ _ => False
def x_yV (Q : x_Y → x_L → x_I → Nat → Nat → Prop) (X : x_YX) : x_P := fun r Y L I k n => (r = .inl none ∧ Q Y L I k n) ∨ ∃ kx, r = .inr kx ∧ X kx Y L I k n
def x_yI (Q : Int32 → x_Y → x_L → x_I → Nat → Nat → Prop) (X : x_YX) : x_P := fun r Y L I k n => (∃ v, r = .inl (some (.int v)) ∧ Q v Y L I k n) ∨ ∃ kx, r = .inr kx ∧ X kx Y L I k n
def x_yA (Q : Nat → x_Y → x_L → x_I → Nat → Nat → Prop) (X : x_YX) : x_P := fun r Y L I k n => (∃ a, r = .inl (some (.ref a)) ∧ Q a Y L I k n) ∨ ∃ kx, r = .inr kx ∧ X kx Y L I k n
section XYG
variable {p : Program} {l : Launch} {e : Env} {R : Room} {s : State} {m : MethodId} {args : Array Value} {below : List Frame} {meth : Method} {c : Code} {H : Heap} {locs : List Loc} {cells slots : Nat} {Q : State → Prop}
variable {cc : ByteArray} {pc : Nat} {ls : Array Slot} {rest st As : List Value} {g : x_G} {Y : x_Y} {L : x_L} {I : x_I} {t i j k0 n0 k n : Nat} {P : x_P}
theorem x_ygV {own : String} {nL nA F' F k0 n0 k n mL len : Nat} {ret : Option FieldType} (hE : x_E l g p e R s m meth c own cc nL ret F k0 n0) (hw : x_WL g Y L I H locs) {y : MethodName} {av : List Value} {Qc : x_Y → x_L → x_I → Nat → Nat → Prop} {Xc : x_YX} (hC : x_C l y F' g av Y L I k n (x_yV Qc Xc)) (hh : x_has s y mL) (hy : x_yok y nA) (hF : F' + 1 ≤ F) (hL : 8 + (mL + 11) + 64 * F' ≤ 64 * F)
    (hls : ls.size = nL) (hr : (rest.map fun v => v.category).sum ≤ 8) (hkk : x_bd k0 n0 k n) {ig : Instr} (hdg : decode cc pc = .ok (ig, len))
    (ht : ∀ T : State, T.heap = H → Stand p l e R s m args below meth c T locs (k - k0) (n - n0) → ∃ (mk : MethodId) (vm₁ : Vm), s.methodNamed? y = some mk ∧ Stand p l e R s m args below meth c (T.setVm vm₁) locs (k - k0) (n - n0) ∧
      ∀ tg, Steps p.tables e below (doInvoke e ((T.setVm vm₁).setTop (F0 m pc ls rest)) [] mk av.toArray).1 tg → Steps p.tables e below (T.setTop (F0 m pc ls st)) tg)
    (kr : ∀ (Y' : x_Y) (L' : x_L) (I' : x_I) (k' n' : Nat) (H' : Heap) (locs' : List Loc), Qc Y' L' I' k' n' → x_WL g Y' L' I' H' locs' → x_bd k n k' n' → W p l e R s m args below meth c H' locs' (k' - k0) (n' - n0) Q (F0 m (pc + len) ls rest))
    (kt : ∀ (kx : Nat) (Y' : x_Y) (L' : x_L) (I' : x_I) (k' n' : Nat) (H' : Heap) (locs' : List Loc), Xc kx Y' L' I' k' n' → x_WL g Y' L' I' H' locs' → x_bd k n k' n' → WT p l e R s m args below meth c H' locs' (k' - k0) (n' - n0) Q (F0 m pc ls rest) kx) :
    W p l e R s m args below meth c H locs (k - k0) (n - n0) Q (F0 m pc ls st) :=
  x_go hE hw hC hh hy hF hL hls hr hkk hdg ht (fun v Y' L' I' k' n' H' locs' hP hw' hb => by
    obtain ⟨e1, hq⟩ | ⟨kx, e1, hq⟩ := hP
    · cases e1
      exact kr Y' L' I' k' n' H' locs' hq hw' hb
    · cases e1) (fun kx Y' L' I' k' n' H' locs' hP hw' hb => by
    obtain ⟨e1, hq⟩ | ⟨kx', e1, hq⟩ := hP
    · cases e1
    · cases e1
      exact kt kx Y' L' I' k' n' H' locs' hq hw' hb)
theorem x_ygI {own : String} {nL nA F' F k0 n0 k n mL len : Nat} {ret : Option FieldType} (hE : x_E l g p e R s m meth c own cc nL ret F k0 n0) (hw : x_WL g Y L I H locs) {y : MethodName} {av : List Value} {Qc : Int32 → x_Y → x_L → x_I → Nat → Nat → Prop} {Xc : x_YX} (hC : x_C l y F' g av Y L I k n (x_yI Qc Xc)) (hh : x_has s y mL) (hy : x_yok y nA) (hF : F' + 1 ≤ F) (hL : 8 + (mL + 11) + 64 * F' ≤ 64 * F)
    (hls : ls.size = nL) (hr : (rest.map fun v => v.category).sum ≤ 8) (hkk : x_bd k0 n0 k n) {ig : Instr} (hdg : decode cc pc = .ok (ig, len))
    (ht : ∀ T : State, T.heap = H → Stand p l e R s m args below meth c T locs (k - k0) (n - n0) → ∃ (mk : MethodId) (vm₁ : Vm), s.methodNamed? y = some mk ∧ Stand p l e R s m args below meth c (T.setVm vm₁) locs (k - k0) (n - n0) ∧
      ∀ tg, Steps p.tables e below (doInvoke e ((T.setVm vm₁).setTop (F0 m pc ls rest)) [] mk av.toArray).1 tg → Steps p.tables e below (T.setTop (F0 m pc ls st)) tg)
    (kr : ∀ (v : Int32) (Y' : x_Y) (L' : x_L) (I' : x_I) (k' n' : Nat) (H' : Heap) (locs' : List Loc), Qc v Y' L' I' k' n' → x_WL g Y' L' I' H' locs' → x_bd k n k' n' → W p l e R s m args below meth c H' locs' (k' - k0) (n' - n0) Q (F0 m (pc + len) ls (.int v :: rest)))
    (kt : ∀ (kx : Nat) (Y' : x_Y) (L' : x_L) (I' : x_I) (k' n' : Nat) (H' : Heap) (locs' : List Loc), Xc kx Y' L' I' k' n' → x_WL g Y' L' I' H' locs' → x_bd k n k' n' → WT p l e R s m args below meth c H' locs' (k' - k0) (n' - n0) Q (F0 m pc ls rest) kx) :
    W p l e R s m args below meth c H locs (k - k0) (n - n0) Q (F0 m pc ls st) :=
  x_go hE hw hC hh hy hF hL hls hr hkk hdg ht (fun v Y' L' I' k' n' H' locs' hP hw' hb => by
    obtain ⟨v', e1, hq⟩ | ⟨kx, e1, hq⟩ := hP
    · cases e1
      exact kr v' Y' L' I' k' n' H' locs' hq hw' hb
    · cases e1) (fun kx Y' L' I' k' n' H' locs' hP hw' hb => by
    obtain ⟨v', e1, hq⟩ | ⟨kx', e1, hq⟩ := hP
    · cases e1
    · cases e1
      exact kt kx Y' L' I' k' n' H' locs' hq hw' hb)
theorem x_ygA {own : String} {nL nA F' F k0 n0 k n mL len : Nat} {ret : Option FieldType} (hE : x_E l g p e R s m meth c own cc nL ret F k0 n0) (hw : x_WL g Y L I H locs) {y : MethodName} {av : List Value} {Qc : Nat → x_Y → x_L → x_I → Nat → Nat → Prop} {Xc : x_YX} (hC : x_C l y F' g av Y L I k n (x_yA Qc Xc)) (hh : x_has s y mL) (hy : x_yok y nA) (hF : F' + 1 ≤ F) (hL : 8 + (mL + 11) + 64 * F' ≤ 64 * F)
    (hls : ls.size = nL) (hr : (rest.map fun v => v.category).sum ≤ 8) (hkk : x_bd k0 n0 k n) {ig : Instr} (hdg : decode cc pc = .ok (ig, len))
    (ht : ∀ T : State, T.heap = H → Stand p l e R s m args below meth c T locs (k - k0) (n - n0) → ∃ (mk : MethodId) (vm₁ : Vm), s.methodNamed? y = some mk ∧ Stand p l e R s m args below meth c (T.setVm vm₁) locs (k - k0) (n - n0) ∧
      ∀ tg, Steps p.tables e below (doInvoke e ((T.setVm vm₁).setTop (F0 m pc ls rest)) [] mk av.toArray).1 tg → Steps p.tables e below (T.setTop (F0 m pc ls st)) tg)
    (kr : ∀ (v : Nat) (Y' : x_Y) (L' : x_L) (I' : x_I) (k' n' : Nat) (H' : Heap) (locs' : List Loc), Qc v Y' L' I' k' n' → x_WL g Y' L' I' H' locs' → x_bd k n k' n' → W p l e R s m args below meth c H' locs' (k' - k0) (n' - n0) Q (F0 m (pc + len) ls (.ref v :: rest)))
    (kt : ∀ (kx : Nat) (Y' : x_Y) (L' : x_L) (I' : x_I) (k' n' : Nat) (H' : Heap) (locs' : List Loc), Xc kx Y' L' I' k' n' → x_WL g Y' L' I' H' locs' → x_bd k n k' n' → WT p l e R s m args below meth c H' locs' (k' - k0) (n' - n0) Q (F0 m pc ls rest) kx) :
    W p l e R s m args below meth c H locs (k - k0) (n - n0) Q (F0 m pc ls st) :=
  x_go hE hw hC hh hy hF hL hls hr hkk hdg ht (fun v Y' L' I' k' n' H' locs' hP hw' hb => by
    obtain ⟨v', e1, hq⟩ | ⟨kx, e1, hq⟩ := hP
    · cases e1
      exact kr v' Y' L' I' k' n' H' locs' hq hw' hb
    · cases e1) (fun kx Y' L' I' k' n' H' locs' hP hw' hb => by
    obtain ⟨v', e1, hq⟩ | ⟨kx', e1, hq⟩ := hP
    · cases e1
    · cases e1
      exact kt kx Y' L' I' k' n' H' locs' hq hw' hb)
theorem x_recv1 (hK : x_K g s) (hw : x_WL g Y L I H locs) {a : Nat} (ho : x_ok Y t i ∧ x_ad Y t i = a) {c0 : Nat} (hk : x_kd t = (0, c0)) (hc : c0 < 9) : x_rcv s H (x_cn c0) a := by
  obtain ⟨hok, rfl⟩ := ho
  exact x_recv hK hw hok hk hc
theorem x_lsize1 {own : String} {idx nL F a : Nat} {ret : Option FieldType} (hE : x_E l g p e R s m meth c own cc nL ret F k0 n0) (hw : x_WL g Y L I H locs) (ho : x_ok Y 2 0 ∧ x_ad Y 2 0 = a) (m1 : Cond.methodLink own idx y_List_size ∈ lw_tbl) (hF : 1 ≤ F) (hls : ls.size = nL) (hr : (rest.map fun v => v.category).sum ≤ 8) (hkk : x_bd k0 n0 k n) (hdg : decode cc pc = .ok (.invokeinterface idx 1, 5))
    (kk : ∀ (H : Heap) (locs : List Loc), x_WL g Y L I H locs → W p l e R s m args below meth c H locs (k - k0) (n - n0) Q (F0 m (pc + 5) ls (.int (I 2 0 1) :: rest))) : W p l e R s m args below meth c H locs (k - k0) (n - n0) Q (F0 m pc ls (.ref a :: rest)) := by
  obtain ⟨hok, rfl⟩ := ho
  exact x_lsize hE hw hok m1 hF hls hr hkk hdg kk
theorem x_cast1 {own : String} {c0 ic a : Nat} (hx : p.tables.exec = Jvm.exec) (hb : c.code = cc) (hK : x_K g s) (hw : x_WL g Y L I H locs) (hown : s.vm.findClass own = some m.cls) (ho : x_ok Y t i ∧ x_ad Y t i = a) (hk : x_kd t = (0, c0)) (hc : c0 < 9) (m2 : Cond.classLink own ic (x_cn c0) ∈ lw_tbl) (hdc : decode cc pc = .ok (.checkcast ic, 3))
    (kk : W p l e R s m args below meth c H locs cells slots Q (F0 m (pc + 3) ls (.ref a :: rest))) : W p l e R s m args below meth c H locs cells slots Q (F0 m pc ls (.ref a :: rest)) :=
  va_castS hx hb hown (x_wd hK m2 rfl) (hK.cls hc).2 (x_recv1 hK hw ho hk hc) hdc kk
theorem x_castself (hK : x_K g s) {c0 : Nat} (hc : c0 < 9) : (Cond.castable (x_cn c0) (x_cn c0)).before args s = true := by
  have h := (hK.cls hc).2
  have ha := va_assign h
  simp [Cond.before, Cond.holds, Cond.value, h.1, ha]
theorem x_aald1 {a b e0 : Nat} (hx : p.tables.exec = Jvm.exec) (hb : c.code = cc) (hK : x_K g s) (hw : x_WL g Y L I H locs) (ho : x_ok Y t i ∧ x_ad Y t i = a) (hk : x_kd t = (1, e0)) (he : e0 < 7) (h4 : 4 ≤ e0) {x : Int32} (hin : vp_in x (x_n Y t i)) (hR : x_r Y t i x.toNatClampNeg = some b) (hdg : decode cc pc = .ok (.aaload, 1))
    (kk : W p l e R s m args below meth c H locs cells slots Q (F0 m (pc + 1) ls (.ref b :: rest))) : W p l e R s m args below meth c H locs cells slots Q (F0 m pc ls (.int x :: .ref a :: rest)) := by
  obtain ⟨hok, rfl⟩ := ho
  exact x_aald hx hb hK hw hok hk he h4 rfl hin hR hdg kk
theorem x_sf {v : ClassId × Class × Nat × Field} (hK : x_K g s) (h : s.fieldFound? "java/util/AbstractList" "modCount" "I" = some v) : s.fieldFound? "java/util/ArrayList" "modCount" "I" = some v :=
  u_same (args := #[]) (x_wd hK k_62 rfl) v h
/-- the empty array that all new lists share -/
theorem x_dfT (hK : x_K g s) (hw : x_W g Y L I H) : va_T (.object "java/lang/Object") (g.2.2.2.2 30) 0 (fun _ => .null) (x_A g) s H := by
  obtain ⟨s0, a0, h1, h2, h3, h4, h5, h6, h7, h8, h9⟩ := hK
  obtain ⟨t, q1, q2⟩ := va_Tof (args := a0) (s := s0) (tm := .static "java/util/ArrayList" "DEFAULTCAPACITY_EMPTY_ELEMENTDATA" "[Ljava/lang/Object;") (ty := .object "java/lang/Object") (N := 0) (f := fun _ => .null) (A := x_A g) (by decide) (flat_of_before _ h1 _ (by decide +kernel)) (va_eqt (flat_of_before _ h1 _ (by decide +kernel))) (fun j h => absurd h (Nat.not_lt_zero j)) (fun a ha => by rw [h3] at ha; exact Nat.not_le.mpr ha)
  cases h8.symm.trans q1
  exact (q2.moved h4.alike).kept (x_kp h3 hw)
theorem x_dfZ (hK : x_K g s) (hw : x_W g Y L I H) : va_Z "java/util/ArrayList" "DEFAULTCAPACITY_EMPTY_ELEMENTDATA" "[Ljava/lang/Object;" (.ref (g.2.2.2.2 30)) (x_A g) s H := by
  obtain ⟨s0, a0, h1, h2, h3, h4, h5, h6, h7, h8, h9⟩ := hK
  have hz := va_Zref (A := x_A g) (h2 _ k_55) (h2 _ k_5) h8 (fun a ha => by rw [h3] at ha; exact Nat.not_le.mpr ha)
  exact (hz.moved h4.alike).kept (x_kp h3 hw)
theorem x_vaZ (hK : x_K g s) (hw : x_W g Y L I H) : va_Z "CallLedger$Instruction" "$VALUES" "[LCallLedger$Instruction;" (.ref (g.2.2.2.2 31)) (x_A g) s H := by
  obtain ⟨s0, a0, h1, h2, h3, h4, h5, h6, h7, h8, h9⟩ := hK
  have hz := va_Zref (A := x_A g) (h2 _ k_157) (h2 _ k_9) h9.1 (fun a ha => by rw [h3] at ha; exact Nat.not_le.mpr ha)
  exact (hz.moved h4.alike).kept (x_kp h3 hw)
theorem x_alenD (hx : p.tables.exec = Jvm.exec) (hb : c.code = cc) (hK : x_K g s) (hw : x_WL g Y L I H locs) (hdg : decode cc pc = .ok (.arraylength, 1))
    (kk : W p l e R s m args below meth c H locs cells slots Q (F0 m (pc + 1) ls (.int (0 : Int32) :: rest))) : W p l e R s m args below meth c H locs cells slots Q (F0 m pc ls (.ref (g.2.2.2.2 30) :: rest)) := by
  obtain ⟨cell, h1, h2, h3, h4, h5, h6, h7⟩ := x_dfT hK hw.1
  exact W.alen (n := 0) hx hb h1 h2 (by rw [h5]; rfl) rfl rfl hdg kk
theorem x_gsD {own : String} {idx : Nat} (hx : p.tables.exec = Jvm.exec) (hb : c.code = cc) (hK : x_K g s) (hw : x_WL g Y L I H locs) (hown : s.vm.findClass own = some m.cls) (hlink : (Cond.fieldLink own idx "java/util/ArrayList" "DEFAULTCAPACITY_EMPTY_ELEMENTDATA" "[Ljava/lang/Object;").before args s = true) (hdg : decode cc pc = .ok (.getstatic idx, 3))
    (kk : W p l e R s m args below meth c H locs cells slots Q (F0 m (pc + 3) ls (.ref (g.2.2.2.2 30) :: rest))) : W p l e R s m args below meth c H locs cells slots Q (F0 m pc ls rest) := by
  obtain ⟨cf, kf, fi, f, a, cell, h1, h2, h3, h4, h5, h6, h7, h8⟩ := x_dfZ hK hw.1
  exact W.gets hx hb hown hlink h1 h2 h3 h4 h5 (fun e => by rw [e] at h6; cases h6) h7 rfl hdg kk
theorem x_gsZ {own : String} {idx : Nat} (hx : p.tables.exec = Jvm.exec) (hb : c.code = cc) (hK : x_K g s) (hw : x_WL g Y L I H locs) (hown : s.vm.findClass own = some m.cls) (hlink : (Cond.fieldLink own idx "CallLedger$Instruction" "$VALUES" "[LCallLedger$Instruction;").before args s = true) (hdg : decode cc pc = .ok (.getstatic idx, 3))
    (kk : W p l e R s m args below meth c H locs cells slots Q (F0 m (pc + 3) ls (.ref (g.2.2.2.2 31) :: rest))) : W p l e R s m args below meth c H locs cells slots Q (F0 m pc ls rest) := by
  obtain ⟨cf, kf, fi, f, a, cell, h1, h2, h3, h4, h5, h6, h7, h8⟩ := x_vaZ hK hw.1
  exact W.gets hx hb hown hlink h1 h2 h3 h4 h5 (fun e => by rw [e] at h6; cases h6) h7 rfl hdg kk
end XYG
abbrev y_List_iterator : MethodName := ⟨"java/util/List", "iterator", "()Ljava/util/Iterator;"⟩
theorem q_List_iterator : x_yok y_List_iterator 0 := by unfold x_yok; decide +kernel
abbrev y_List_add : MethodName := ⟨"java/util/List", "add", "(Ljava/lang/Object;)Z"⟩
theorem q_List_add : x_yok y_List_add 1 := by unfold x_yok; decide +kernel
abbrev y_Iter_hasNext : MethodName := ⟨"java/util/Iterator", "hasNext", "()Z"⟩
theorem q_Iter_hasNext : x_yok y_Iter_hasNext 0 := by unfold x_yok; decide +kernel
abbrev y_Iter_next : MethodName := ⟨"java/util/Iterator", "next", "()Ljava/lang/Object;"⟩
theorem q_Iter_next : x_yok y_Iter_next 0 := by unfold x_yok; decide +kernel
