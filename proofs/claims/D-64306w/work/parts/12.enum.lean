/-! THE ENUM'S CONSTANTS -/
abbrev x_enm : List String := ["END", "PUSH", "POP", "COPY", "SWAP", "ADD", "SUB", "MUL", "DIV", "REM", "LESS", "SAME", "NOT", "AND", "OR", "XOR", "JUMP", "JUMP_IF", "LOAD", "STORE", "ARGUMENT", "CALLER", "VALUE", "SELF", "BALANCE", "LOG", "RETURN", "CALL", "GAS", "REVERT"]
abbrev x_nds : List Int32 := [0, 0, 1, 1, 1, 2, 2, 2, 2, 2, 2, 2, 1, 2, 2, 2, 0, 1, 1, 2, 1, 0, 0, 0, 1, 1, 1, 3, 0, 1]
abbrev x_mrs : List Int32 := [0, 1, -1, 1, 0, -1, -1, -1, -1, -1, -1, -1, 0, -1, -1, -1, 0, -1, 0, -2, 0, 1, 1, 1, 0, -1, -1, -1, 1, -1]
abbrev x_prs : List Int32 := [1, 1, 1, 1, 1, 1, 1, 2, 3, 3, 1, 1, 1, 1, 1, 1, 2, 2, 10, 5, 1, 1, 1, 1, 5, 8, 1, 25, 1, 1]
def en_needs (i : Nat) : Int32 := x_nds.getD i 0
def en_more (i : Nat) : Int32 := x_mrs.getD i 0
def en_price (i : Nat) : Int32 := x_prs.getD i 0
abbrev x_Ei : String := "CallLedger$Instruction"
abbrev x_Ed : String := "LCallLedger$Instruction;"
theorem x_en1 : ∀ i, i < 30 → Cond.laysStatic x_Ei (x_enm.getD i "") x_Ed ∈ lw_tbl := by decide +kernel
theorem x_en2 : ∀ i, i < 30 → Cond.exactly (.static x_Ei (x_enm.getD i "") x_Ed) x_Ei ∈ flatC (Jvm.Cond.and given_1 narrow_1) := by decide +kernel
theorem x_en3 : ∀ i, i < 30 → Cond.eq (.field (.static x_Ei (x_enm.getD i "") x_Ed) "java/lang/Enum" "ordinal" "I") (.int (nI i)) ∈ flatC (Jvm.Cond.and given_1 narrow_1) := by decide +kernel
theorem x_en4 : ∀ i, i < 30 → Cond.eq (.field (.static x_Ei (x_enm.getD i "") x_Ed) x_Ei "needs" "I") (.int (en_needs i)) ∈ flatC (Jvm.Cond.and given_1 narrow_1) := by decide +kernel
theorem x_en5 : ∀ i, i < 30 → Cond.eq (.field (.static x_Ei (x_enm.getD i "") x_Ed) x_Ei "more" "I") (.int (en_more i)) ∈ flatC (Jvm.Cond.and given_1 narrow_1) := by decide +kernel
theorem x_en6 : ∀ i, i < 30 → Cond.eq (.field (.static x_Ei (x_enm.getD i "") x_Ed) x_Ei "price" "I") (.int (en_price i)) ∈ flatC (Jvm.Cond.and given_1 narrow_1) := by decide +kernel
theorem x_enini : Cond.initialized x_Ei ∈ lw_tbl := by decide +kernel
def x_A (g : x_G) : Nat → Prop := fun q => x_z g ≤ q
theorem x_kp {g : x_G} {s0 : State} {Y : x_Y} {L : x_L} {I : x_I} {H : Heap} (h3 : s0.heap = g.2.2.2.1) (hw : x_W g Y L I H) : ∀ a : Nat, a < s0.heap.size → ¬ x_A g a → H[a]? = s0.heap[a]? := fun a ha _ => by
  rw [h3] at ha ⊢
  exact hw.2.1 a ha
theorem x_enO {g : x_G} {s : State} {Y : x_Y} {L : x_L} {I : x_I} {H : Heap} (hK : x_K g s) (hw : x_W g Y L I H) {i : Nat} (hi : i < 30) : va_O x_Ei (g.2.2.2.2 i) (x_A g) s H := by
  obtain ⟨s0, a0, h1, h2, h3, h4, h5, h6, h7⟩ := hK
  obtain ⟨a, c, cell, k, q1, q2, q3, q4, q5, q6, -⟩ := Cond.exactly_spec (flat_of_before _ h1 _ (x_en2 i hi))
  cases q1.symm.trans (h7.1 i hi)
  have ho : va_O x_Ei (g.2.2.2.2 i) (x_A g) s0 s0.heap := ⟨cell, q3, q5, by rw [q6]; exact q2, by
    have hz := (Array.getElem?_eq_some_iff.mp q3).1
    rw [h3] at hz
    exact Nat.not_le.mpr hz⟩
  exact (ho.moved h4.alike).kept (x_kp h3 hw)
theorem x_enZ {g : x_G} {s : State} {Y : x_Y} {L : x_L} {I : x_I} {H : Heap} (hK : x_K g s) (hw : x_W g Y L I H) {i : Nat} (hi : i < 30) : va_Z x_Ei (x_enm.getD i "") x_Ed (.ref (g.2.2.2.2 i)) (x_A g) s H := by
  obtain ⟨s0, a0, h1, h2, h3, h4, h5, h6, h7⟩ := hK
  have hz := va_Zref (A := x_A g) (h2 _ (x_en1 i hi)) (h2 _ x_enini) (h7.1 i hi) (fun a ha => by rw [h3] at ha; exact Nat.not_le.mpr ha)
  exact (hz.moved h4.alike).kept (x_kp h3 hw)
theorem x_enF {g : x_G} {s : State} {Y : x_Y} {L : x_L} {I : x_I} {H : Heap} (hK : x_K g s) (hw : x_W g Y L I H) {i : Nat} (hi : i < 30) {o n : String} {v : Int32} (hm : Cond.eq (.field (.static x_Ei (x_enm.getD i "") x_Ed) o n "I") (.int v) ∈ flatC (Jvm.Cond.and given_1 narrow_1)) : va_OF o n "I" (.int v) (g.2.2.2.2 i) (x_A g) s H := by
  obtain ⟨s0, a0, h1, h2, h3, h4, h5, h6, h7⟩ := hK
  have hv := va_eqt (flat_of_before _ h1 _ hm)
  have hof : va_OF o n "I" (.int v) (g.2.2.2.2 i) (x_A g) s0 s0.heap := by
    cases hfo : s0.fieldFound? o n "I" with
    | none =>
      rw [va_fe (h7.1 i hi)] at hv
      simp [State.fieldOf?, State.fieldNamed?, hfo] at hv
    | some x =>
      obtain ⟨cf, k, fi, f⟩ := x
      obtain ⟨g1, cell, g2, g3, -, -, g6⟩ := Term.field_spec hfo (h7.1 i hi) hv
      exact ⟨cf, k, fi, f, cell, hfo, g1, g2, g3, g6, by
        have hz := (Array.getElem?_eq_some_iff.mp g2).1
        rw [h3] at hz
        exact Nat.not_le.mpr hz⟩
  exact (hof.moved h4.alike).kept (x_kp h3 hw)
theorem x_eninj {g : x_G} {s : State} {Y : x_Y} {L : x_L} {I : x_I} {H : Heap} (hK : x_K g s) (hw : x_W g Y L I H) {i j : Nat} (hi : i < 30) (hj : j < 30) (h : g.2.2.2.2 i = g.2.2.2.2 j) : i = j := by
  obtain ⟨cf, k, fi, f, cell, a1, a2, a3, a4, a5, a6⟩ := x_enF hK hw hi (x_en3 i hi)
  obtain ⟨cf', k', fi', f', cell', b1, b2, b3, b4, b5, b6⟩ := x_enF hK hw hj (x_en3 j hj)
  rw [h] at a3
  cases a3.symm.trans b3
  cases a1.symm.trans b1
  have hh := a5.symm.trans b5
  simp only [Option.some.injEq, Value.int.injEq] at hh
  exact (nI_eq (by omega) (by omega)).mp hh
/-- the fields of a constant, by number -/
def x_efv (q i : Nat) : Int32 := match q with
  | 0 => nI i
  | 1 => en_needs i
  | 2 => en_more i
  | _ => en_price i
def x_efn (q : Nat) : String × String := match q with
  | 0 => ("java/lang/Enum", "ordinal")
  | 1 => (x_Ei, "needs")
  | 2 => (x_Ei, "more")
  | _ => (x_Ei, "price")
theorem x_efm {q i : Nat} (hi : i < 30) : Cond.eq (.field (.static x_Ei (x_enm.getD i "") x_Ed) (x_efn q).1 (x_efn q).2 "I") (.int (x_efv q i)) ∈ flatC (Jvm.Cond.and given_1 narrow_1) := by
  match q with
  | 0 => exact x_en3 i hi
  | 1 => exact x_en4 i hi
  | 2 => exact x_en5 i hi
  | q + 3 => exact x_en6 i hi
section XEN
variable {p : Program} {l : Launch} {e : Env} {R : Room} {s : State} {m : MethodId} {args : Array Value} {below : List Frame} {meth : Method} {c : Code} {H : Heap} {locs : List Loc} {cells slots : Nat} {Q : State → Prop}
variable {cc : ByteArray} {pc : Nat} {ls : Array Slot} {rest st As : List Value} {g : x_G} {Y : x_Y} {L : x_L} {I : x_I} {t i j k0 n0 k n : Nat} {P : x_P}
theorem x_erecv (hK : x_K g s) (hw : x_WL g Y L I H locs) (hi : i < 30) : x_rcv s H x_Ei (g.2.2.2.2 i) := by
  obtain ⟨cell, h1, h2, h3, -⟩ := x_enO hK hw.1 hi
  exact ⟨cell, h1, h2, h3⟩
theorem x_egf0 {own : String} {idx : Nat} (q : Nat) (hx : p.tables.exec = Jvm.exec) (hb : c.code = cc) (hK : x_K g s) (hw : x_WL g Y L I H locs) (hown : s.vm.findClass own = some m.cls) (hi : i < 30) (hlink : (Cond.fieldLink own idx (x_efn q).1 (x_efn q).2 "I").before args s = true) (hdg : decode cc pc = .ok (.getfield idx, 3))
    (kk : W p l e R s m args below meth c H locs cells slots Q (F0 m (pc + 3) ls (.int (x_efv q i) :: rest))) : W p l e R s m args below meth c H locs cells slots Q (F0 m pc ls (.ref (g.2.2.2.2 i) :: rest)) := by
  obtain ⟨cf, k, fi, f, cell, h1, h2, h3, h4, h5, h6⟩ := x_enF hK hw.1 hi (x_efm (q := q) hi)
  exact W.getf hx hb hown hlink h1 h2 h3 h4 (v := .int (x_efv q i)) h5 rfl rfl hdg kk
theorem x_egfN0 {own host : String} {idx : Nat} (q : Nat) (hx : p.tables.exec = Jvm.exec) (hb : c.code = cc) (hK : x_K g s) (hw : x_WL g Y L I H locs) (hown : s.vm.findClass own = some m.cls) (hi : i < 30) (hlink : (Cond.fieldLinkNest own idx (x_efn q).1 (x_efn q).2 "I" host).before args s = true) (hdg : decode cc pc = .ok (.getfield idx, 3))
    (kk : W p l e R s m args below meth c H locs cells slots Q (F0 m (pc + 3) ls (.int (x_efv q i) :: rest))) : W p l e R s m args below meth c H locs cells slots Q (F0 m pc ls (.ref (g.2.2.2.2 i) :: rest)) := by
  obtain ⟨cf, k, fi, f, cell, h1, h2, h3, h4, h5, h6⟩ := x_enF hK hw.1 hi (x_efm (q := q) hi)
  exact va_Wgetf hx hb hown hlink h1 h2 h3 h4 (v := .int (x_efv q i)) h5 rfl rfl hdg kk
theorem x_egs {own nm : String} {idx : Nat} (hx : p.tables.exec = Jvm.exec) (hb : c.code = cc) (hK : x_K g s) (hw : x_WL g Y L I H locs) (hown : s.vm.findClass own = some m.cls) (hi : i < 30) (hlink : (Cond.fieldLink own idx x_Ei nm x_Ed).before args s = true) (hn : x_enm.getD i "" = nm) (hdg : decode cc pc = .ok (.getstatic idx, 3))
    (kk : W p l e R s m args below meth c H locs cells slots Q (F0 m (pc + 3) ls (.ref (g.2.2.2.2 i) :: rest))) : W p l e R s m args below meth c H locs cells slots Q (F0 m pc ls rest) := by
  subst hn
  obtain ⟨cf, kf, fi, f, a, cell, h1, h2, h3, h4, h5, h6, h7, h8⟩ := x_enZ hK hw.1 hi
  exact W.gets hx hb hown hlink h1 h2 h3 h4 h5 (fun e => by rw [e] at h6; cases h6) h7 rfl hdg kk
theorem x_eacmp {off : Int} {tgt : Nat} (hx : p.tables.exec = Jvm.exec) (hb : c.code = cc) (hK : x_K g s) (hw : x_WL g Y L I H locs) (hi : i < 30) (hj : j < 30) (hdg : decode cc pc = .ok (.if_acmp .ne off, 3)) (ht : (pc : Int) + off = (tgt : Int))
    (kt : ¬ i = j → W p l e R s m args below meth c H locs cells slots Q (F0 m tgt ls rest)) (kf : i = j → W p l e R s m args below meth c H locs cells slots Q (F0 m (pc + 3) ls rest)) : W p l e R s m args below meth c H locs cells slots Q (F0 m pc ls (.ref (g.2.2.2.2 j) :: .ref (g.2.2.2.2 i) :: rest)) :=
  lv_acmp_ne (rx := some (g.2.2.2.2 i)) (ry := some (g.2.2.2.2 j)) hx hb hdg ht (fun h => kt (fun e => h (by rw [e]))) (fun h => kf (x_eninj hK hw.1 hi hj (Option.some.inj h)))
/-- a virtual call of a method that a superclass declares -/
theorem x_toU {own C owner : String} {b idx nA : Nat} {x y : MethodName} (hx : p.tables.exec = Jvm.exec) (hb : c.code = cc) (hown : s.vm.findClass own = some m.cls) (hK : x_K g s) (hrc : x_rcv s H C b) (m1 : Cond.methodLink own idx x ∈ lw_tbl) (m2 : Cond.sameMethod x.cls owner x.name x.desc ∈ lw_tbl) (m3 : Cond.declares ⟨owner, x.name, x.desc⟩ ∈ lw_tbl) (m4 : Cond.selects C x y ∈ lw_tbl) (m5 : Cond.instanceMethod y ∈ lw_tbl) (ho : owner ≠ "java/lang/invoke/MethodHandle" ∧ owner ≠ "java/lang/invoke/VarHandle") (hy : x_yok x nA)
    (hn : As.length = nA) (hst : st = As.reverse ++ .ref b :: rest) (hdg : decode cc pc = .ok (.invokevirtual idx, 3)) :
    ∀ T : State, T.heap = H → Stand p l e R s m args below meth c T locs cells slots → ∃ (mk : MethodId) (vm₁ : Vm), s.methodNamed? y = some mk ∧ Stand p l e R s m args below meth c (T.setVm vm₁) locs cells slots ∧
      ∀ tg, Steps p.tables e below (doInvoke e ((T.setVm vm₁).setTop (F0 m pc ls rest)) [] mk (Value.ref b :: As).toArray).1 tg → Steps p.tables e below (T.setTop (F0 m pc ls st)) tg := by
  intro T hT X
  obtain ⟨cellB, hcell, hobj, hcls⟩ := hrc
  obtain ⟨r0, r, hn0, hrm, hstR, hsigR⟩ := Cond.declares_spec (x_wdD (args := args) hK m3)
  obtain ⟨cn, ck, r1, hcn, hck, hni, hf, hn1⟩ := Cond.sameMethod_found (x_wd (args := args) hK m2 rfl)
  cases hn0.symm.trans hn1
  obtain ⟨mk, methM, hnamed, hmethM, -, habM⟩ := Cond.instanceMethod_spec (x_wd (args := args) hK m5 rfl)
  obtain ⟨c2, r2, m9, q1, q2, q3, q4, kP, hkP, hkPi⟩ := Cond.selects_spec (x_wd (args := args) hK m4 rfl)
  cases hcls.symm.trans q1
  cases hf.symm.trans q2
  cases hnamed.symm.trans q3
  have hselP : selectMethod e.platform s.vm cellB.cls r0 = .method mk := by rw [Launch.admits_selectMethod X.admits]; exact q4
  obtain ⟨vm₁, X₁, hstep₁⟩ := X.invokevirtualUp hx hown (x_wd (args := args) hK m1 rfl) (x_wd (args := args) hK m2 rfl) ho hn0 hrm hstR (a := b) (cell := cellB) (by rw [hT]; exact hcell)
    (fun z h => by rw [h] at hobj; cases hobj) hselP hmethM habM hkP hkPi (g := F0 m pc ls st) rfl (argsL := As) (rest := rest) (hn.trans (hy.len _ hsigR)) hst (by rw [hb]; exact hdg)
  exact ⟨mk, vm₁, hnamed, X₁, fun tg h => hstep₁ _ fun acts => by rw [doInvoke_state]; exact h⟩
end XEN
theorem d_Enum_ordinal_0 : decode prog_13_method_2_code 0 = .ok (.aload_n 0, 1) := by decide +kernel
theorem d_Enum_ordinal_1 : decode prog_13_method_2_code 1 = .ok (.getfield 7, 3) := by decide +kernel
theorem d_Enum_ordinal_4 : decode prog_13_method_2_code 4 = .ok (.ireturn, 1) := by decide +kernel
abbrev y_Ins_ordinal : MethodName := ⟨"CallLedger$Instruction", "ordinal", "()I"⟩
theorem ke_1 : Cond.code y_Enum_ordinal prog_13_method_2_code 1 (some .int) ∈ lw_tbl := by decide +kernel
theorem ke_2 : Cond.fieldLink "java/lang/Enum" 7 "java/lang/Enum" "ordinal" "I" ∈ lw_tbl := by decide +kernel
theorem ke_3 : Cond.sameMethod "CallLedger$Instruction" "java/lang/Enum" "ordinal" "()I" ∈ lw_tbl := by decide +kernel
theorem ke_4 : Cond.declares y_Enum_ordinal ∈ lw_tbl := by decide +kernel
theorem ke_5 : Cond.selects x_Ei y_Ins_ordinal y_Enum_ordinal ∈ lw_tbl := by decide +kernel
theorem ke_6 : Cond.instanceMethod y_Enum_ordinal ∈ lw_tbl := by decide +kernel
theorem qe_1 : x_yok y_Ins_ordinal 0 := by unfold x_yok; decide +kernel
theorem qe_2 : x_yok y_Enum_ordinal 0 := by unfold x_yok; decide +kernel
theorem c_Enum_ordinal {l : Launch} {g : x_G} {Y : x_Y} {i : Nat} (hi : i < 30) {Q : Int32 → Prop} {L : x_L} {I : x_I} {k n : Nat} (h : Q (nI i)) : x_C l y_Enum_ordinal 0 g [.ref (g.2.2.2.2 i)] Y L I k n (x_pI Y (fun v L' I' k' n' => L' = L ∧ I' = I ∧ k' = k ∧ n' = n ∧ Q v) x_nx) := by
  refine x_mth ke_1 ?_
  intro p e R s m below meth c hE hnm hexn hw hk1 hn1
  obtain ⟨hx, hb, hml, hr, hlk, hown, hK, htr, hF, hLo, hRc, hRs⟩ := id hE
  have hbd : x_bd k n k n := ⟨Nat.le_refl _, hk1, Nat.le_refl _, hn1⟩
  have hl := lv_entry ([.ref (g.2.2.2.2 i)]) (n := 1) (Nat.le_of_ble_eq_true rfl)
  generalize (lg_sl [.ref (g.2.2.2.2 i)] ++ List.replicate (1 - (lg_sl [.ref (g.2.2.2.2 i)]).length) Slot.unset).toArray = ls at hl ⊢
  have hl : lv_has ls 1 [(0, .ref (g.2.2.2.2 i))] := hl
  refine lv_aload_n hx hb d_Enum_ordinal_0 rfl (lv_at hl 0 rfl) ?_
  refine x_egf0 (i := i) 0 hx hb hK hw hown hi (x_wd hK ke_2 rfl) d_Enum_ordinal_1 ?_
  exact x_iret hx hb hr hlk hw ⟨rfl, Or.inl ⟨_, rfl, ⟨rfl, rfl, rfl, rfl, h⟩⟩⟩ hbd d_Enum_ordinal_4
section XEO
variable {p : Program} {l : Launch} {e : Env} {R : Room} {s : State} {m : MethodId} {args : Array Value} {below : List Frame} {meth : Method} {c : Code} {H : Heap} {locs : List Loc} {cells slots : Nat} {Q : State → Prop}
variable {cc : ByteArray} {pc : Nat} {ls : Array Slot} {rest st As : List Value} {g : x_G} {Y : x_Y} {L : x_L} {I : x_I} {t i j k0 n0 k n : Nat} {P : x_P}
theorem x_ord {own : String} {idx nL F : Nat} {ret : Option FieldType} (hE : x_E l g p e R s m meth c own cc nL ret F k0 n0) (hw : x_WL g Y L I H locs) (hi : i < 30) (m1 : Cond.methodLink own idx y_Ins_ordinal ∈ lw_tbl) (hF : 1 ≤ F) (hls : ls.size = nL) (hr : (rest.map fun v => v.category).sum ≤ 8) (hkk : x_bd k0 n0 k n) (hdg : decode cc pc = .ok (.invokevirtual idx, 3))
    (kk : ∀ (H : Heap) (locs : List Loc), x_WL g Y L I H locs → W p l e R s m args below meth c H locs (k - k0) (n - n0) Q (F0 m (pc + 3) ls (.int (nI i) :: rest))) : W p l e R s m args below meth c H locs (k - k0) (n - n0) Q (F0 m pc ls (.ref (g.2.2.2.2 i) :: rest)) := by
  obtain ⟨hx, hb, hml, -, hlk, hown, hK, htr, hFR, hLR, hRc, hRs⟩ := id hE
  refine x_goI (rest := rest) hE hw (c_Enum_ordinal (Q := fun v => v = nI i) hi rfl) (x_cd hK ke_1) qe_2 (by omega) (by omega) hls hr hkk hdg (x_toU (As := []) (b := g.2.2.2.2 i) hx hb hown hK (x_erecv hK hw hi) m1 ke_3 ke_4 ke_5 ke_6 (by decide) qe_1 rfl rfl hdg) (fun v L1 I1 k1 n1 H1 locs1 h hw1 hb1 => ?_) (fun _ _ _ _ _ _ _ h9 => h9.elim)
  obtain ⟨e1, e2, e3, e4, e5⟩ := h
  rw [e1, e2] at hw1
  rw [e3, e4, e5]
  exact kk H1 locs1 hw1
end XEO
