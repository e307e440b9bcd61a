/-- a word that a warmer table keeps, or that speaks of statics alone -/
def x_mk (w : Cond) : Bool := (w.onTables && w.keeps) || (match w with
  | .declares _ => true
  | .castable _ _ => true
  | .laysStatic _ _ _ => true
  | _ => false)
theorem x_wdD {g : x_G} {s : State} {args : Array Value} {x : MethodName} (h : x_K g s) (hm : Cond.declares x ∈ lw_tbl) : (Cond.declares x).before args s = true := by
  obtain ⟨s0, a0, h1, h2, h3, h4, h5⟩ := h
  exact va_Nw.use rfl (va_Nw.warmD h4 (va_Nw.of rfl (h2 _ hm)))
theorem x_wdC {g : x_G} {s : State} {args : Array Value} {a b : String} (h : x_K g s) (hm : Cond.castable a b ∈ lw_tbl) : (Cond.castable a b).before args s = true := by
  obtain ⟨s0, a0, h1, h2, h3, h4, h5⟩ := h
  have hh := h2 _ hm
  have h9 : (Cond.castable a b).before #[] (s0.setVm s.vm) = true := by rw [Cond.castable_setVm h4.alike]; exact va_any rfl hh
  exact va_tabs rfl (rfl : (s0.setVm s.vm).vm = s.vm) h9
theorem x_low {g : x_G} {Y : x_Y} {L : x_L} {I : x_I} {H : Heap} (hw : x_W g Y L I H) {q : Nat} {cell : Cell} (h : g.2.2.2.1[q]? = some cell) : H[q]? = some cell := by
  rw [hw.2.1 q (Array.getElem?_eq_some_iff.mp h).1]
  exact h
theorem x_wdS {g : x_G} {s : State} {args : Array Value} {Y : x_Y} {L : x_L} {I : x_I} {a b d : String} (h : x_K g s) (hw : x_W g Y L I s.heap) (hm : Cond.laysStatic a b d ∈ lw_tbl) : (Cond.laysStatic a b d).before args s = true := by
  obtain ⟨s0, a0, h1, h2, h3, h4, h5⟩ := h
  obtain ⟨c, k, i, f, q, cell, hc, hi, hst, ha, hcell, hs, hcls, hlt, hty⟩ := Cond.laysStatic_spec (h2 _ hm)
  obtain ⟨k', hi', hek⟩ := State.fieldFound?_setVm h4.alike hi
  exact Cond.laysStatic_of (s := s) (by rw [h4.alike.findClass]; exact hc) hi' hst (by rw [hek]; exact ha) (x_low hw (by rw [← h3]; exact hcell)) hs hcls hlt (by rw [hek]; exact hty)
theorem x_wdX {g : x_G} {s : State} {args : Array Value} {Y : x_Y} {L : x_L} {I : x_I} {w : Cond} (h : x_K g s) (hw : x_W g Y L I s.heap) (hm : w ∈ lw_tbl) (hk : x_mk w = true) : w.before args s = true := by
  unfold x_mk at hk
  rw [Bool.or_eq_true] at hk
  rcases hk with hk | hk
  · exact x_wd h hm hk
  · split at hk
    · exact x_wdD h hm
    · exact x_wdC h hm
    · exact x_wdS h hw hm
    · cases hk
/-- a static that holds a reference or null at the law's entry does so now -/
theorem x_zq {g : x_G} {s : State} {args : Array Value} {Y : x_Y} {L : x_L} {I : x_I} {a b d : String} (h : x_K g s) (hw : x_W g Y L I s.heap) (m1 : Cond.laysStatic a b d ∈ lw_tbl) (m2 : Cond.initialized a ∈ lw_tbl) (m3 : ∀ (s0 : State) (a0 : Array Value), (Jvm.Cond.and given_1 narrow_1).before a0 s0 = true → (Cond.isRef (.static a b d)).before a0 s0 = true) :
    (Cond.isRef (.static a b d)).before args s = true := by
  obtain ⟨s0, a0, h1, h2, h3, h4, h5⟩ := h
  have hz : va_Zq a b d (fun q => x_z g ≤ q) s0 s0.heap := va_Zqof (h2 _ m1) (h2 _ m2) (m3 _ _ h1) (fun q hq => by rw [h3] at hq; exact Nat.not_le.mpr hq)
  have hz2 := (hz.moved h4.alike).kept (H1 := s.heap) (fun q hq _ => by rw [h3] at hq ⊢; exact hw.2.1 q hq)
  rcases hz2 with hz2 | ⟨t, hz2⟩ <;>
  · obtain ⟨cf, kf, fi, f, q, cell, z1, z2, z3, z4, z5, z6, z7, z8⟩ := hz2
    simp [Cond.before, Cond.holds, Cond.value, Term.eval, State.fieldNamed?, z1, z2, z4, z5, z6, z7]
theorem x_us (s0 : State) (a0 : Array Value) (h : (Jvm.Cond.and given_1 narrow_1).before a0 s0 = true) : (Cond.isRef (.static "java/lang/Throwable" "UNASSIGNED_STACK" "[Ljava/lang/StackTraceElement;")).before a0 s0 = true := flat_of_before _ h _ (by decide +kernel)
theorem x_ss (s0 : State) (a0 : Array Value) (h : (Jvm.Cond.and given_1 narrow_1).before a0 s0 = true) : (Cond.isRef (.static "java/lang/Throwable" "SUPPRESSED_SENTINEL" "Ljava/util/List;")).before a0 s0 = true := flat_of_before _ h _ (by decide +kernel)
abbrev x_up : List String := ["java/lang/RuntimeException", "java/lang/Exception"]
/-- all that 'new X(text)' asks is in the tables -/
def x_xk (own : String) (im kx : Nat) : Prop := ∀ a ∈ Bundle.ownAtoms own im (x_xn kx) x_up, (a ∈ lw_tbl ∧ x_mk a = true) ∨ a = .isRef (.static "java/lang/Throwable" "UNASSIGNED_STACK" "[Ljava/lang/StackTraceElement;") ∨ a = .isRef (.static "java/lang/Throwable" "SUPPRESSED_SENTINEL" "Ljava/util/List;")
theorem x_xk_Run : x_xk "CallLedger$Run" 62 2 := by unfold x_xk; decide +kernel
theorem x_xk_0 : x_xk "CallLedger" 66 0 := by unfold x_xk; decide +kernel
theorem x_xk_1 : x_xk "CallLedger" 47 1 := by unfold x_xk; decide +kernel
theorem x_xk_2 : x_xk "CallLedger" 75 2 := by unfold x_xk; decide +kernel
theorem x_W.grow {g : x_G} {Y : x_Y} {L : x_L} {I : x_I} {H H' : Heap} (h : x_W g Y L I H) (hs : H.size ≤ H'.size) (hq : ∀ q, q < H.size → H'[q]? = H[q]?) : x_W g Y L I H' := by
  obtain ⟨h1, h2, h3, h4⟩ := h
  exact ⟨Nat.le_trans h1 hs, fun q h => by rw [hq q (Nat.lt_of_lt_of_le h h1)]; exact h2 q h, fun t i hok => ⟨(h3 t i hok).1, (h3 t i hok).2.kept (hq _ (h3 t i hok).2.lt)⟩, h4⟩
theorem x_keep {s U : State} {a b : Nat} (h : s.sameButNew U [] a b) : ∀ q, q < s.heap.size → U.heap[q]? = s.heap[q]? := by
  intro q hq
  obtain ⟨c', h1, h2, h3, h4⟩ := h.2.2.2.2.2 q s.heap[q] (by simp [hq])
  have h5 : c'.slots = s.heap[q].slots := by
    apply Array.ext_getElem?
    intro i
    exact h4 i (by simp)
  rw [h1, h2, h5]
  simp [hq]
section XT
variable {p : Program} {l : Launch} {e : Env} {R : Room} {s : State} {m : MethodId} {args : Array Value} {below : List Frame} {meth : Method} {c : Code} {H : Heap} {locs : List Loc} {cells slots : Nat} {Q : State → Prop}
variable {cc : ByteArray} {pc : Nat} {ls : Array Slot} {rest st As : List Value} {g : x_G} {Y : x_Y} {L : x_L} {I : x_I} {t i j k0 n0 k n : Nat} {P : x_P}
theorem x_vkR {own tx : String} {is : Nat} (hK : x_K g s) (hown : s.vm.findClass own = some m.cls) (m3 : Cond.stringRef own is tx ∈ lw_tbl) : ∃ q, vk_R own is tx q s := by
  obtain ⟨s0, a0, h1, h2, h3, h4, h5⟩ := hK
  have hown0 : s0.vm.findClass own = some m.cls := by rw [← h4.alike.findClass]; exact hown
  obtain ⟨k, cf, i, a, hk, hcf, hcp, -, hr, hev⟩ := Cond.stringRef_spec hown0 (h2 _ m3)
  exact ⟨a, vk_R.warm h4 (vk_R.of (h2 _ m3) hev)⟩
theorem x_throw {own tx : String} {nL F ic im is kx : Nat} {ret : Option FieldType} (hE : x_E l g p e R s m meth c own cc nL ret F k0 n0) (hex : c.exceptionTable.toList = []) (hw : x_WL g Y L I H locs) (hkx : x_xk own im kx) (hfit : Bundle.fit (x_xn kx) = true) (m1 : Cond.classLink own ic (x_xn kx) ∈ lw_tbl) (m2 : Cond.instantiable (x_xn kx) 6 ∈ lw_tbl) (m3 : Cond.initialized (x_xn kx) ∈ lw_tbl) (m4 : Cond.stringRef own is tx ∈ lw_tbl)
    (hF : 6 ≤ F) (hr : (rest.map fun v => v.category).sum ≤ 8) (hls : ls.size = nL) (hk1 : k + 1 ≤ 600288) (hn6 : n + 6 ≤ 7292554) (hkk : x_bd k0 n0 k n)
    (d0 : decode cc pc = .ok (.new ic, 3)) (d3 : decode cc (pc + 3) = .ok (.dup, 1)) (d4 : decode cc (pc + 4) = .ok (.ldc is, 2)) (d6 : decode cc (pc + 6) = .ok (.invokespecial im, 3)) (d9 : decode cc (pc + 9) = .ok (.athrow, 1)) (hP : P (.inr kx) Y L I (k + 1) (n + 6)) :
    W p l e R s m args below meth c H locs (k - k0) (n - n0) (x_Q g below s k0 n0 P) (F0 m pc ls rest) := by
  intro T hT X
  obtain ⟨hx, hb, hml, -, hlk, hown, hK, htr, hFR, hLR, hRc, hRs⟩ := hE
  obtain ⟨b1, b2, b3, b4⟩ := hkk
  have X' := x_rebase X (R' := { frames := R.frames, cells := 1, slots := 6, locals := R.locals }) (Nat.le_refl _) (Nat.le_refl _) (by show _ + 1 ≤ _; omega) (by show _ + 6 ≤ _; omega)
  have hK' : x_K g (T.setFrames s.frames) := hK.moved (U := T.setFrames s.frames) X.warmed
  have hw' : x_W g Y L I (T.setFrames s.frames).heap := by rw [show (T.setFrames s.frames).heap = H from hT]; exact hw.1
  have hown' : (T.setFrames s.frames).vm.findClass own = some m.cls := by
    show T.vm.findClass own = _
    rw [X.warmed.alike.findClass]
    exact hown
  obtain ⟨q, hZ⟩ := x_vkR hK' hown' m4
  have key : W p l e { frames := R.frames, cells := 1, slots := 6, locals := R.locals } (T.setFrames s.frames) m args below meth c T.heap [] 0 0 (x_Q g below s k0 n0 P) (F0 m pc ls rest) := by
    refine W.newc hx hb hown' (x_wd hK' m1 rfl) (x_wd hK' m2 rfl) (x_wd hK' m3 rfl) rfl d0 (Nat.le_refl 1) (Nat.le_refl 6) (fun cC kC h1 h2 h3 h4 => ?_)
    refine lv_dup hx hb d3 rfl ?_
    refine va_ldcS hx hb hown' hZ d4 ?_
    intro T2 hT2 X2
    have hcell : T2.heap[T.heap.size]? = some (freshCell cC kC) := by rw [hT2]; simp [freshCell]
    obtain ⟨U, u1, u2, u3, u4, u5, ce, u6, u7⟩ := X2.ctorThrowS hx htr (own := own) (cls := x_xn kx) (names := x_up) (ic := im) hown' hfit (by decide)
      (fun a ha => by
        rcases hkx a ha with ⟨h1, h2⟩ | rfl | rfl
        · exact x_wdX hK' hw' h1 h2
        · exact x_zq hK' hw' (by decide +kernel) (by decide +kernel) x_us
        · exact x_zq hK' hw' (by decide +kernel) (by decide +kernel) x_ss)
      (fun x h => by cases h) h1 h2 hcell (Nat.le_refl _) (msg := .ref q) rfl (g := F0 m (pc + 6) ls (.ref q :: .ref T.heap.size :: .ref T.heap.size :: rest)) rfl (hls.trans hml.symm) rfl rfl rfl
      (by rw [hb]; exact d6) (by rw [hb]; exact d9) (fun x h => by rw [hex] at h; cases h) (by show 2 + 3 < R.frames; omega) (by
        show 2 * 0 + (1 + (rest.map fun v => v.category).sum) + (13 * (2 + 1) + 42) ≤ R.locals
        omega) hlk
    have hs := x_keep u5
    have hz := u5.2.1
    refine ⟨U, u1, .threw T.heap.size, .inr kx, Y, L, I, k + 1, n + 6, locs ++ [], u2, u3, ⟨_, rfl, ce, u6, by rw [u7.vm]; rfl, ?_⟩, hP, hw'.grow hz hs, ?_, ?_, ?_, ?_⟩
    · rw [u4.alike.findClass]
      exact u7.cls
    · exact State.WarmedH.trans X.warmed u4
    · rw [show k + 1 - k0 = k - k0 + 1 by omega, show n + 6 - n0 = n - n0 + 6 by omega]
      exact x_rebased X u5
    · rw [List.append_nil]
      exact hw.2
    · exact ⟨by omega, hk1, by omega, hn6⟩
  exact key T rfl X'
end XT
