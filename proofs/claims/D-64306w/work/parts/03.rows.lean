section XR
variable {p : Program} {l : Launch} {e : Env} {R : Room} {s : State} {m : MethodId} {args : Array Value} {below : List Frame} {meth : Method} {c : Code} {H : Heap} {locs : List Loc} {cells slots : Nat} {Q : State → Prop}
variable {cc : ByteArray} {pc : Nat} {ls : Array Slot} {rest : List Value} {g : x_G} {Y : x_Y} {L : x_L} {I : x_I} {t i j : Nat}
theorem x_W.obj (h : x_W g Y L I H) (hok : x_ok Y t i) {c0 : Nat} (hk : x_kd t = (0, c0)) : t_OB (x_ad Y t i) (g.1 c0) (x_nf c0) (g.2.1 c0) H (x_V Y L I t i) := by
  have h2 := (h.2.2.1 t i hok).2
  unfold x_at at h2
  rw [hk, if_pos rfl] at h2
  exact h2
theorem x_W.ar (h : x_W g Y L I H) (hok : x_ok Y t i) {e0 : Nat} (hk : x_kd t = (1, e0)) : H[x_ad Y t i]? = some (arrV (g.2.2.1 e0) (x_n Y t i) (x_V Y L I t i)) := by
  have h2 := (h.2.2.1 t i hok).2
  unfold x_at at h2
  rw [hk, if_neg Nat.one_ne_zero] at h2
  exact h2
theorem x_at.kept {a n : Nat} {V : Nat → Value} {H' : Heap} (h : x_at g t a n V H) (hq : H'[a]? = H[a]?) : x_at g t a n V H' := by
  unfold x_at at h ⊢
  split at h
  · rename_i hh
    rw [if_pos hh]
    exact h.kept hq
  · rename_i hh
    rw [if_neg hh, hq]
    exact h
theorem x_at.lt {a n : Nat} {V : Nat → Value} (h : x_at g t a n V H) : a < H.size := by
  unfold x_at at h
  split at h
  · obtain ⟨cell, q, -⟩ := h
    exact (Array.getElem?_eq_some_iff.mp q).1
  · exact (Array.getElem?_eq_some_iff.mp h).1
/-- one cell has changed -/
theorem x_W.put (h : x_W g Y L I H) (hok : x_ok Y t i) {Y' : x_Y} {L' : x_L} {I' : x_I} {H' : Heap} (hsz : H'.size = H.size) (hoth : ∀ q, q ≠ x_ad Y t i → H'[q]? = H[q]?)
    (hY : ∀ a b, x_ok Y' a b = x_ok Y a b ∧ x_ad Y' a b = x_ad Y a b ∧ x_n Y' a b = x_n Y a b) (hself : x_at g t (x_ad Y t i) (x_n Y t i) (x_V Y' L' I' t i) H')
    (hrest : ∀ a b, ¬ (a = t ∧ b = i) → x_V Y' L' I' a b = x_V Y L I a b) : x_W g Y' L' I' H' := by
  obtain ⟨h1, h2, h3, h4⟩ := h
  refine ⟨by rw [hsz]; exact h1, fun q hq => ?_, fun a b hab => ?_, fun a b a' b' hab hab' had => ?_⟩
  · rw [hoth q (Nat.ne_of_lt (Nat.lt_of_lt_of_le hq (h3 t i hok).1))]
    exact h2 q hq
  · have hab0 : x_ok Y a b := (hY a b).1 ▸ hab
    rw [(hY a b).2.1, (hY a b).2.2]
    refine ⟨(h3 a b hab0).1, ?_⟩
    by_cases hc : a = t ∧ b = i
    · obtain ⟨rfl, rfl⟩ := hc
      exact hself
    · rw [hrest a b hc]
      exact (h3 a b hab0).2.kept (hoth _ (fun z => hc (h4 a b t i hab0 hok z)))
  · exact h4 a b a' b' ((hY a b).1 ▸ hab) ((hY a' b').1 ▸ hab') (by rw [(hY a b).2.1, (hY a' b').2.1] at had; exact had)
theorem x_same (Y : x_Y) : ∀ a b, x_ok Y a b = x_ok Y a b ∧ x_ad Y a b = x_ad Y a b ∧ x_n Y a b = x_n Y a b := fun _ _ => ⟨rfl, rfl, rfl⟩
theorem x_u_s (I : x_I) (t i j : Nat) (v : Int32) : x_u I t i j v t i j = v := by simp [x_u]
theorem x_u_n (I : x_I) {t i j a b k : Nat} (v : Int32) (h : ¬ (a = t ∧ b = i ∧ k = j)) : x_u I t i j v a b k = I a b k := by simp [x_u, h]
theorem x_ul_s (L : x_L) (t i j : Nat) (v : Int64) : x_ul L t i j v t i j = v := by simp [x_ul]
theorem x_ul_n (L : x_L) {t i j a b k : Nat} (v : Int64) (h : ¬ (a = t ∧ b = i ∧ k = j)) : x_ul L t i j v a b k = L a b k := by simp [x_ul, h]
theorem x_Vu (Y : x_Y) (L : x_L) (I : x_I) (t i j : Nat) (v : Int32) (hs : x_sk t j = 0) : x_V Y L (x_u I t i j v) t i = updV (x_V Y L I t i) j (.int v) := by
  funext k
  by_cases hk : k = j
  · subst hk
    simp [x_V, updV, hs, x_u_s, x_vl]
  · simp [x_V, updV, hk, x_u_n I v (show ¬ (t = t ∧ i = i ∧ k = j) from fun z => hk z.2.2)]
theorem x_Vn (Y : x_Y) (L : x_L) (I : x_I) {t i j a b : Nat} (v : Int32) (h : ¬ (a = t ∧ b = i)) : x_V Y L (x_u I t i j v) a b = x_V Y L I a b := by
  funext k
  simp [x_V, x_u_n I v (show ¬ (a = t ∧ b = i ∧ k = j) from fun z => h ⟨z.1, z.2.1⟩)]
theorem x_Vul (Y : x_Y) (L : x_L) (I : x_I) (t i j : Nat) (v : Int64) (hs : x_sk t j = 1) : x_V Y (x_ul L t i j v) I t i = updV (x_V Y L I t i) j (.long v) := by
  funext k
  by_cases hk : k = j
  · subst hk
    simp [x_V, updV, hs, x_ul_s, x_vl]
  · simp [x_V, updV, hk, x_ul_n L v (show ¬ (t = t ∧ i = i ∧ k = j) from fun z => hk z.2.2)]
theorem x_Vnl (Y : x_Y) (L : x_L) (I : x_I) {t i j a b : Nat} (v : Int64) (h : ¬ (a = t ∧ b = i)) : x_V Y (x_ul L t i j v) I a b = x_V Y L I a b := by
  funext k
  simp [x_V, x_ul_n L v (show ¬ (a = t ∧ b = i ∧ k = j) from fun z => h ⟨z.1, z.2.1⟩)]
theorem x_WL.lc {H' : Heap} {L' : x_L} {I' : x_I} {Y' : x_Y} (h : x_WL g Y L I H locs) (h' : x_W g Y' L' I' H') (hok : x_ok Y t i) (k : Nat) : x_WL g Y' L' I' H' (locs ++ [⟨x_ad Y t i, k⟩]) :=
  ⟨h', fun q hq => by
    rcases List.mem_append.mp hq with h1 | h1
    · exact h.2 q h1
    · rw [List.mem_singleton] at h1
      subst h1
      exact (h.1.2.2.1 t i hok).1⟩
theorem x_getv (hx : p.tables.exec = Jvm.exec) (hb : c.code = cc) (hK : x_K g s) (hw : x_WL g Y L I H locs) {own ref : String} (hown : s.vm.findClass own = some m.cls) (hok : x_ok Y t i) {c0 idx : Nat} (hk : x_kd t = (0, c0)) (hc : c0 < 9) (hj : j < x_nf c0)
    (hlink : (Cond.fieldLink own idx ref (x_F c0 j).2.1 (x_F c0 j).2.2.1).before args s = true) (hsame : ∀ x, s.fieldFound? (x_F c0 j).1 (x_F c0 j).2.1 (x_F c0 j).2.2.1 = some x → s.fieldFound? ref (x_F c0 j).2.1 (x_F c0 j).2.2.1 = some x) (hdg : decode cc pc = .ok (.getfield idx, 3))
    (kk : W p l e R s m args below meth c H locs cells slots Q (F0 m (pc + 3) ls (x_V Y L I t i j :: rest))) : W p l e R s m args below meth c H locs cells slots Q (F0 m pc ls (.ref (x_ad Y t i) :: rest)) := by
  obtain ⟨cell, q1, q2, q3, q4⟩ := hw.1.obj hok hk
  obtain ⟨hS, hfc, kC, hkC, hkind⟩ := hK.cls hc
  obtain ⟨cf, kf, fi, f, hi, hsl⟩ := hS j hj
  refine W.getf hx hb hown hlink (hsame _ hi) (u_facts (args := args) hfc hkC (u_lays (x_lay hK hc) (fun w h => h) hj) hi).1 q1 (by rw [q3]; exact fun h => by cases h) (v := x_V Y L I t i j) ?_ rfl rfl hdg kk
  rw [hsl, q4 j hj]
theorem x_getvN (hx : p.tables.exec = Jvm.exec) (hb : c.code = cc) (hK : x_K g s) (hw : x_WL g Y L I H locs) {own ref host : String} (hown : s.vm.findClass own = some m.cls) (hok : x_ok Y t i) {c0 idx : Nat} (hk : x_kd t = (0, c0)) (hc : c0 < 9) (hj : j < x_nf c0)
    (hlink : (Cond.fieldLinkNest own idx ref (x_F c0 j).2.1 (x_F c0 j).2.2.1 host).before args s = true) (hsame : ∀ x, s.fieldFound? (x_F c0 j).1 (x_F c0 j).2.1 (x_F c0 j).2.2.1 = some x → s.fieldFound? ref (x_F c0 j).2.1 (x_F c0 j).2.2.1 = some x) (hdg : decode cc pc = .ok (.getfield idx, 3))
    (kk : W p l e R s m args below meth c H locs cells slots Q (F0 m (pc + 3) ls (x_V Y L I t i j :: rest))) : W p l e R s m args below meth c H locs cells slots Q (F0 m pc ls (.ref (x_ad Y t i) :: rest)) := by
  obtain ⟨cell, q1, q2, q3, q4⟩ := hw.1.obj hok hk
  obtain ⟨hS, hfc, kC, hkC, hkind⟩ := hK.cls hc
  obtain ⟨cf, kf, fi, f, hi, hsl⟩ := hS j hj
  refine va_Wgetf hx hb hown hlink (hsame _ hi) (u_facts (args := args) hfc hkC (u_lays (x_lay hK hc) (fun w h => h) hj) hi).1 q1 (by rw [q3]; exact fun h => by cases h) (v := x_V Y L I t i j) ?_ rfl rfl hdg kk
  rw [hsl, q4 j hj]
theorem x_apart (hK : x_K g s) {c0 : Nat} (hc : c0 < 9) : ∀ x y, x < x_nf c0 → y < x_nf c0 → x ≠ y → g.2.1 c0 x ≠ g.2.1 c0 y := by
  intro x y hx hy hxy
  obtain ⟨hS, hfc, kC, hkC, hkind⟩ := hK.cls hc
  obtain ⟨cf, kf, fi, f, hi, hsl⟩ := hS x hx
  obtain ⟨cf', kf', fi', f', hi', hsl'⟩ := hS y hy
  rw [← hsl, ← hsl']
  refine u_apart (args := #[]) (u_lays (x_lay hK hc) (fun w h => h) hx) (u_lays (x_lay hK hc) (fun w h => h) hy) hi hi' ?_
  rw [(State.fieldFound?_type hi (x_ty c0 hc x hx)).1, (State.fieldFound?_type hi' (x_ty c0 hc y hy)).1]
  exact x_nm c0 hc x hx y hy hxy
/-- what a store of v in field j of the object (t, i) asks and gives -/
theorem x_put (hx : p.tables.exec = Jvm.exec) (hb : c.code = cc) (hK : x_K g s) (hw : x_WL g Y L I H locs) {own ref : String} (hown : s.vm.findClass own = some m.cls) (hok : x_ok Y t i) {c0 idx : Nat} (hk : x_kd t = (0, c0)) (hc : c0 < 9) (hj : j < x_nf c0)
    (hlink : (Cond.fieldLink own idx ref (x_F c0 j).2.1 (x_F c0 j).2.2.1).before args s = true) (hsame : ∀ x, s.fieldFound? (x_F c0 j).1 (x_F c0 j).2.1 (x_F c0 j).2.2.1 = some x → s.fieldFound? ref (x_F c0 j).2.1 (x_F c0 j).2.2.1 = some x) (hfin : (x_F c0 j).2.2.2 = false)
    {v : Value} (hn : narrow (x_dt (x_F c0 j).2.2.1) v = v) (hfit : fits (x_dt (x_F c0 j).2.2.1) v = true) (hdg : decode cc pc = .ok (.putfield idx, 3)) {Y' : x_Y} {L' : x_L} {I' : x_I}
    (hY : ∀ a b, x_ok Y' a b = x_ok Y a b ∧ x_ad Y' a b = x_ad Y a b ∧ x_n Y' a b = x_n Y a b) (hself : x_V Y' L' I' t i = updV (x_V Y L I t i) j v) (hrest : ∀ a b, ¬ (a = t ∧ b = i) → x_V Y' L' I' a b = x_V Y L I a b)
    (kk : ∀ (H' : Heap) (locs' : List Loc), x_WL g Y' L' I' H' locs' → W p l e R s m args below meth c H' locs' cells slots Q (F0 m (pc + 3) ls rest)) : W p l e R s m args below meth c H locs cells slots Q (F0 m pc ls (v :: .ref (x_ad Y t i) :: rest)) := by
  have hap := x_apart hK hc
  obtain ⟨cell, q1, q2, q3, q4⟩ := hw.1.obj hok hk
  obtain ⟨hS, hfc, kC, hkC, hkind⟩ := hK.cls hc
  obtain ⟨cf, kf, fi, f, hi, hsl⟩ := hS j hj
  have hlay := x_lay hK hc (args := args) _ (u_in_lay hj)
  unfold u_lay at hlay
  rw [if_neg (by rw [hfin]; decide)] at hlay
  have hst := (u_facts hfc hkC (u_lays (args := args) (x_lay hK hc) (fun w h => h) hj) hi).1
  have h6 := u_store hfc hkC hkind hlay hi (x_ty c0 hc j hj) hn hfit
  refine W.putK hx hb (f := f) ⟨hown, hlink, ⟨_, _, _, hsame _ hi⟩, hst⟩ (by rw [q2]; exact h6) q1 q3 (by rw [hsl]; exact k2_hasslot (q4 j hj)) rfl rfl hdg fun H' e1 e2 e3 => ?_
  rw [hsl] at e1
  refine kk H' _ (hw.lc (hw.1.put hok e2 e3 hY ?_ hrest) hok _)
  unfold x_at
  rw [hk, if_pos rfl, hself]
  exact ⟨_, e1, q2, q3, t_set q4 hap hj v⟩
theorem x_putN (hx : p.tables.exec = Jvm.exec) (hb : c.code = cc) (hK : x_K g s) (hw : x_WL g Y L I H locs) {own ref host : String} (hown : s.vm.findClass own = some m.cls) (hok : x_ok Y t i) {c0 idx : Nat} (hk : x_kd t = (0, c0)) (hc : c0 < 9) (hj : j < x_nf c0)
    (hlink : (Cond.fieldLinkNest own idx ref (x_F c0 j).2.1 (x_F c0 j).2.2.1 host).before args s = true) (hsame : ∀ x, s.fieldFound? (x_F c0 j).1 (x_F c0 j).2.1 (x_F c0 j).2.2.1 = some x → s.fieldFound? ref (x_F c0 j).2.1 (x_F c0 j).2.2.1 = some x) (hfin : (x_F c0 j).2.2.2 = false)
    {v : Value} (hn : narrow (x_dt (x_F c0 j).2.2.1) v = v) (hfit : fits (x_dt (x_F c0 j).2.2.1) v = true) (hdg : decode cc pc = .ok (.putfield idx, 3)) {Y' : x_Y} {L' : x_L} {I' : x_I}
    (hY : ∀ a b, x_ok Y' a b = x_ok Y a b ∧ x_ad Y' a b = x_ad Y a b ∧ x_n Y' a b = x_n Y a b) (hself : x_V Y' L' I' t i = updV (x_V Y L I t i) j v) (hrest : ∀ a b, ¬ (a = t ∧ b = i) → x_V Y' L' I' a b = x_V Y L I a b)
    (kk : ∀ (H' : Heap) (locs' : List Loc), x_WL g Y' L' I' H' locs' → W p l e R s m args below meth c H' locs' cells slots Q (F0 m (pc + 3) ls rest)) : W p l e R s m args below meth c H locs cells slots Q (F0 m pc ls (v :: .ref (x_ad Y t i) :: rest)) := by
  have hap := x_apart hK hc
  obtain ⟨cell, q1, q2, q3, q4⟩ := hw.1.obj hok hk
  obtain ⟨hS, hfc, kC, hkC, hkind⟩ := hK.cls hc
  obtain ⟨cf, kf, fi, f, hi, hsl⟩ := hS j hj
  have hlay := x_lay hK hc (args := args) _ (u_in_lay hj)
  unfold u_lay at hlay
  rw [if_neg (by rw [hfin]; decide)] at hlay
  have hst := (u_facts hfc hkC (u_lays (args := args) (x_lay hK hc) (fun w h => h) hj) hi).1
  have h6 := u_store hfc hkC hkind hlay hi (x_ty c0 hc j hj) hn hfit
  refine va_WputK hx hb (f := f) hown hlink (hsame _ hi) hst (by rw [q2]; exact h6) q1 q3 (by rw [hsl]; exact k2_hasslot (q4 j hj)) rfl rfl hdg fun H' e1 e2 e3 => ?_
  rw [hsl] at e1
  refine kk H' _ (hw.lc (hw.1.put hok e2 e3 hY ?_ hrest) hok _)
  unfold x_at
  rw [hk, if_pos rfl, hself]
  exact ⟨_, e1, q2, q3, t_set q4 hap hj v⟩
end XR
