/-! NEW CELLS -/
def x_yn (Y : x_Y) (t i a n : Nat) (r : Nat → Option Nat) : x_Y := fun t' i' => if t' = t ∧ i' = i then (True, a, n, r) else Y t' i'
def x_zi (I : x_I) (t i : Nat) : x_I := fun a b c => if a = t ∧ b = i then 0 else I a b c
def x_zl (L : x_L) (t i : Nat) : x_L := fun a b c => if a = t ∧ b = i then 0 else L a b c
theorem x_yn_s (Y : x_Y) (t i a n : Nat) (r : Nat → Option Nat) : x_yn Y t i a n r t i = (True, a, n, r) := by simp [x_yn]
theorem x_yn_n (Y : x_Y) {t i a n : Nat} {r : Nat → Option Nat} {t' i' : Nat} (h : ¬ (t' = t ∧ i' = i)) : x_yn Y t i a n r t' i' = Y t' i' := by simp [x_yn, h]
theorem x_Vnew (Y : x_Y) (L : x_L) (I : x_I) (t i a n : Nat) : x_V (x_yn Y t i a n (fun _ => none)) (x_zl L t i) (x_zi I t i) t i = fun j => x_vl (x_sk t j) none 0 0 := by
  funext j
  simp [x_V, x_r, x_yn_s, x_zl, x_zi]
theorem x_Vold (Y : x_Y) (L : x_L) (I : x_I) {t i a n : Nat} {r : Nat → Option Nat} {t' i' : Nat} (h : ¬ (t' = t ∧ i' = i)) : x_V (x_yn Y t i a n r) (x_zl L t i) (x_zi I t i) t' i' = x_V Y L I t' i' := by
  funext j
  simp [x_V, x_r, x_yn_n Y h, x_zl, x_zi, h]
theorem x_W.new {g : x_G} {Y : x_Y} {L : x_L} {I : x_I} {H H' : Heap} {t i n : Nat} (h : x_W g Y L I H) (hsz : H'.size = H.size + 1) (hoth : ∀ q, q < H.size → H'[q]? = H[q]?) (hself : x_at g t H.size n (fun j => x_vl (x_sk t j) none 0 0) H') :
    x_W g (x_yn Y t i H.size n (fun _ => none)) (x_zl L t i) (x_zi I t i) H' := by
  obtain ⟨h1, h2, h3, h4⟩ := h
  refine ⟨by omega, fun q hq => ?_, fun a b hab => ?_, fun a b a' b' hab hab' had => ?_⟩
  · rw [hoth q (by omega)]
    exact h2 q hq
  · by_cases hc : a = t ∧ b = i
    · obtain ⟨rfl, rfl⟩ := hc
      rw [x_Vnew]
      unfold x_ad x_n
      rw [x_yn_s]
      exact ⟨h1, hself⟩
    · rw [x_Vold Y L I hc]
      unfold x_ok at hab
      unfold x_ad x_n
      rw [x_yn_n Y hc] at hab ⊢
      exact ⟨(h3 a b hab).1, (h3 a b hab).2.kept (hoth _ (h3 a b hab).2.lt)⟩
  · by_cases hc : a = t ∧ b = i
    · by_cases hc' : a' = t ∧ b' = i
      · exact ⟨hc.1.trans hc'.1.symm, hc.2.trans hc'.2.symm⟩
      · exfalso
        obtain ⟨rfl, rfl⟩ := hc
        unfold x_ok at hab'
        unfold x_ad at had
        rw [x_yn_s, x_yn_n Y hc'] at had
        rw [x_yn_n Y hc'] at hab'
        have := (h3 a' b' hab').2.lt
        unfold x_ad at this
        simp only at had
        omega
    · by_cases hc' : a' = t ∧ b' = i
      · exfalso
        obtain ⟨rfl, rfl⟩ := hc'
        unfold x_ok at hab
        unfold x_ad at had
        rw [x_yn_s, x_yn_n Y hc] at had
        rw [x_yn_n Y hc] at hab
        have := (h3 a b hab).2.lt
        unfold x_ad at this
        simp only at had
        omega
      · unfold x_ok at hab hab'
        unfold x_ad at had
        rw [x_yn_n Y hc] at hab had
        rw [x_yn_n Y hc'] at hab' had
        exact h4 a b a' b' hab hab' had
/-- cells that no one asks for are dropped -/
theorem x_W.drop {g : x_G} {Y Y' : x_Y} {L : x_L} {I : x_I} {H : Heap} (h : x_W g Y' L I H) (hy : ∀ t i, x_ok Y t i → Y' t i = Y t i) : x_W g Y L I H := by
  obtain ⟨h1, h2, h3, h4⟩ := h
  have ho : ∀ t i, x_ok Y t i → x_ok Y' t i ∧ x_ad Y' t i = x_ad Y t i ∧ x_n Y' t i = x_n Y t i ∧ x_V Y' L I t i = x_V Y L I t i := by
    intro t i hok
    have e := hy t i hok
    refine ⟨by unfold x_ok; rw [e]; exact hok, by unfold x_ad; rw [e], by unfold x_n; rw [e], ?_⟩
    funext j
    unfold x_V x_r
    rw [e]
  refine ⟨h1, h2, fun t i hok => ?_, fun a b a' b' hab hab' had => ?_⟩
  · obtain ⟨o1, o2, o3, o4⟩ := ho t i hok
    have := h3 t i o1
    rw [o2, o3, o4] at this
    exact this
  · obtain ⟨o1, o2, o3, o4⟩ := ho a b hab
    obtain ⟨p1, p2, p3, p4⟩ := ho a' b' hab'
    exact h4 a b a' b' o1 p1 (by rw [o2, p2]; exact had)
section XN
variable {p : Program} {l : Launch} {e : Env} {R : Room} {s : State} {m : MethodId} {args : Array Value} {below : List Frame} {meth : Method} {c : Code} {H : Heap} {locs : List Loc} {cells slots : Nat} {Q : State → Prop}
variable {cc : ByteArray} {pc : Nat} {ls : Array Slot} {rest : List Value} {g : x_G} {Y : x_Y} {L : x_L} {I : x_I} {t i j k0 n0 k n : Nat}
theorem x_dfl : ∀ e0, e0 < 4 → ∀ t, x_kd t = (1, e0) → (fun j : Nat => x_vl (x_sk t j) none 0 0) = fun _ => defaultValue (x_et e0) := by
  intro e0 h t hk
  funext j
  rw [x_ska hk]
  rcases (by omega : e0 = 0 ∨ e0 = 1 ∨ e0 = 2 ∨ e0 = 3) with rfl | rfl | rfl | rfl <;> rfl
theorem x_newA (hx : p.tables.exec = Jvm.exec) (hb : c.code = cc) (hK : x_K g s) (hw : x_WL g Y L I H locs) {e0 : Nat} (hk : x_kd t = (1, e0)) (he : e0 < 4) {at0 : ArrayType} (hty : newarray.typeOf at0 = x_et e0) (ma : Cond.arrayClass (newarray.typeOf at0) ∈ lw_tbl) {v : Int32} {N : Nat} (hv : ¬ v < 0) (hN : v.toNatClampNeg = N)
    (hRc : R.cells = 600288 - k0) (hRs : R.slots = 7292554 - n0) (hbd : x_bd k0 n0 k n) (h1 : k + 1 ≤ 600288) (h2 : n + N ≤ 7292554) (hdg : decode cc pc = .ok (.newarray at0, 2))
    (kk : ∀ H' : Heap, x_WL g (x_yn Y t i H.size N (fun _ => none)) (x_zl L t i) (x_zi I t i) H' locs → x_bd k0 n0 (k + 1) (n + N) → W p l e R s m args below meth c H' locs (k + 1 - k0) (n + N - n0) Q (F0 m (pc + 2) ls (.ref H.size :: rest))) :
    W p l e R s m args below meth c H locs (k - k0) (n - n0) Q (F0 m pc ls (.int v :: rest)) := by
  obtain ⟨b1, b2, b3, b4⟩ := hbd
  have hcb : componentBytes (x_et e0) ≤ 8 := by
    rcases (by omega : e0 = 0 ∨ e0 = 1 ∨ e0 = 2 ∨ e0 = 3) with rfl | rfl | rfl | rfl <;> decide
  refine va_newaK hx hb (x_wdA hK ma) rfl hdg rfl hv hN ?_ (by omega) (by omega) rfl fun H1 cA e1 z1 o1 hAr hNm => ?_
  · rw [hty]
    have := Nat.mul_le_mul_left N hcb
    omega
  · have hcA : cA = g.2.2.1 e0 := by
      have h9 := (hK.arr (show e0 < 7 by omega)).2
      rw [hty] at hNm
      have h10 : s.vm.findClass ("[" ++ (x_et e0).toString) = some (g.2.2.1 e0) := by
        rcases (by omega : e0 = 0 ∨ e0 = 1 ∨ e0 = 2 ∨ e0 = 3) with rfl | rfl | rfl | rfl <;> exact h9
      exact Option.some.inj (hNm.symm.trans h10)
    have := kk H1 ⟨hw.1.new z1 o1 (by unfold x_at; rw [hk, if_neg Nat.one_ne_zero, e1, hcA, x_dfl e0 he t hk, hty]), hw.2⟩ ⟨by omega, by omega, by omega, by omega⟩
    rw [show k + 1 - k0 = k - k0 + 1 by omega, show n + N - n0 = n - n0 + N by omega] at this
    exact this
/-- a passing array: it is dropped again at the method's end -/
theorem x_newT (hx : p.tables.exec = Jvm.exec) (hb : c.code = cc) (hK : x_K g s) (hw : x_WL g Y L I H locs) (hY : x_Y0 g Y) (ht : t = 18 ∨ t = 19) (hno : ¬ x_ok Y t 0) {e0 : Nat} (hk : x_kd t = (1, e0)) (he : e0 < 4) {at0 : ArrayType} (hty : newarray.typeOf at0 = x_et e0) (ma : Cond.arrayClass (newarray.typeOf at0) ∈ lw_tbl) {v : Int32} (hv : ¬ v < 0)
    (hRc : R.cells = 600288 - k0) (hRs : R.slots = 7292554 - n0) (hbd : x_bd k0 n0 k n) (h1 : k + 1 ≤ 600288) (h2 : n + v.toNatClampNeg ≤ 7292554) (hdg : decode cc pc = .ok (.newarray at0, 2))
    (kk : ∀ (Y' : x_Y) (N k' n' : Nat) (L' : x_L) (I' : x_I) (H' : Heap), N = v.toNatClampNeg → k' = k + 1 → n' = n + N → L' = x_zl L t 0 → I' = x_zi I t 0 → x_Y0 g Y' → x_ok Y' t 0 → x_n Y' t 0 = N → (∀ a b, a ≠ t → Y' a b = Y a b) → (∀ a b, x_ok Y a b → x_ok Y' a b) → (∀ L I H locs, x_WL g Y' L I H locs → x_WL g Y L I H locs) → x_WL g Y' L' I' H' locs → x_bd k0 n0 k' n' →
      W p l e R s m args below meth c H' locs (k' - k0) (n' - n0) Q (F0 m (pc + 2) ls (.ref (x_ad Y' t 0) :: rest))) :
    W p l e R s m args below meth c H locs (k - k0) (n - n0) Q (F0 m pc ls (.int v :: rest)) := by
  have hlk : ∀ a b j t' i', x_lk a b j = some (t', i') → t' ≠ t ∧ a ≠ t := by
    intro a b j t' i' h
    have h2 : (t' ≠ 18 ∧ t' ≠ 19) ∧ (a ≠ 18 ∧ a ≠ 19) := by
      unfold x_lk at h
      split at h
      all_goals (try (first | (split at h <;> first | (cases h; exact ⟨⟨by decide, by decide⟩, by decide, by decide⟩) | (cases h))))
      all_goals (try cases h)
      all_goals (exact ⟨⟨by omega, by omega⟩, by decide, by decide⟩)
    rcases ht with rfl | rfl
    · exact ⟨h2.1.1, h2.2.1⟩
    · exact ⟨h2.1.2, h2.2.2⟩
  have hsame : ∀ a b, ¬ (a = t ∧ b = 0) → x_yn Y t 0 H.size v.toNatClampNeg (fun _ => none) a b = Y a b := fun a b h => x_yn_n Y h
  refine x_newA hx hb hK hw (i := 0) hk he hty ma hv rfl hRc hRs hbd h1 h2 hdg fun H' hw' hbd' => ?_
  have hself := x_yn_s Y t 0 H.size v.toNatClampNeg (fun _ => none)
  generalize x_yn Y t 0 H.size v.toNatClampNeg (fun _ => none) = Y' at hw' hsame hself
  have hsame' : ∀ a b, a ≠ t → Y' a b = Y a b := fun a b h => hsame a b fun z => h z.1
  have hoky : ∀ a b, x_ok Y a b → Y' a b = Y a b := fun a b h => hsame a b fun z => hno (by rw [← z.1, ← z.2]; exact h)
  have hok' : ∀ a b, x_ok Y a b → x_ok Y' a b := fun a b h => by unfold x_ok; rw [hoky a b h]; exact h
  have had : H.size = x_ad Y' t 0 := by unfold x_ad; rw [hself]
  have hback : ∀ a b, a ≠ t → x_ok Y' a b → x_ok Y a b := fun a b h q => by unfold x_ok at q ⊢; rw [hsame' a b h] at q; exact q
  rw [had]
  refine kk Y' _ _ _ _ _ H' rfl rfl rfl rfl rfl ⟨fun a b j t' i' hok hl => ?_, fun a b n9 hok hl => ?_, fun hok j hj => ?_⟩ (by unfold x_ok; rw [hself]; trivial) (by unfold x_n; rw [hself]) hsame' hok' (fun L I H locs h => ⟨h.1.drop hoky, h.2⟩) hw' hbd'
  · have hn := hlk a b j t' i' hl
    have h3 := hY.1 a b j t' i' (hback a b hn.2 hok) hl
    unfold x_r x_ad
    rw [hsame' a b hn.2, hsame' t' i' hn.1]
    exact ⟨h3.1, hok' _ _ h3.2⟩
  · have hn : a ≠ t := fun z => by subst z; rcases ht with rfl | rfl <;> cases hl
    unfold x_n
    rw [hsame' a b hn]
    exact hY.2.1 a b n9 (hback a b hn hok) hl
  · have hn : (14 : Nat) ≠ t := by rcases ht with rfl | rfl <;> decide
    unfold x_r
    rw [hsame' 14 0 hn]
    exact hY.2.2 (hback 14 0 hn hok) j hj
end XN
