def yw_Math_max (g : x_G) (Q : Int32 → x_Y → x_L → x_I → Nat → Nat → Prop) (X : Nat → x_Y → x_L → x_I → Nat → Nat → Prop) (p0 : Int32) (p1 : Int32) (Y : x_Y) (L : x_L) (I : x_I) (k n : Nat) : Prop :=
  ((p0 < p1 →
    Q p1 Y L I k n) ∧
  (¬ p0 < p1 →
    Q p0 Y L I k n))
set_option maxRecDepth 100000 in
set_option maxHeartbeats 4000000 in
theorem yc_Math_max {l : Launch} {g : x_G} {Q : Int32 → x_Y → x_L → x_I → Nat → Nat → Prop} {X : Nat → x_Y → x_L → x_I → Nat → Nat → Prop} {p0 : Int32} {p1 : Int32} {Y : x_Y} {L : x_L} {I : x_I} {k n : Nat} (h : yw_Math_max g Q X p0 p1 Y L I k n) : x_C l y_Math_max 1 g [.int p0, .int p1] Y L I k n (x_yI Q X) := by
  refine x_mth k_459 ?_
  intro p e R s m below meth c hE hnm hexn hw hk1 hn1
  obtain ⟨hx, hb, hml, hr, hlk, hown, hK, htr, hF, hLo, hRc, hRs⟩ := id hE
  have hbd : x_bd k n k n := ⟨Nat.le_refl _, hk1, Nat.le_refl _, hn1⟩
  have hl := lv_entry ([.int p0, .int p1]) (n := 2) (Nat.le_of_ble_eq_true rfl)
  generalize (lg_sl [.int p0, .int p1] ++ List.replicate (2 - (lg_sl [.int p0, .int p1]).length) Slot.unset).toArray = ls at hl ⊢
  have hl : lv_has ls 2 [(0, .int p0), (1, .int p1)] := hl
  generalize s.heap = H at hw ⊢
  generalize ([] : List Loc) = locs at hw ⊢
  unfold yw_Math_max at h
  refine lv_iload_n hx hb d_Math_max_0 rfl (lv_at hl 0 rfl) ?_
  refine lv_iload_n hx hb d_Math_max_1 rfl (lv_at hl 1 rfl) ?_
  refine lv_icmp_lt (tgt := 9) hx hb d_Math_max_2 (by decide) (fun c1 => ?_) (fun c1 => ?_)
  · replace h := h.1 c1
    refine lv_iload_n hx hb d_Math_max_9 rfl (lv_at hl 1 rfl) ?_
    exact x_iret hx hb hr hlk hw (Or.inl ⟨_, rfl, h⟩) hbd d_Math_max_10
  · replace h := h.2 c1
    refine lv_iload_n hx hb d_Math_max_5 rfl (lv_at hl 0 rfl) ?_
    refine lv_goto (tgt := 10) hx hb d_Math_max_6 (by decide) ?_
    exact x_iret hx hb hr hlk hw (Or.inl ⟨_, rfl, h⟩) hbd d_Math_max_10
def yw_Math_min (g : x_G) (Q : Int32 → x_Y → x_L → x_I → Nat → Nat → Prop) (X : Nat → x_Y → x_L → x_I → Nat → Nat → Prop) (p0 : Int32) (p1 : Int32) (Y : x_Y) (L : x_L) (I : x_I) (k n : Nat) : Prop :=
  ((p1 < p0 →
    Q p1 Y L I k n) ∧
  (¬ p1 < p0 →
    Q p0 Y L I k n))
set_option maxRecDepth 100000 in
set_option maxHeartbeats 4000000 in
theorem yc_Math_min {l : Launch} {g : x_G} {Q : Int32 → x_Y → x_L → x_I → Nat → Nat → Prop} {X : Nat → x_Y → x_L → x_I → Nat → Nat → Prop} {p0 : Int32} {p1 : Int32} {Y : x_Y} {L : x_L} {I : x_I} {k n : Nat} (h : yw_Math_min g Q X p0 p1 Y L I k n) : x_C l y_Math_min 1 g [.int p0, .int p1] Y L I k n (x_yI Q X) := by
  refine x_mth k_493 ?_
  intro p e R s m below meth c hE hnm hexn hw hk1 hn1
  obtain ⟨hx, hb, hml, hr, hlk, hown, hK, htr, hF, hLo, hRc, hRs⟩ := id hE
  have hbd : x_bd k n k n := ⟨Nat.le_refl _, hk1, Nat.le_refl _, hn1⟩
  have hl := lv_entry ([.int p0, .int p1]) (n := 2) (Nat.le_of_ble_eq_true rfl)
  generalize (lg_sl [.int p0, .int p1] ++ List.replicate (2 - (lg_sl [.int p0, .int p1]).length) Slot.unset).toArray = ls at hl ⊢
  have hl : lv_has ls 2 [(0, .int p0), (1, .int p1)] := hl
  generalize s.heap = H at hw ⊢
  generalize ([] : List Loc) = locs at hw ⊢
  unfold yw_Math_min at h
  refine lv_iload_n hx hb d_Math_min_0 rfl (lv_at hl 0 rfl) ?_
  refine lv_iload_n hx hb d_Math_min_1 rfl (lv_at hl 1 rfl) ?_
  refine lv_icmp_gt (tgt := 9) hx hb d_Math_min_2 (by decide) (fun c1 => ?_) (fun c1 => ?_)
  · replace h := h.1 c1
    refine lv_iload_n hx hb d_Math_min_9 rfl (lv_at hl 1 rfl) ?_
    exact x_iret hx hb hr hlk hw (Or.inl ⟨_, rfl, h⟩) hbd d_Math_min_10
  · replace h := h.2 c1
    refine lv_iload_n hx hb d_Math_min_5 rfl (lv_at hl 0 rfl) ?_
    refine lv_goto (tgt := 10) hx hb d_Math_min_6 (by decide) ?_
    exact x_iret hx hb hr hlk hw (Or.inl ⟨_, rfl, h⟩) hbd d_Math_min_10
def yw_AS_newLength (g : x_G) (Q : Int32 → x_Y → x_L → x_I → Nat → Nat → Prop) (X : Nat → x_Y → x_L → x_I → Nat → Nat → Prop) (p0 : Int32) (p1 : Int32) (p2 : Int32) (Y : x_Y) (L : x_L) (I : x_I) (k n : Nat) : Prop :=
  yw_Math_max g (fun r1 Y3 L4 I5 k6 n6 =>
    ∀ x7 : Int32, x7 = (p0 + r1) →
    ((x7 ≤ (0 : Int32) →
      False) ∧
    (¬ x7 ≤ (0 : Int32) →
      (((2147483639 : Int32) < x7 →
        False) ∧
      (¬ (2147483639 : Int32) < x7 →
        Q x7 Y3 L4 I5 k6 n6))))) x_ynx p1 p2 Y L I k n
set_option maxRecDepth 100000 in
set_option maxHeartbeats 4000000 in
theorem yc_AS_newLength {l : Launch} {g : x_G} {Q : Int32 → x_Y → x_L → x_I → Nat → Nat → Prop} {X : Nat → x_Y → x_L → x_I → Nat → Nat → Prop} {p0 : Int32} {p1 : Int32} {p2 : Int32} {Y : x_Y} {L : x_L} {I : x_I} {k n : Nat} (h : yw_AS_newLength g Q X p0 p1 p2 Y L I k n) : x_C l y_AS_newLength 2 g [.int p0, .int p1, .int p2] Y L I k n (x_yI Q X) := by
  refine x_mth k_456 ?_
  intro p e R s m below meth c hE hnm hexn hw hk1 hn1
  obtain ⟨hx, hb, hml, hr, hlk, hown, hK, htr, hF, hLo, hRc, hRs⟩ := id hE
  have hbd : x_bd k n k n := ⟨Nat.le_refl _, hk1, Nat.le_refl _, hn1⟩
  have hl := lv_entry ([.int p0, .int p1, .int p2]) (n := 4) (Nat.le_of_ble_eq_true rfl)
  generalize (lg_sl [.int p0, .int p1, .int p2] ++ List.replicate (4 - (lg_sl [.int p0, .int p1, .int p2]).length) Slot.unset).toArray = ls at hl ⊢
  have hl : lv_has ls 4 [(0, .int p0), (1, .int p1), (2, .int p2)] := hl
  generalize s.heap = H at hw ⊢
  generalize ([] : List Loc) = locs at hw ⊢
  unfold yw_AS_newLength at h
  refine lv_iload_n hx hb d_AS_newLength_0 rfl (lv_at hl 0 rfl) ?_
  refine lv_iload_n hx hb d_AS_newLength_1 rfl (lv_at hl 1 rfl) ?_
  refine lv_iload_n hx hb d_AS_newLength_2 rfl (lv_at hl 2 rfl) ?_
  refine x_ygI (ls := ls) (rest := [.int p0]) hE hw (yc_Math_max h) (x_cd hK k_459) q_Math_max (by decide) (by decide) hl.1 (Nat.le_of_ble_eq_true rfl) hbd d_AS_newLength_3 (x_toS (As := [.int p1, .int p2]) hx hb hown hK k_457 k_458 k_19 ⟨_, x_cd hK k_459⟩ q_Math_max rfl rfl d_AS_newLength_3) (fun r1 Y3 L4 I5 k6 n6 H locs h hw hb9 => ?_) (fun _ _ _ _ _ _ _ _ h9 => h9.elim)
  replace hbd := hbd.tr hb9
  try dsimp only at h
  refine lv_iadd hx hb d_AS_newLength_6 ?_
  refine lv_topi (fun x7 e_x7 => ?_)
  replace h := h x7 e_x7
  refine lv_istore_n (lv' := [(3, .int x7), (0, .int p0), (1, .int p1), (2, .int p2)]) hx hb d_AS_newLength_7 rfl hl (by decide) rfl (fun ls hl => ?_)
  refine lv_iconst (v := 0) hx hb d_AS_newLength_8 (by decide) ?_
  refine lv_iload_n hx hb d_AS_newLength_9 rfl (lv_at hl 0 rfl) ?_
  refine lv_icmp_ge (tgt := 21) hx hb d_AS_newLength_10 (by decide) (fun c8 => ?_) (fun c8 => ?_)
  · replace h := h.1 c8
    exact h.elim
  · replace h := h.2 c8
    refine lv_iload_n hx hb d_AS_newLength_13 rfl (lv_at hl 0 rfl) ?_
    refine lv_ldc (v := 2147483639) hx hb hown (x_wd hK k_460 rfl) d_AS_newLength_14 ?_
    refine lv_icmp_gt (tgt := 21) hx hb d_AS_newLength_16 (by decide) (fun c9 => ?_) (fun c9 => ?_)
    · replace h := h.1 c9
      exact h.elim
    · replace h := h.2 c9
      refine lv_iload_n hx hb d_AS_newLength_19 rfl (lv_at hl 0 rfl) ?_
      exact x_iret hx hb hr hlk hw (Or.inl ⟨_, rfl, h⟩) hbd d_AS_newLength_20
def yw_Arr_copyOf3 (g : x_G) (Q : Nat → x_Y → x_L → x_I → Nat → Nat → Prop) (X : Nat → x_Y → x_L → x_I → Nat → Nat → Prop) (a0 : Nat) (p1 : Int32) (Y : x_Y) (L : x_L) (I : x_I) (k n : Nat) : Prop :=
  (¬ p1 < 0 ∧ k + 1 ≤ 600288 ∧ n + p1.toNatClampNeg ≤ 7292554) ∧
  ∀ (b1 k2 n2 : Nat) (Y3 : x_Y) (L4 : x_L) (I5 : x_I), Y3 = x_yn Y 3 1 b1 p1.toNatClampNeg (fun _ => none) → L4 = x_zl L 3 1 → I5 = x_zi I 3 1 → k2 = k + 1 → n2 = n + p1.toNatClampNeg →
  (x_ok Y3 3 0 ∧ x_ad Y3 3 0 = a0) ∧
  yw_Math_min g (fun r6 Y8 L9 I10 k11 n11 =>
    ((x_ok Y8 3 0 ∧ x_ad Y8 3 0 = a0) ∧ (x_ok Y8 3 1 ∧ x_ad Y8 3 1 = b1) ∧ (¬ (0 : Int32) < 0 ∧ ¬ (0 : Int32) < 0 ∧ ¬ r6 < 0 ∧ (0 : Int32).toNatClampNeg + r6.toNatClampNeg ≤ x_n Y8 3 0 ∧ (0 : Int32).toNatClampNeg + r6.toNatClampNeg ≤ x_n Y8 3 1) ∧ ∀ q, q < r6.toNatClampNeg → ∀ y, x_r Y8 3 0 ((0 : Int32).toNatClampNeg + q) = some y → ∃ a, x_ok Y8 23 a ∧ x_ad Y8 23 a = y) ∧
    ∀ Y12 : x_Y, Y12 = x_ycp Y8 3 0 3 1 ((0 : Int32).toNatClampNeg) ((0 : Int32).toNatClampNeg) (r6.toNatClampNeg) →
    Q b1 Y12 L9 I10 k11 n11) x_ynx (nI (x_n Y3 3 0)) p1 Y3 L4 I5 k2 n2
set_option maxRecDepth 100000 in
set_option maxHeartbeats 4000000 in
theorem yc_Arr_copyOf3 {l : Launch} {g : x_G} {Q : Nat → x_Y → x_L → x_I → Nat → Nat → Prop} {X : Nat → x_Y → x_L → x_I → Nat → Nat → Prop} {a0 : Nat} {p1 : Int32} {Y : x_Y} {L : x_L} {I : x_I} {k n : Nat} (h : yw_Arr_copyOf3 g Q X a0 p1 Y L I k n) : x_C l y_Arr_copyOf3 2 g [.ref a0, .int p1, .ref (g.2.2.2.2 32)] Y L I k n (x_yA Q X) := by
  refine x_mth k_487 ?_
  intro p e R s m below meth c hE hnm hexn hw hk1 hn1
  obtain ⟨hx, hb, hml, hr, hlk, hown, hK, htr, hF, hLo, hRc, hRs⟩ := id hE
  have hbd : x_bd k n k n := ⟨Nat.le_refl _, hk1, Nat.le_refl _, hn1⟩
  have hl := lv_entry ([.ref a0, .int p1, .ref (g.2.2.2.2 32)]) (n := 4) (Nat.le_of_ble_eq_true rfl)
  generalize (lg_sl [.ref a0, .int p1, .ref (g.2.2.2.2 32)] ++ List.replicate (4 - (lg_sl [.ref a0, .int p1, .ref (g.2.2.2.2 32)]).length) Slot.unset).toArray = ls at hl ⊢
  have hl : lv_has ls 4 [(0, .ref a0), (1, .int p1), (2, .ref (g.2.2.2.2 32))] := hl
  generalize s.heap = H at hw ⊢
  generalize ([] : List Loc) = locs at hw ⊢
  unfold yw_Arr_copyOf3 at h
  refine lv_aload_n hx hb d_Arr_copyOf3_0 rfl (lv_at hl 2 rfl) ?_
  refine va_ldcM hx hb hown (x_wd hK k_488 rfl) (x_Mi hK) d_Arr_copyOf3_1 ?_
  refine lv_acmp_ne (rx := some (g.2.2.2.2 32)) (ry := some (g.2.2.2.2 32)) (tgt := 13) hx hb d_Arr_copyOf3_3 (by decide) (fun c9 => absurd rfl c9) (fun _ => ?_)
  refine lv_iload_n hx hb d_Arr_copyOf3_6 rfl (lv_at hl 1 rfl) ?_
  refine x_newQ (t := 3) (i := 1) hx hb hK hw hown rfl (by decide) rfl k_490 k_489 h.1.1 rfl hRc hRs hbd h.1.2.1 h.1.2.2 d_Arr_copyOf3_7 (fun b1 k2 n2 Y3 L4 I5 H q1 q2 q3 q4 q5 hw hbd => ?_)
  replace h := h.2 b1 k2 n2 Y3 L4 I5 q1 q2 q3 q4 q5
  clear q1 q2 q3 q4 q5
  refine lv_goto (tgt := 24) hx hb d_Arr_copyOf3_10 (by decide) ?_
  refine lv_astore_n (lv' := [(3, .ref b1), (0, .ref a0), (1, .int p1), (2, .ref (g.2.2.2.2 32))]) hx hb d_Arr_copyOf3_24 rfl hl (by decide) rfl (fun ls hl => ?_)
  refine lv_aload_n hx hb d_Arr_copyOf3_25 rfl (lv_at hl 1 rfl) ?_
  refine lv_iconst (v := 0) hx hb d_Arr_copyOf3_26 (by decide) ?_
  refine lv_aload_n hx hb d_Arr_copyOf3_27 rfl (lv_at hl 0 rfl) ?_
  refine lv_iconst (v := 0) hx hb d_Arr_copyOf3_28 (by decide) ?_
  refine lv_aload_n hx hb d_Arr_copyOf3_29 rfl (lv_at hl 1 rfl) ?_
  refine x_alen1 (t := 3) (i := 0) hx hb hK hw ⟨h.1, rfl⟩ rfl (by decide) d_Arr_copyOf3_30 ?_
  replace h := h.2
  refine lv_iload_n hx hb d_Arr_copyOf3_31 rfl (lv_at hl 2 rfl) ?_
  refine x_ygI (ls := ls) (rest := [.int (0 : Int32), .ref b1, .int (0 : Int32), .ref a0]) hE hw (yc_Math_min h) (x_cd hK k_493) q_Math_min (by decide) (by decide) hl.1 (Nat.le_of_ble_eq_true rfl) hbd d_Arr_copyOf3_32 (x_toS (As := [.int (nI (x_n Y3 3 0)), .int p1]) hx hb hown hK k_491 k_492 k_19 ⟨_, x_cd hK k_493⟩ q_Math_min rfl rfl d_Arr_copyOf3_32) (fun r6 Y8 L9 I10 k11 n11 H locs h hw hb9 => ?_) (fun _ _ _ _ _ _ _ _ h9 => h9.elim)
  replace hbd := hbd.tr hb9
  try dsimp only at h
  refine x_copyR (t0 := 3) (i0 := 0) (t1 := 3) (i1 := 1) (rest := []) hE hl.1 hw k_494 k_496 k_495 k_21 h.1.1 h.1.2.1 rfl rfl h.1.2.2.1.1 h.1.2.2.1.2.1 h.1.2.2.1.2.2.1 h.1.2.2.1.2.2.2.1 h.1.2.2.1.2.2.2.2 h.1.2.2.2 (by decide) (Nat.le_of_ble_eq_true rfl) d_Arr_copyOf3_35 (fun Y12 H locs e_Y12 hw => ?_)
  replace h := h.2 Y12 e_Y12
  refine lv_aload_n hx hb d_Arr_copyOf3_38 rfl (lv_at hl 0 rfl) ?_
  exact x_aret hx hb hr (Or.inr ⟨_, rfl⟩) hlk hw (Or.inl ⟨_, rfl, h⟩) hbd d_Arr_copyOf3_39
def yw_Arr_copyOf2 (g : x_G) (Q : Nat → x_Y → x_L → x_I → Nat → Nat → Prop) (X : Nat → x_Y → x_L → x_I → Nat → Nat → Prop) (a0 : Nat) (p1 : Int32) (Y : x_Y) (L : x_L) (I : x_I) (k n : Nat) : Prop :=
  (x_ok Y 3 0 ∧ x_ad Y 3 0 = a0) ∧
  yw_Arr_copyOf3 g (fun a2 Y3 L4 I5 k6 n6 =>
    Q a2 Y3 L4 I5 k6 n6) x_ynx a0 p1 Y L I k n
set_option maxRecDepth 100000 in
set_option maxHeartbeats 4000000 in
theorem yc_Arr_copyOf2 {l : Launch} {g : x_G} {Q : Nat → x_Y → x_L → x_I → Nat → Nat → Prop} {X : Nat → x_Y → x_L → x_I → Nat → Nat → Prop} {a0 : Nat} {p1 : Int32} {Y : x_Y} {L : x_L} {I : x_I} {k n : Nat} (h : yw_Arr_copyOf2 g Q X a0 p1 Y L I k n) : x_C l y_Arr_copyOf2 3 g [.ref a0, .int p1] Y L I k n (x_yA Q X) := by
  refine x_mth k_466 ?_
  intro p e R s m below meth c hE hnm hexn hw hk1 hn1
  obtain ⟨hx, hb, hml, hr, hlk, hown, hK, htr, hF, hLo, hRc, hRs⟩ := id hE
  have hbd : x_bd k n k n := ⟨Nat.le_refl _, hk1, Nat.le_refl _, hn1⟩
  have hl := lv_entry ([.ref a0, .int p1]) (n := 2) (Nat.le_of_ble_eq_true rfl)
  generalize (lg_sl [.ref a0, .int p1] ++ List.replicate (2 - (lg_sl [.ref a0, .int p1]).length) Slot.unset).toArray = ls at hl ⊢
  have hl : lv_has ls 2 [(0, .ref a0), (1, .int p1)] := hl
  generalize s.heap = H at hw ⊢
  generalize ([] : List Loc) = locs at hw ⊢
  unfold yw_Arr_copyOf2 at h
  refine lv_aload_n hx hb d_Arr_copyOf2_0 rfl (lv_at hl 0 rfl) ?_
  refine lv_iload_n hx hb d_Arr_copyOf2_1 rfl (lv_at hl 1 rfl) ?_
  refine lv_aload_n hx hb d_Arr_copyOf2_2 rfl (lv_at hl 0 rfl) ?_
  refine x_getC (t := 3) (i := 0) (rest := [.int p1, .ref a0]) hE hl.1 hw h.1 rfl k_467 (by decide) (Nat.le_of_ble_eq_true rfl) d_Arr_copyOf2_3 ?_
  replace h := h.2
  refine x_ygA (ls := ls) (rest := []) hE hw (yc_Arr_copyOf3 h) (x_cd hK k_487) q_Arr_copyOf3 (by decide) (by decide) hl.1 (Nat.le_of_ble_eq_true rfl) hbd d_Arr_copyOf2_6 (x_toS (As := [.ref a0, .int p1, .ref (g.2.2.2.2 32)]) hx hb hown hK k_485 k_486 k_20 ⟨_, x_cd hK k_487⟩ q_Arr_copyOf3 rfl rfl d_Arr_copyOf2_6) (fun a2 Y3 L4 I5 k6 n6 H locs h hw hb9 => ?_) (fun _ _ _ _ _ _ _ _ h9 => h9.elim)
  replace hbd := hbd.tr hb9
  try dsimp only at h
  exact x_aret hx hb hr (Or.inr ⟨_, rfl⟩) hlk hw (Or.inl ⟨_, rfl, h⟩) hbd d_Arr_copyOf2_9
def yw_AL_grow1D (g : x_G) (Q : Nat → x_Y → x_L → x_I → Nat → Nat → Prop) (X : Nat → x_Y → x_L → x_I → Nat → Nat → Prop) (a0 : Nat) (p1 : Int32) (Y : x_Y) (L : x_L) (I : x_I) (k n : Nat) : Prop :=
  ((x_ok Y 2 0 ∧ x_ad Y 2 0 = a0) ∧ x_r Y 2 0 0 = some (g.2.2.2.2 30)) ∧
  ∀ x1 : Int32, x1 = (0 : Int32) →
  ((0 < x1 →
    False) ∧
  (¬ 0 < x1 →
    ((x_ok Y 2 0 ∧ x_ad Y 2 0 = a0) ∧ x_r Y 2 0 0 = some (g.2.2.2.2 30)) ∧
    yw_Math_max g (fun r3 Y5 L6 I7 k8 n8 =>
      (¬ r3 < 0 ∧ k8 + 1 ≤ 600288 ∧ n8 + r3.toNatClampNeg ≤ 7292554) ∧
      ∀ (b9 k10 n10 : Nat) (Y11 : x_Y) (L12 : x_L) (I13 : x_I), Y11 = x_yn Y5 3 0 b9 r3.toNatClampNeg (fun _ => none) → L12 = x_zl L6 3 0 → I13 = x_zi I7 3 0 → k10 = k8 + 1 → n10 = n8 + r3.toNatClampNeg →
      (x_ok Y11 2 0 ∧ x_ad Y11 2 0 = a0) ∧
      ∀ Y14 : x_Y, Y14 = x_yr Y11 2 0 0 (some b9) →
      Q b9 Y14 L12 I13 k10 n10) x_ynx (10 : Int32) p1 Y L I k n))
set_option maxRecDepth 100000 in
set_option maxHeartbeats 4000000 in
theorem yc_AL_grow1D {l : Launch} {g : x_G} {Q : Nat → x_Y → x_L → x_I → Nat → Nat → Prop} {X : Nat → x_Y → x_L → x_I → Nat → Nat → Prop} {a0 : Nat} {p1 : Int32} {Y : x_Y} {L : x_L} {I : x_I} {k n : Nat} (h : yw_AL_grow1D g Q X a0 p1 Y L I k n) : x_C l y_AL_grow1 2 g [.ref a0, .int p1] Y L I k n (x_yA Q X) := by
  refine x_mth k_453 ?_
  intro p e R s m below meth c hE hnm hexn hw hk1 hn1
  obtain ⟨hx, hb, hml, hr, hlk, hown, hK, htr, hF, hLo, hRc, hRs⟩ := id hE
  have hbd : x_bd k n k n := ⟨Nat.le_refl _, hk1, Nat.le_refl _, hn1⟩
  have hl := lv_entry ([.ref a0, .int p1]) (n := 4) (Nat.le_of_ble_eq_true rfl)
  generalize (lg_sl [.ref a0, .int p1] ++ List.replicate (4 - (lg_sl [.ref a0, .int p1]).length) Slot.unset).toArray = ls at hl ⊢
  have hl : lv_has ls 4 [(0, .ref a0), (1, .int p1)] := hl
  generalize s.heap = H at hw ⊢
  generalize ([] : List Loc) = locs at hw ⊢
  unfold yw_AL_grow1D at h
  refine lv_aload_n hx hb d_AL_grow1D_0 rfl (lv_at hl 0 rfl) ?_
  refine x_gR1 (t := 2) (i := 0) (j := 0) hx hb hK hw hown h.1 rfl (by decide) (by decide) (x_wd hK k_56 rfl) (fun _ h => h) fk_2_0 d_AL_grow1D_1 ?_
  replace h := h.2
  refine x_alenD hx hb hK hw d_AL_grow1D_4 ?_
  refine lv_topi (fun x1 e_x1 => ?_)
  replace h := h x1 e_x1
  refine lv_istore_n (lv' := [(2, .int x1), (0, .ref a0), (1, .int p1)]) hx hb d_AL_grow1D_5 rfl hl (by decide) rfl (fun ls hl => ?_)
  refine lv_iload_n hx hb d_AL_grow1D_6 rfl (lv_at hl 0 rfl) ?_
  refine lv_if_gt (tgt := 20) hx hb d_AL_grow1D_7 (by decide) (fun c2 => ?_) (fun c2 => ?_)
  · replace h := h.1 c2
    exact h.elim
  · replace h := h.2 c2
    refine lv_aload_n hx hb d_AL_grow1D_10 rfl (lv_at hl 1 rfl) ?_
    refine x_gR1 (t := 2) (i := 0) (j := 0) hx hb hK hw hown h.1 rfl (by decide) (by decide) (x_wd hK k_56 rfl) (fun _ h => h) fk_2_0 d_AL_grow1D_11 ?_
    replace h := h.2
    refine x_gsD hx hb hK hw hown (x_wd hK k_54 rfl) d_AL_grow1D_14 ?_
    refine lv_acmp_eq (rx := some (g.2.2.2.2 30)) (ry := some (g.2.2.2.2 30)) (tgt := 45) hx hb d_AL_grow1D_17 (by decide) (fun _ => ?_) (fun c9 => absurd rfl c9)
    refine lv_aload_n hx hb d_AL_grow1D_45 rfl (lv_at hl 1 rfl) ?_
    refine lv_bipush (v := 10) hx hb d_AL_grow1D_46 (by decide) ?_
    refine lv_iload_n hx hb d_AL_grow1D_48 rfl (lv_at hl 2 rfl) ?_
    refine x_ygI (ls := ls) (rest := [.ref a0]) hE hw (yc_Math_max h) (x_cd hK k_459) q_Math_max (by decide) (by decide) hl.1 (Nat.le_of_ble_eq_true rfl) hbd d_AL_grow1D_49 (x_toS (As := [.int (10 : Int32), .int p1]) hx hb hown hK k_497 k_458 k_19 ⟨_, x_cd hK k_459⟩ q_Math_max rfl rfl d_AL_grow1D_49) (fun r3 Y5 L6 I7 k8 n8 H locs h hw hb9 => ?_) (fun _ _ _ _ _ _ _ _ h9 => h9.elim)
    replace hbd := hbd.tr hb9
    try dsimp only at h
    refine x_newQ (t := 3) (i := 0) hx hb hK hw hown rfl (by decide) rfl k_498 k_489 h.1.1 rfl hRc hRs hbd h.1.2.1 h.1.2.2 d_AL_grow1D_52 (fun b9 k10 n10 Y11 L12 I13 H q1 q2 q3 q4 q5 hw hbd => ?_)
    replace h := h.2 b9 k10 n10 Y11 L12 I13 q1 q2 q3 q4 q5
    clear q1 q2 q3 q4 q5
    refine lv_dup_x1 hx hb d_AL_grow1D_55 rfl rfl ?_
    refine x_pR1 (t := 2) (i := 0) (j := 0) hx hb hK hw hown h.1 rfl (by decide) (by decide) (x_wd hK k_56 rfl) (fun _ h => h) rfl fk_2_0 d_AL_grow1D_56 (fun Y14 H locs e_Y14 hw => ?_)
    replace h := h.2 Y14 e_Y14
    exact x_aret hx hb hr (Or.inr ⟨_, rfl⟩) hlk hw (Or.inl ⟨_, rfl, h⟩) hbd d_AL_grow1D_59
def yw_AL_grow1E (g : x_G) (Q : Nat → x_Y → x_L → x_I → Nat → Nat → Prop) (X : Nat → x_Y → x_L → x_I → Nat → Nat → Prop) (a0 : Nat) (p1 : Int32) (Y : x_Y) (L : x_L) (I : x_I) (k n : Nat) : Prop :=
  ((x_ok Y 2 0 ∧ x_ad Y 2 0 = a0) ∧ x_r Y 2 0 0 = some (x_ad Y 3 0)) ∧
  (x_ok Y 3 0 ∧ x_ad Y 3 0 = (x_ad Y 3 0)) ∧
  ∀ x1 : Int32, x1 = (nI (x_n Y 3 0)) →
  ((0 < x1 →
    yw_AS_newLength g (fun r3 Y5 L6 I7 k8 n8 =>
      ((x_ok Y5 2 0 ∧ x_ad Y5 2 0 = a0) ∧ x_r Y5 2 0 0 = some (x_ad Y5 3 0)) ∧
      yw_Arr_copyOf2 g (fun a10 Y11 L12 I13 k14 n14 =>
        (x_ok Y11 2 0 ∧ x_ad Y11 2 0 = a0) ∧
        ∀ Y15 : x_Y, Y15 = x_yr Y11 2 0 0 (some a10) →
        Q a10 Y15 L12 I13 k14 n14) x_ynx (x_ad Y5 3 0) r3 Y5 L6 I7 k8 n8) x_ynx x1 (p1 - x1) ((x1 >>> ((1 : Int32) &&& 31))) Y L I k n) ∧
  (¬ 0 < x1 →
    False))
set_option maxRecDepth 100000 in
set_option maxHeartbeats 4000000 in
theorem yc_AL_grow1E {l : Launch} {g : x_G} {Q : Nat → x_Y → x_L → x_I → Nat → Nat → Prop} {X : Nat → x_Y → x_L → x_I → Nat → Nat → Prop} {a0 : Nat} {p1 : Int32} {Y : x_Y} {L : x_L} {I : x_I} {k n : Nat} (h : yw_AL_grow1E g Q X a0 p1 Y L I k n) : x_C l y_AL_grow1 4 g [.ref a0, .int p1] Y L I k n (x_yA Q X) := by
  refine x_mth k_453 ?_
  intro p e R s m below meth c hE hnm hexn hw hk1 hn1
  obtain ⟨hx, hb, hml, hr, hlk, hown, hK, htr, hF, hLo, hRc, hRs⟩ := id hE
  have hbd : x_bd k n k n := ⟨Nat.le_refl _, hk1, Nat.le_refl _, hn1⟩
  have hl := lv_entry ([.ref a0, .int p1]) (n := 4) (Nat.le_of_ble_eq_true rfl)
  generalize (lg_sl [.ref a0, .int p1] ++ List.replicate (4 - (lg_sl [.ref a0, .int p1]).length) Slot.unset).toArray = ls at hl ⊢
  have hl : lv_has ls 4 [(0, .ref a0), (1, .int p1)] := hl
  generalize s.heap = H at hw ⊢
  generalize ([] : List Loc) = locs at hw ⊢
  unfold yw_AL_grow1E at h
  refine lv_aload_n hx hb d_AL_grow1E_0 rfl (lv_at hl 0 rfl) ?_
  refine x_gR1 (t := 2) (i := 0) (j := 0) hx hb hK hw hown h.1 rfl (by decide) (by decide) (x_wd hK k_56 rfl) (fun _ h => h) fk_2_0 d_AL_grow1E_1 ?_
  replace h := h.2
  refine x_alen1 (t := 3) (i := 0) hx hb hK hw ⟨h.1, rfl⟩ rfl (by decide) d_AL_grow1E_4 ?_
  replace h := h.2
  refine lv_topi (fun x1 e_x1 => ?_)
  replace h := h x1 e_x1
  refine lv_istore_n (lv' := [(2, .int x1), (0, .ref a0), (1, .int p1)]) hx hb d_AL_grow1E_5 rfl hl (by decide) rfl (fun ls hl => ?_)
  refine lv_iload_n hx hb d_AL_grow1E_6 rfl (lv_at hl 0 rfl) ?_
  refine lv_if_gt (tgt := 20) hx hb d_AL_grow1E_7 (by decide) (fun c2 => ?_) (fun c2 => ?_)
  · replace h := h.1 c2
    refine lv_iload_n hx hb d_AL_grow1E_20 rfl (lv_at hl 0 rfl) ?_
    refine lv_iload_n hx hb d_AL_grow1E_21 rfl (lv_at hl 2 rfl) ?_
    refine lv_iload_n hx hb d_AL_grow1E_22 rfl (lv_at hl 0 rfl) ?_
    refine lv_isub hx hb d_AL_grow1E_23 ?_
    refine lv_iload_n hx hb d_AL_grow1E_24 rfl (lv_at hl 0 rfl) ?_
    refine lv_iconst (v := 1) hx hb d_AL_grow1E_25 (by decide) ?_
    refine lv_ishr hx hb d_AL_grow1E_26 ?_
    refine x_ygI (ls := ls) (rest := []) hE hw (yc_AS_newLength h) (x_cd hK k_456) q_AS_newLength (by decide) (by decide) hl.1 (Nat.le_of_ble_eq_true rfl) hbd d_AL_grow1E_27 (x_toS (As := [.int x1, .int (p1 - x1), .int ((x1 >>> ((1 : Int32) &&& 31)))]) hx hb hown hK k_454 k_455 k_18 ⟨_, x_cd hK k_456⟩ q_AS_newLength rfl rfl d_AL_grow1E_27) (fun r3 Y5 L6 I7 k8 n8 H locs h hw hb9 => ?_) (fun _ _ _ _ _ _ _ _ h9 => h9.elim)
    replace hbd := hbd.tr hb9
    try dsimp only at h
    refine lv_istore_n (lv' := [(3, .int r3), (2, .int x1), (0, .ref a0), (1, .int p1)]) hx hb d_AL_grow1E_30 rfl hl (by decide) rfl (fun ls hl => ?_)
    refine lv_aload_n hx hb d_AL_grow1E_31 rfl (lv_at hl 2 rfl) ?_
    refine lv_aload_n hx hb d_AL_grow1E_32 rfl (lv_at hl 2 rfl) ?_
    refine x_gR1 (t := 2) (i := 0) (j := 0) hx hb hK hw hown h.1 rfl (by decide) (by decide) (x_wd hK k_56 rfl) (fun _ h => h) fk_2_0 d_AL_grow1E_33 ?_
    replace h := h.2
    refine lv_iload_n hx hb d_AL_grow1E_36 rfl (lv_at hl 0 rfl) ?_
    refine x_ygA (ls := ls) (rest := [.ref a0]) hE hw (yc_Arr_copyOf2 h) (x_cd hK k_466) q_Arr_copyOf2 (by decide) (by decide) hl.1 (Nat.le_of_ble_eq_true rfl) hbd d_AL_grow1E_37 (x_toS (As := [.ref (x_ad Y5 3 0), .int r3]) hx hb hown hK k_464 k_465 k_20 ⟨_, x_cd hK k_466⟩ q_Arr_copyOf2 rfl rfl d_AL_grow1E_37) (fun a10 Y11 L12 I13 k14 n14 H locs h hw hb9 => ?_) (fun _ _ _ _ _ _ _ _ h9 => h9.elim)
    replace hbd := hbd.tr hb9
    try dsimp only at h
    refine lv_dup_x1 hx hb d_AL_grow1E_40 rfl rfl ?_
    refine x_pR1 (t := 2) (i := 0) (j := 0) hx hb hK hw hown h.1 rfl (by decide) (by decide) (x_wd hK k_56 rfl) (fun _ h => h) rfl fk_2_0 d_AL_grow1E_41 (fun Y15 H locs e_Y15 hw => ?_)
    replace h := h.2 Y15 e_Y15
    exact x_aret hx hb hr (Or.inr ⟨_, rfl⟩) hlk hw (Or.inl ⟨_, rfl, h⟩) hbd d_AL_grow1E_44
  · replace h := h.2 c2
    exact h.elim
def yw_AL_grow0D (g : x_G) (Q : Nat → x_Y → x_L → x_I → Nat → Nat → Prop) (X : Nat → x_Y → x_L → x_I → Nat → Nat → Prop) (a0 : Nat) (Y : x_Y) (L : x_L) (I : x_I) (k n : Nat) : Prop :=
  (x_ok Y 2 0 ∧ x_ad Y 2 0 = a0) ∧
  (x_ok Y 2 0 ∧ x_ad Y 2 0 = a0) ∧
  yw_AL_grow1D g (fun a2 Y3 L4 I5 k6 n6 =>
    Q a2 Y3 L4 I5 k6 n6) x_ynx a0 ((I 2 0 1) + (1 : Int32)) Y L I k n
set_option maxRecDepth 100000 in
set_option maxHeartbeats 4000000 in
theorem yc_AL_grow0D {l : Launch} {g : x_G} {Q : Nat → x_Y → x_L → x_I → Nat → Nat → Prop} {X : Nat → x_Y → x_L → x_I → Nat → Nat → Prop} {a0 : Nat} {Y : x_Y} {L : x_L} {I : x_I} {k n : Nat} (h : yw_AL_grow0D g Q X a0 Y L I k n) : x_C l y_AL_grow0 3 g [.ref a0] Y L I k n (x_yA Q X) := by
  refine x_mth k_449 ?_
  intro p e R s m below meth c hE hnm hexn hw hk1 hn1
  obtain ⟨hx, hb, hml, hr, hlk, hown, hK, htr, hF, hLo, hRc, hRs⟩ := id hE
  have hbd : x_bd k n k n := ⟨Nat.le_refl _, hk1, Nat.le_refl _, hn1⟩
  have hl := lv_entry ([.ref a0]) (n := 1) (Nat.le_of_ble_eq_true rfl)
  generalize (lg_sl [.ref a0] ++ List.replicate (1 - (lg_sl [.ref a0]).length) Slot.unset).toArray = ls at hl ⊢
  have hl : lv_has ls 1 [(0, .ref a0)] := hl
  generalize s.heap = H at hw ⊢
  generalize ([] : List Loc) = locs at hw ⊢
  unfold yw_AL_grow0D at h
  refine lv_aload_n hx hb d_AL_grow0D_0 rfl (lv_at hl 0 rfl) ?_
  refine lv_aload_n hx hb d_AL_grow0D_1 rfl (lv_at hl 0 rfl) ?_
  refine x_gI1 (t := 2) (i := 0) (j := 1) hx hb hK hw hown h.1 rfl (by decide) (by decide) (x_wd hK k_59 rfl) (fun _ h => h) fk_2_1 d_AL_grow0D_2 ?_
  replace h := h.2
  refine lv_iconst (v := 1) hx hb d_AL_grow0D_5 (by decide) ?_
  refine lv_iadd hx hb d_AL_grow0D_6 ?_
  have o9 := h.1
  replace h := h.2
  refine x_ygA (ls := ls) (rest := []) hE hw (yc_AL_grow1D h) (x_cd hK k_453) q_AL_grow1 (by decide) (by decide) hl.1 (Nat.le_of_ble_eq_true rfl) hbd d_AL_grow0D_7 (x_toV (As := [.int ((I 2 0 1) + (1 : Int32))]) (b := a0) hx hb hown hK (x_recv1 (c0 := 2) hK hw o9 rfl (by decide)) k_450 k_452 ks_3 ⟨_, x_cd hK k_453⟩ q_AL_grow1 rfl rfl d_AL_grow0D_7) (fun a2 Y3 L4 I5 k6 n6 H locs h hw hb9 => ?_) (fun _ _ _ _ _ _ _ _ h9 => h9.elim)
  replace hbd := hbd.tr hb9
  try dsimp only at h
  exact x_aret hx hb hr (Or.inr ⟨_, rfl⟩) hlk hw (Or.inl ⟨_, rfl, h⟩) hbd d_AL_grow0D_10
def yw_AL_grow0E (g : x_G) (Q : Nat → x_Y → x_L → x_I → Nat → Nat → Prop) (X : Nat → x_Y → x_L → x_I → Nat → Nat → Prop) (a0 : Nat) (Y : x_Y) (L : x_L) (I : x_I) (k n : Nat) : Prop :=
  (x_ok Y 2 0 ∧ x_ad Y 2 0 = a0) ∧
  (x_ok Y 2 0 ∧ x_ad Y 2 0 = a0) ∧
  yw_AL_grow1E g (fun a2 Y3 L4 I5 k6 n6 =>
    Q a2 Y3 L4 I5 k6 n6) x_ynx a0 ((I 2 0 1) + (1 : Int32)) Y L I k n
set_option maxRecDepth 100000 in
set_option maxHeartbeats 4000000 in
theorem yc_AL_grow0E {l : Launch} {g : x_G} {Q : Nat → x_Y → x_L → x_I → Nat → Nat → Prop} {X : Nat → x_Y → x_L → x_I → Nat → Nat → Prop} {a0 : Nat} {Y : x_Y} {L : x_L} {I : x_I} {k n : Nat} (h : yw_AL_grow0E g Q X a0 Y L I k n) : x_C l y_AL_grow0 5 g [.ref a0] Y L I k n (x_yA Q X) := by
  refine x_mth k_449 ?_
  intro p e R s m below meth c hE hnm hexn hw hk1 hn1
  obtain ⟨hx, hb, hml, hr, hlk, hown, hK, htr, hF, hLo, hRc, hRs⟩ := id hE
  have hbd : x_bd k n k n := ⟨Nat.le_refl _, hk1, Nat.le_refl _, hn1⟩
  have hl := lv_entry ([.ref a0]) (n := 1) (Nat.le_of_ble_eq_true rfl)
  generalize (lg_sl [.ref a0] ++ List.replicate (1 - (lg_sl [.ref a0]).length) Slot.unset).toArray = ls at hl ⊢
  have hl : lv_has ls 1 [(0, .ref a0)] := hl
  generalize s.heap = H at hw ⊢
  generalize ([] : List Loc) = locs at hw ⊢
  unfold yw_AL_grow0E at h
  refine lv_aload_n hx hb d_AL_grow0E_0 rfl (lv_at hl 0 rfl) ?_
  refine lv_aload_n hx hb d_AL_grow0E_1 rfl (lv_at hl 0 rfl) ?_
  refine x_gI1 (t := 2) (i := 0) (j := 1) hx hb hK hw hown h.1 rfl (by decide) (by decide) (x_wd hK k_59 rfl) (fun _ h => h) fk_2_1 d_AL_grow0E_2 ?_
  replace h := h.2
  refine lv_iconst (v := 1) hx hb d_AL_grow0E_5 (by decide) ?_
  refine lv_iadd hx hb d_AL_grow0E_6 ?_
  have o9 := h.1
  replace h := h.2
  refine x_ygA (ls := ls) (rest := []) hE hw (yc_AL_grow1E h) (x_cd hK k_453) q_AL_grow1 (by decide) (by decide) hl.1 (Nat.le_of_ble_eq_true rfl) hbd d_AL_grow0E_7 (x_toV (As := [.int ((I 2 0 1) + (1 : Int32))]) (b := a0) hx hb hown hK (x_recv1 (c0 := 2) hK hw o9 rfl (by decide)) k_450 k_452 ks_3 ⟨_, x_cd hK k_453⟩ q_AL_grow1 rfl rfl d_AL_grow0E_7) (fun a2 Y3 L4 I5 k6 n6 H locs h hw hb9 => ?_) (fun _ _ _ _ _ _ _ _ h9 => h9.elim)
  replace hbd := hbd.tr hb9
  try dsimp only at h
  exact x_aret hx hb hr (Or.inr ⟨_, rfl⟩) hlk hw (Or.inl ⟨_, rfl, h⟩) hbd d_AL_grow0E_10
def yw_AL_add3D (g : x_G) (Q : x_Y → x_L → x_I → Nat → Nat → Prop) (X : Nat → x_Y → x_L → x_I → Nat → Nat → Prop) (a : Nat) (a0 : Nat) (a1 : Nat) (p3 : Int32) (Y : x_Y) (L : x_L) (I : x_I) (k n : Nat) : Prop :=
  ((¬ p3 = (0 : Int32) →
    False) ∧
  (p3 = (0 : Int32) →
    (x_ok Y 2 0 ∧ x_ad Y 2 0 = a0) ∧
    yw_AL_grow0D g (fun a3 Y4 L5 I6 k7 n7 =>
      (((x_ok Y4 3 0 ∧ x_ad Y4 3 0 = a3) ∧ (x_ok Y4 23 a ∧ x_ad Y4 23 a = a1)) ∧ vp_in p3 (x_n Y4 3 0)) ∧
      ∀ Y8 : x_Y, Y8 = x_yr Y4 3 0 p3.toNatClampNeg (some a1) →
      (x_ok Y8 2 0 ∧ x_ad Y8 2 0 = a0) ∧
      ∀ I9 : x_I, I9 = x_u I6 2 0 1 (p3 + (1 : Int32)) →
      Q Y8 L5 I9 k7 n7) x_ynx a0 Y L I k n))
set_option maxRecDepth 100000 in
set_option maxHeartbeats 4000000 in
theorem yc_AL_add3D {l : Launch} {g : x_G} {Q : x_Y → x_L → x_I → Nat → Nat → Prop} {X : Nat → x_Y → x_L → x_I → Nat → Nat → Prop} {a : Nat} {a0 : Nat} {a1 : Nat} {p3 : Int32} {Y : x_Y} {L : x_L} {I : x_I} {k n : Nat} (h : yw_AL_add3D g Q X a a0 a1 p3 Y L I k n) : x_C l y_AL_add3 4 g [.ref a0, .ref a1, .ref (g.2.2.2.2 30), .int p3] Y L I k n (x_yV Q X) := by
  refine x_mth k_445 ?_
  intro p e R s m below meth c hE hnm hexn hw hk1 hn1
  obtain ⟨hx, hb, hml, hr, hlk, hown, hK, htr, hF, hLo, hRc, hRs⟩ := id hE
  have hbd : x_bd k n k n := ⟨Nat.le_refl _, hk1, Nat.le_refl _, hn1⟩
  have hl := lv_entry ([.ref a0, .ref a1, .ref (g.2.2.2.2 30), .int p3]) (n := 4) (Nat.le_of_ble_eq_true rfl)
  generalize (lg_sl [.ref a0, .ref a1, .ref (g.2.2.2.2 30), .int p3] ++ List.replicate (4 - (lg_sl [.ref a0, .ref a1, .ref (g.2.2.2.2 30), .int p3]).length) Slot.unset).toArray = ls at hl ⊢
  have hl : lv_has ls 4 [(0, .ref a0), (1, .ref a1), (2, .ref (g.2.2.2.2 30)), (3, .int p3)] := hl
  generalize s.heap = H at hw ⊢
  generalize ([] : List Loc) = locs at hw ⊢
  unfold yw_AL_add3D at h
  refine lv_iload_n hx hb d_AL_add3D_0 rfl (lv_at hl 3 rfl) ?_
  refine lv_aload_n hx hb d_AL_add3D_1 rfl (lv_at hl 2 rfl) ?_
  refine x_alenD hx hb hK hw d_AL_add3D_2 ?_
  refine lv_icmp_ne (tgt := 11) hx hb d_AL_add3D_3 (by decide) (fun c1 => ?_) (fun c1 => ?_)
  · replace h := h.1 c1
    exact h.elim
  · replace h := h.2 c1
    refine lv_aload_n hx hb d_AL_add3D_6 rfl (lv_at hl 0 rfl) ?_
    have o9 := h.1
    replace h := h.2
    refine x_ygA (ls := ls) (rest := []) hE hw (yc_AL_grow0D h) (x_cd hK k_449) q_AL_grow0 (by decide) (by decide) hl.1 (Nat.le_of_ble_eq_true rfl) hbd d_AL_add3D_7 (x_toV (As := []) (b := a0) hx hb hown hK (x_recv1 (c0 := 2) hK hw o9 rfl (by decide)) k_446 k_448 ks_2 ⟨_, x_cd hK k_449⟩ q_AL_grow0 rfl rfl d_AL_add3D_7) (fun a3 Y4 L5 I6 k7 n7 H locs h hw hb9 => ?_) (fun _ _ _ _ _ _ _ _ h9 => h9.elim)
    replace hbd := hbd.tr hb9
    try dsimp only at h
    refine lv_astore_n (lv' := [(2, .ref a3), (0, .ref a0), (1, .ref a1), (3, .int p3)]) hx hb d_AL_add3D_10 rfl hl (by decide) rfl (fun ls hl => ?_)
    refine lv_aload_n hx hb d_AL_add3D_11 rfl (lv_at hl 0 rfl) ?_
    refine lv_iload_n hx hb d_AL_add3D_12 rfl (lv_at hl 3 rfl) ?_
    refine lv_aload_n hx hb d_AL_add3D_13 rfl (lv_at hl 2 rfl) ?_
    refine x_aast (t := 3) (i := 0) (t1 := 23) (i1 := a) hx hb hK hw ⟨h.1.1.1, rfl⟩ h.1.1.2 rfl (by decide) rfl rfl (by decide) (x_wdC hK k_1050) h.1.2 d_AL_add3D_14 (fun Y8 H locs e_Y8 hw => ?_)
    replace h := h.2 Y8 e_Y8
    refine lv_aload_n hx hb d_AL_add3D_15 rfl (lv_at hl 1 rfl) ?_
    refine lv_iload_n hx hb d_AL_add3D_16 rfl (lv_at hl 3 rfl) ?_
    refine lv_iconst (v := 1) hx hb d_AL_add3D_17 (by decide) ?_
    refine lv_iadd hx hb d_AL_add3D_18 ?_
    refine x_pI1 (t := 2) (i := 0) (j := 1) hx hb hK hw hown h.1 rfl (by decide) (by decide) (x_wd hK k_59 rfl) (fun _ h => h) rfl rfl d_AL_add3D_19 (fun I9 H locs e_I9 hw => ?_)
    replace h := h.2 I9 e_I9
    exact x_vret hx hb hr hlk hw (Or.inl ⟨rfl, h⟩) hbd d_AL_add3D_22
def yw_AL_add3E (g : x_G) (Q : x_Y → x_L → x_I → Nat → Nat → Prop) (X : Nat → x_Y → x_L → x_I → Nat → Nat → Prop) (a : Nat) (a0 : Nat) (a1 : Nat) (a2 : Nat) (p3 : Int32) (Y : x_Y) (L : x_L) (I : x_I) (k n : Nat) : Prop :=
  (x_ok Y 3 0 ∧ x_ad Y 3 0 = a2) ∧
  ((¬ p3 = (nI (x_n Y 3 0)) →
    (((x_ok Y 3 0 ∧ x_ad Y 3 0 = a2) ∧ (x_ok Y 23 a ∧ x_ad Y 23 a = a1)) ∧ vp_in p3 (x_n Y 3 0)) ∧
    ∀ Y2 : x_Y, Y2 = x_yr Y 3 0 p3.toNatClampNeg (some a1) →
    (x_ok Y2 2 0 ∧ x_ad Y2 2 0 = a0) ∧
    ∀ I3 : x_I, I3 = x_u I 2 0 1 (p3 + (1 : Int32)) →
    Q Y2 L I3 k n) ∧
  (p3 = (nI (x_n Y 3 0)) →
    (x_ok Y 2 0 ∧ x_ad Y 2 0 = a0) ∧
    yw_AL_grow0E g (fun a5 Y6 L7 I8 k9 n9 =>
      (((x_ok Y6 3 1 ∧ x_ad Y6 3 1 = a5) ∧ (x_ok Y6 23 a ∧ x_ad Y6 23 a = a1)) ∧ vp_in p3 (x_n Y6 3 1)) ∧
      ∀ Y10 : x_Y, Y10 = x_yr Y6 3 1 p3.toNatClampNeg (some a1) →
      (x_ok Y10 2 0 ∧ x_ad Y10 2 0 = a0) ∧
      ∀ I11 : x_I, I11 = x_u I8 2 0 1 (p3 + (1 : Int32)) →
      Q Y10 L7 I11 k9 n9) x_ynx a0 Y L I k n))
set_option maxRecDepth 100000 in
set_option maxHeartbeats 4000000 in
theorem yc_AL_add3E {l : Launch} {g : x_G} {Q : x_Y → x_L → x_I → Nat → Nat → Prop} {X : Nat → x_Y → x_L → x_I → Nat → Nat → Prop} {a : Nat} {a0 : Nat} {a1 : Nat} {a2 : Nat} {p3 : Int32} {Y : x_Y} {L : x_L} {I : x_I} {k n : Nat} (h : yw_AL_add3E g Q X a a0 a1 a2 p3 Y L I k n) : x_C l y_AL_add3 6 g [.ref a0, .ref a1, .ref a2, .int p3] Y L I k n (x_yV Q X) := by
  refine x_mth k_445 ?_
  intro p e R s m below meth c hE hnm hexn hw hk1 hn1
  obtain ⟨hx, hb, hml, hr, hlk, hown, hK, htr, hF, hLo, hRc, hRs⟩ := id hE
  have hbd : x_bd k n k n := ⟨Nat.le_refl _, hk1, Nat.le_refl _, hn1⟩
  have hl := lv_entry ([.ref a0, .ref a1, .ref a2, .int p3]) (n := 4) (Nat.le_of_ble_eq_true rfl)
  generalize (lg_sl [.ref a0, .ref a1, .ref a2, .int p3] ++ List.replicate (4 - (lg_sl [.ref a0, .ref a1, .ref a2, .int p3]).length) Slot.unset).toArray = ls at hl ⊢
  have hl : lv_has ls 4 [(0, .ref a0), (1, .ref a1), (2, .ref a2), (3, .int p3)] := hl
  generalize s.heap = H at hw ⊢
  generalize ([] : List Loc) = locs at hw ⊢
  unfold yw_AL_add3E at h
  refine lv_iload_n hx hb d_AL_add3E_0 rfl (lv_at hl 3 rfl) ?_
  refine lv_aload_n hx hb d_AL_add3E_1 rfl (lv_at hl 2 rfl) ?_
  refine x_alen1 (t := 3) (i := 0) hx hb hK hw ⟨h.1, rfl⟩ rfl (by decide) d_AL_add3E_2 ?_
  replace h := h.2
  refine lv_icmp_ne (tgt := 11) hx hb d_AL_add3E_3 (by decide) (fun c1 => ?_) (fun c1 => ?_)
  · replace h := h.1 c1
    refine lv_aload_n hx hb d_AL_add3E_11 rfl (lv_at hl 2 rfl) ?_
    refine lv_iload_n hx hb d_AL_add3E_12 rfl (lv_at hl 3 rfl) ?_
    refine lv_aload_n hx hb d_AL_add3E_13 rfl (lv_at hl 1 rfl) ?_
    refine x_aast (t := 3) (i := 0) (t1 := 23) (i1 := a) hx hb hK hw ⟨h.1.1.1, rfl⟩ h.1.1.2 rfl (by decide) rfl rfl (by decide) (x_wdC hK k_1050) h.1.2 d_AL_add3E_14 (fun Y2 H locs e_Y2 hw => ?_)
    replace h := h.2 Y2 e_Y2
    refine lv_aload_n hx hb d_AL_add3E_15 rfl (lv_at hl 0 rfl) ?_
    refine lv_iload_n hx hb d_AL_add3E_16 rfl (lv_at hl 3 rfl) ?_
    refine lv_iconst (v := 1) hx hb d_AL_add3E_17 (by decide) ?_
    refine lv_iadd hx hb d_AL_add3E_18 ?_
    refine x_pI1 (t := 2) (i := 0) (j := 1) hx hb hK hw hown h.1 rfl (by decide) (by decide) (x_wd hK k_59 rfl) (fun _ h => h) rfl rfl d_AL_add3E_19 (fun I3 H locs e_I3 hw => ?_)
    replace h := h.2 I3 e_I3
    exact x_vret hx hb hr hlk hw (Or.inl ⟨rfl, h⟩) hbd d_AL_add3E_22
  · replace h := h.2 c1
    refine lv_aload_n hx hb d_AL_add3E_6 rfl (lv_at hl 0 rfl) ?_
    have o9 := h.1
    replace h := h.2
    refine x_ygA (ls := ls) (rest := []) hE hw (yc_AL_grow0E h) (x_cd hK k_449) q_AL_grow0 (by decide) (by decide) hl.1 (Nat.le_of_ble_eq_true rfl) hbd d_AL_add3E_7 (x_toV (As := []) (b := a0) hx hb hown hK (x_recv1 (c0 := 2) hK hw o9 rfl (by decide)) k_446 k_448 ks_2 ⟨_, x_cd hK k_449⟩ q_AL_grow0 rfl rfl d_AL_add3E_7) (fun a5 Y6 L7 I8 k9 n9 H locs h hw hb9 => ?_) (fun _ _ _ _ _ _ _ _ h9 => h9.elim)
    replace hbd := hbd.tr hb9
    try dsimp only at h
    refine lv_astore_n (lv' := [(2, .ref a5), (0, .ref a0), (1, .ref a1), (3, .int p3)]) hx hb d_AL_add3E_10 rfl hl (by decide) rfl (fun ls hl => ?_)
    refine lv_aload_n hx hb d_AL_add3E_11 rfl (lv_at hl 0 rfl) ?_
    refine lv_iload_n hx hb d_AL_add3E_12 rfl (lv_at hl 3 rfl) ?_
    refine lv_aload_n hx hb d_AL_add3E_13 rfl (lv_at hl 2 rfl) ?_
    refine x_aast (t := 3) (i := 1) (t1 := 23) (i1 := a) hx hb hK hw ⟨h.1.1.1, rfl⟩ h.1.1.2 rfl (by decide) rfl rfl (by decide) (x_wdC hK k_1050) h.1.2 d_AL_add3E_14 (fun Y10 H locs e_Y10 hw => ?_)
    replace h := h.2 Y10 e_Y10
    refine lv_aload_n hx hb d_AL_add3E_15 rfl (lv_at hl 1 rfl) ?_
    refine lv_iload_n hx hb d_AL_add3E_16 rfl (lv_at hl 3 rfl) ?_
    refine lv_iconst (v := 1) hx hb d_AL_add3E_17 (by decide) ?_
    refine lv_iadd hx hb d_AL_add3E_18 ?_
    refine x_pI1 (t := 2) (i := 0) (j := 1) hx hb hK hw hown h.1 rfl (by decide) (by decide) (x_wd hK k_59 rfl) (fun _ h => h) rfl rfl d_AL_add3E_19 (fun I11 H locs e_I11 hw => ?_)
    replace h := h.2 I11 e_I11
    exact x_vret hx hb hr hlk hw (Or.inl ⟨rfl, h⟩) hbd d_AL_add3E_22
def yw_AL_add1D (g : x_G) (Q : Int32 → x_Y → x_L → x_I → Nat → Nat → Prop) (X : Nat → x_Y → x_L → x_I → Nat → Nat → Prop) (a : Nat) (a0 : Nat) (a1 : Nat) (Y : x_Y) (L : x_L) (I : x_I) (k n : Nat) : Prop :=
  (x_ok Y 2 0 ∧ x_ad Y 2 0 = a0) ∧
  (x_ok Y 2 0 ∧ x_ad Y 2 0 = a0) ∧
  ∀ I1 : x_I, I1 = x_u I 2 0 2 ((I 2 0 2) + (1 : Int32)) →
  ((x_ok Y 2 0 ∧ x_ad Y 2 0 = a0) ∧ x_r Y 2 0 0 = some (g.2.2.2.2 30)) ∧
  (x_ok Y 2 0 ∧ x_ad Y 2 0 = a0) ∧
  (x_ok Y 2 0 ∧ x_ad Y 2 0 = a0) ∧
  yw_AL_add3D g (fun Y4 L5 I6 k7 n7 =>
    Q (1 : Int32) Y4 L5 I6 k7 n7) x_ynx a a0 a1 (I1 2 0 1) Y L I1 k n
set_option maxRecDepth 100000 in
set_option maxHeartbeats 4000000 in
theorem yc_AL_add1D {l : Launch} {g : x_G} {Q : Int32 → x_Y → x_L → x_I → Nat → Nat → Prop} {X : Nat → x_Y → x_L → x_I → Nat → Nat → Prop} {a : Nat} {a0 : Nat} {a1 : Nat} {Y : x_Y} {L : x_L} {I : x_I} {k n : Nat} (h : yw_AL_add1D g Q X a a0 a1 Y L I k n) : x_C l y_AL_add1 5 g [.ref a0, .ref a1] Y L I k n (x_yI Q X) := by
  refine x_mth k_441 ?_
  intro p e R s m below meth c hE hnm hexn hw hk1 hn1
  obtain ⟨hx, hb, hml, hr, hlk, hown, hK, htr, hF, hLo, hRc, hRs⟩ := id hE
  have hbd : x_bd k n k n := ⟨Nat.le_refl _, hk1, Nat.le_refl _, hn1⟩
  have hl := lv_entry ([.ref a0, .ref a1]) (n := 2) (Nat.le_of_ble_eq_true rfl)
  generalize (lg_sl [.ref a0, .ref a1] ++ List.replicate (2 - (lg_sl [.ref a0, .ref a1]).length) Slot.unset).toArray = ls at hl ⊢
  have hl : lv_has ls 2 [(0, .ref a0), (1, .ref a1)] := hl
  generalize s.heap = H at hw ⊢
  generalize ([] : List Loc) = locs at hw ⊢
  unfold yw_AL_add1D at h
  refine lv_aload_n hx hb d_AL_add1D_0 rfl (lv_at hl 0 rfl) ?_
  refine lv_dup hx hb d_AL_add1D_1 rfl ?_
  refine x_gI1 (t := 2) (i := 0) (j := 2) hx hb hK hw hown h.1 rfl (by decide) (by decide) (x_wd hK k_63 rfl) (fun _ h9 => x_sf hK h9) fk_2_2 d_AL_add1D_2 ?_
  replace h := h.2
  refine lv_iconst (v := 1) hx hb d_AL_add1D_5 (by decide) ?_
  refine lv_iadd hx hb d_AL_add1D_6 ?_
  refine x_pI1 (t := 2) (i := 0) (j := 2) hx hb hK hw hown h.1 rfl (by decide) (by decide) (x_wd hK k_63 rfl) (fun _ h9 => x_sf hK h9) rfl rfl d_AL_add1D_7 (fun I1 H locs e_I1 hw => ?_)
  replace h := h.2 I1 e_I1
  refine lv_aload_n hx hb d_AL_add1D_10 rfl (lv_at hl 0 rfl) ?_
  refine lv_aload_n hx hb d_AL_add1D_11 rfl (lv_at hl 1 rfl) ?_
  refine lv_aload_n hx hb d_AL_add1D_12 rfl (lv_at hl 0 rfl) ?_
  refine x_gR1 (t := 2) (i := 0) (j := 0) hx hb hK hw hown h.1 rfl (by decide) (by decide) (x_wd hK k_56 rfl) (fun _ h => h) fk_2_0 d_AL_add1D_13 ?_
  replace h := h.2
  refine lv_aload_n hx hb d_AL_add1D_16 rfl (lv_at hl 0 rfl) ?_
  refine x_gI1 (t := 2) (i := 0) (j := 1) hx hb hK hw hown h.1 rfl (by decide) (by decide) (x_wd hK k_59 rfl) (fun _ h => h) fk_2_1 d_AL_add1D_17 ?_
  replace h := h.2
  have o9 := h.1
  replace h := h.2
  refine x_ygV (ls := ls) (rest := []) hE hw (yc_AL_add3D h) (x_cd hK k_445) q_AL_add3 (by decide) (by decide) hl.1 (Nat.le_of_ble_eq_true rfl) hbd d_AL_add1D_20 (x_toV (As := [.ref a1, .ref (g.2.2.2.2 30), .int (I1 2 0 1)]) (b := a0) hx hb hown hK (x_recv1 (c0 := 2) hK hw o9 rfl (by decide)) k_442 k_444 ks_1 ⟨_, x_cd hK k_445⟩ q_AL_add3 rfl rfl d_AL_add1D_20) (fun Y4 L5 I6 k7 n7 H locs h hw hb9 => ?_) (fun _ _ _ _ _ _ _ _ h9 => h9.elim)
  replace hbd := hbd.tr hb9
  try dsimp only at h
  refine lv_iconst (v := 1) hx hb d_AL_add1D_23 (by decide) ?_
  exact x_zret hx hb hr hlk hw (Or.inr rfl) (Or.inl ⟨_, rfl, h⟩) hbd d_AL_add1D_24
def yw_AL_add1E (g : x_G) (Q : Int32 → x_Y → x_L → x_I → Nat → Nat → Prop) (X : Nat → x_Y → x_L → x_I → Nat → Nat → Prop) (a : Nat) (a0 : Nat) (a1 : Nat) (Y : x_Y) (L : x_L) (I : x_I) (k n : Nat) : Prop :=
  (x_ok Y 2 0 ∧ x_ad Y 2 0 = a0) ∧
  (x_ok Y 2 0 ∧ x_ad Y 2 0 = a0) ∧
  ∀ I1 : x_I, I1 = x_u I 2 0 2 ((I 2 0 2) + (1 : Int32)) →
  ((x_ok Y 2 0 ∧ x_ad Y 2 0 = a0) ∧ x_r Y 2 0 0 = some (x_ad Y 3 0)) ∧
  (x_ok Y 2 0 ∧ x_ad Y 2 0 = a0) ∧
  (x_ok Y 2 0 ∧ x_ad Y 2 0 = a0) ∧
  yw_AL_add3E g (fun Y4 L5 I6 k7 n7 =>
    Q (1 : Int32) Y4 L5 I6 k7 n7) x_ynx a a0 a1 (x_ad Y 3 0) (I1 2 0 1) Y L I1 k n
set_option maxRecDepth 100000 in
set_option maxHeartbeats 4000000 in
theorem yc_AL_add1E {l : Launch} {g : x_G} {Q : Int32 → x_Y → x_L → x_I → Nat → Nat → Prop} {X : Nat → x_Y → x_L → x_I → Nat → Nat → Prop} {a : Nat} {a0 : Nat} {a1 : Nat} {Y : x_Y} {L : x_L} {I : x_I} {k n : Nat} (h : yw_AL_add1E g Q X a a0 a1 Y L I k n) : x_C l y_AL_add1 7 g [.ref a0, .ref a1] Y L I k n (x_yI Q X) := by
  refine x_mth k_441 ?_
  intro p e R s m below meth c hE hnm hexn hw hk1 hn1
  obtain ⟨hx, hb, hml, hr, hlk, hown, hK, htr, hF, hLo, hRc, hRs⟩ := id hE
  have hbd : x_bd k n k n := ⟨Nat.le_refl _, hk1, Nat.le_refl _, hn1⟩
  have hl := lv_entry ([.ref a0, .ref a1]) (n := 2) (Nat.le_of_ble_eq_true rfl)
  generalize (lg_sl [.ref a0, .ref a1] ++ List.replicate (2 - (lg_sl [.ref a0, .ref a1]).length) Slot.unset).toArray = ls at hl ⊢
  have hl : lv_has ls 2 [(0, .ref a0), (1, .ref a1)] := hl
  generalize s.heap = H at hw ⊢
  generalize ([] : List Loc) = locs at hw ⊢
  unfold yw_AL_add1E at h
  refine lv_aload_n hx hb d_AL_add1E_0 rfl (lv_at hl 0 rfl) ?_
  refine lv_dup hx hb d_AL_add1E_1 rfl ?_
  refine x_gI1 (t := 2) (i := 0) (j := 2) hx hb hK hw hown h.1 rfl (by decide) (by decide) (x_wd hK k_63 rfl) (fun _ h9 => x_sf hK h9) fk_2_2 d_AL_add1E_2 ?_
  replace h := h.2
  refine lv_iconst (v := 1) hx hb d_AL_add1E_5 (by decide) ?_
  refine lv_iadd hx hb d_AL_add1E_6 ?_
  refine x_pI1 (t := 2) (i := 0) (j := 2) hx hb hK hw hown h.1 rfl (by decide) (by decide) (x_wd hK k_63 rfl) (fun _ h9 => x_sf hK h9) rfl rfl d_AL_add1E_7 (fun I1 H locs e_I1 hw => ?_)
  replace h := h.2 I1 e_I1
  refine lv_aload_n hx hb d_AL_add1E_10 rfl (lv_at hl 0 rfl) ?_
  refine lv_aload_n hx hb d_AL_add1E_11 rfl (lv_at hl 1 rfl) ?_
  refine lv_aload_n hx hb d_AL_add1E_12 rfl (lv_at hl 0 rfl) ?_
  refine x_gR1 (t := 2) (i := 0) (j := 0) hx hb hK hw hown h.1 rfl (by decide) (by decide) (x_wd hK k_56 rfl) (fun _ h => h) fk_2_0 d_AL_add1E_13 ?_
  replace h := h.2
  refine lv_aload_n hx hb d_AL_add1E_16 rfl (lv_at hl 0 rfl) ?_
  refine x_gI1 (t := 2) (i := 0) (j := 1) hx hb hK hw hown h.1 rfl (by decide) (by decide) (x_wd hK k_59 rfl) (fun _ h => h) fk_2_1 d_AL_add1E_17 ?_
  replace h := h.2
  have o9 := h.1
  replace h := h.2
  refine x_ygV (ls := ls) (rest := []) hE hw (yc_AL_add3E h) (x_cd hK k_445) q_AL_add3 (by decide) (by decide) hl.1 (Nat.le_of_ble_eq_true rfl) hbd d_AL_add1E_20 (x_toV (As := [.ref a1, .ref (x_ad Y 3 0), .int (I1 2 0 1)]) (b := a0) hx hb hown hK (x_recv1 (c0 := 2) hK hw o9 rfl (by decide)) k_442 k_444 ks_1 ⟨_, x_cd hK k_445⟩ q_AL_add3 rfl rfl d_AL_add1E_20) (fun Y4 L5 I6 k7 n7 H locs h hw hb9 => ?_) (fun _ _ _ _ _ _ _ _ h9 => h9.elim)
  replace hbd := hbd.tr hb9
  try dsimp only at h
  refine lv_iconst (v := 1) hx hb d_AL_add1E_23 (by decide) ?_
  exact x_zret hx hb hr hlk hw (Or.inr rfl) (Or.inl ⟨_, rfl, h⟩) hbd d_AL_add1E_24
