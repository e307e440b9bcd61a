def yw_AbstractCollection_init (g : x_G) (Q : x_Y → x_L → x_I → Nat → Nat → Prop) (X : Nat → x_Y → x_L → x_I → Nat → Nat → Prop) (a0 : Nat) (Y : x_Y) (L : x_L) (I : x_I) (k n : Nat) : Prop :=
  Q Y L I k n
set_option maxRecDepth 100000 in
set_option maxHeartbeats 4000000 in
theorem yc_AbstractCollection_init {l : Launch} {g : x_G} {Q : x_Y → x_L → x_I → Nat → Nat → Prop} {X : Nat → x_Y → x_L → x_I → Nat → Nat → Prop} {a0 : Nat} {Y : x_Y} {L : x_L} {I : x_I} {k n : Nat} (h : yw_AbstractCollection_init g Q X a0 Y L I k n) : x_C l y_AbstractCollection_init 1 g [.ref a0] Y L I k n (x_yV Q X) := by
  refine x_mth k_52 ?_
  intro p e R s m below meth c hE hnm hexn hw hk1 hn1
  obtain ⟨hx, hb, hml, hr, hlk, hown, hK, htr, hF, hLo, hRc, hRs⟩ := id hE
  have hbd : x_bd k n k n := ⟨Nat.le_refl _, hk1, Nat.le_refl _, hn1⟩
  have hl := lv_entry ([.ref a0]) (n := 1) (Nat.le_of_ble_eq_true rfl)
  generalize (lg_sl [.ref a0] ++ List.replicate (1 - (lg_sl [.ref a0]).length) Slot.unset).toArray = ls at hl ⊢
  have hl : lv_has ls 1 [(0, .ref a0)] := hl
  generalize s.heap = H at hw ⊢
  generalize ([] : List Loc) = locs at hw ⊢
  unfold yw_AbstractCollection_init at h
  refine lv_aload_n hx hb d_AbstractCollection_init_0 rfl (lv_at hl 0 rfl) ?_
  refine x_objI (rest := []) hE hl.1 k_53 k_34 k_35 (by decide) (Nat.le_of_ble_eq_true rfl) d_AbstractCollection_init_1 ?_
  exact x_vret hx hb hr hlk hw (Or.inl ⟨rfl, h⟩) hbd d_AbstractCollection_init_4
def yw_AbstractList_init (g : x_G) (Q : x_Y → x_L → x_I → Nat → Nat → Prop) (X : Nat → x_Y → x_L → x_I → Nat → Nat → Prop) (a0 : Nat) (Y : x_Y) (L : x_L) (I : x_I) (k n : Nat) : Prop :=
  yw_AbstractCollection_init g (fun Y3 L4 I5 k6 n6 =>
    (x_ok Y3 2 0 ∧ x_ad Y3 2 0 = a0) ∧
    ∀ I7 : x_I, I7 = x_u I5 2 0 2 (0 : Int32) →
    Q Y3 L4 I7 k6 n6) x_ynx a0 Y L I k n
set_option maxRecDepth 100000 in
set_option maxHeartbeats 4000000 in
theorem yc_AbstractList_init {l : Launch} {g : x_G} {Q : x_Y → x_L → x_I → Nat → Nat → Prop} {X : Nat → x_Y → x_L → x_I → Nat → Nat → Prop} {a0 : Nat} {Y : x_Y} {L : x_L} {I : x_I} {k n : Nat} (h : yw_AbstractList_init g Q X a0 Y L I k n) : x_C l y_AbstractList_init 2 g [.ref a0] Y L I k n (x_yV Q X) := by
  refine x_mth k_49 ?_
  intro p e R s m below meth c hE hnm hexn hw hk1 hn1
  obtain ⟨hx, hb, hml, hr, hlk, hown, hK, htr, hF, hLo, hRc, hRs⟩ := id hE
  have hbd : x_bd k n k n := ⟨Nat.le_refl _, hk1, Nat.le_refl _, hn1⟩
  have hl := lv_entry ([.ref a0]) (n := 1) (Nat.le_of_ble_eq_true rfl)
  generalize (lg_sl [.ref a0] ++ List.replicate (1 - (lg_sl [.ref a0]).length) Slot.unset).toArray = ls at hl ⊢
  have hl : lv_has ls 1 [(0, .ref a0)] := hl
  generalize s.heap = H at hw ⊢
  generalize ([] : List Loc) = locs at hw ⊢
  unfold yw_AbstractList_init at h
  refine lv_aload_n hx hb d_AbstractList_init_0 rfl (lv_at hl 0 rfl) ?_
  refine x_ygV (ls := ls) (rest := []) hE hw (yc_AbstractCollection_init h) (x_cd hK k_52) q_AbstractCollection_init (by decide) (by decide) hl.1 (Nat.le_of_ble_eq_true rfl) hbd d_AbstractList_init_1 (x_toI (As := []) (b := a0) hx hb hown hK rfl k_50 k_51 k_52 q_AbstractCollection_init rfl rfl d_AbstractList_init_1) (fun Y3 L4 I5 k6 n6 H locs h hw hb9 => ?_) (fun _ _ _ _ _ _ _ _ h9 => h9.elim)
  replace hbd := hbd.tr hb9
  try dsimp only at h
  refine lv_aload_n hx hb d_AbstractList_init_4 rfl (lv_at hl 0 rfl) ?_
  refine lv_iconst (v := 0) hx hb d_AbstractList_init_5 (by decide) ?_
  refine x_pI1 (t := 2) (i := 0) (j := 2) hx hb hK hw hown h.1 rfl (by decide) (by decide) (x_wd hK k_60 rfl) (fun _ h => h) rfl rfl d_AbstractList_init_6 (fun I7 H locs e_I7 hw => ?_)
  replace h := h.2 I7 e_I7
  exact x_vret hx hb hr hlk hw (Or.inl ⟨rfl, h⟩) hbd d_AbstractList_init_9
def yw_AL_init (g : x_G) (Q : x_Y → x_L → x_I → Nat → Nat → Prop) (X : Nat → x_Y → x_L → x_I → Nat → Nat → Prop) (a0 : Nat) (Y : x_Y) (L : x_L) (I : x_I) (k n : Nat) : Prop :=
  yw_AbstractList_init g (fun Y3 L4 I5 k6 n6 =>
    (x_ok Y3 2 0 ∧ x_ad Y3 2 0 = a0) ∧
    ∀ Y7 : x_Y, Y7 = x_yr Y3 2 0 0 (some (g.2.2.2.2 30)) →
    Q Y7 L4 I5 k6 n6) x_ynx a0 Y L I k n
set_option maxRecDepth 100000 in
set_option maxHeartbeats 4000000 in
theorem yc_AL_init {l : Launch} {g : x_G} {Q : x_Y → x_L → x_I → Nat → Nat → Prop} {X : Nat → x_Y → x_L → x_I → Nat → Nat → Prop} {a0 : Nat} {Y : x_Y} {L : x_L} {I : x_I} {k n : Nat} (h : yw_AL_init g Q X a0 Y L I k n) : x_C l y_AL_init 3 g [.ref a0] Y L I k n (x_yV Q X) := by
  refine x_mth k_46 ?_
  intro p e R s m below meth c hE hnm hexn hw hk1 hn1
  obtain ⟨hx, hb, hml, hr, hlk, hown, hK, htr, hF, hLo, hRc, hRs⟩ := id hE
  have hbd : x_bd k n k n := ⟨Nat.le_refl _, hk1, Nat.le_refl _, hn1⟩
  have hl := lv_entry ([.ref a0]) (n := 1) (Nat.le_of_ble_eq_true rfl)
  generalize (lg_sl [.ref a0] ++ List.replicate (1 - (lg_sl [.ref a0]).length) Slot.unset).toArray = ls at hl ⊢
  have hl : lv_has ls 1 [(0, .ref a0)] := hl
  generalize s.heap = H at hw ⊢
  generalize ([] : List Loc) = locs at hw ⊢
  unfold yw_AL_init at h
  refine lv_aload_n hx hb d_AL_init_0 rfl (lv_at hl 0 rfl) ?_
  refine x_ygV (ls := ls) (rest := []) hE hw (yc_AbstractList_init h) (x_cd hK k_49) q_AbstractList_init (by decide) (by decide) hl.1 (Nat.le_of_ble_eq_true rfl) hbd d_AL_init_1 (x_toI (As := []) (b := a0) hx hb hown hK rfl k_47 k_48 k_49 q_AbstractList_init rfl rfl d_AL_init_1) (fun Y3 L4 I5 k6 n6 H locs h hw hb9 => ?_) (fun _ _ _ _ _ _ _ _ h9 => h9.elim)
  replace hbd := hbd.tr hb9
  try dsimp only at h
  refine lv_aload_n hx hb d_AL_init_4 rfl (lv_at hl 0 rfl) ?_
  refine x_gsD hx hb hK hw hown (x_wd hK k_54 rfl) d_AL_init_5 ?_
  refine x_pR1 (t := 2) (i := 0) (j := 0) hx hb hK hw hown h.1 rfl (by decide) (by decide) (x_wd hK k_56 rfl) (fun _ h => h) rfl fk_2_0 d_AL_init_8 (fun Y7 H locs e_Y7 hw => ?_)
  replace h := h.2 Y7 e_Y7
  exact x_vret hx hb hr hlk hw (Or.inl ⟨rfl, h⟩) hbd d_AL_init_11
def yw_Tab_init (g : x_G) (Q : x_Y → x_L → x_I → Nat → Nat → Prop) (X : Nat → x_Y → x_L → x_I → Nat → Nat → Prop) (a0 : Nat) (Y : x_Y) (L : x_L) (I : x_I) (k n : Nat) : Prop :=
  (k + 1 ≤ 600288 ∧ n + 4096 ≤ 7292554) ∧
  ∀ (b1 k2 n2 : Nat) (Y3 : x_Y) (L4 : x_L) (I5 : x_I), Y3 = x_yn Y 5 0 b1 4096 (fun _ => none) → L4 = x_zl L 5 0 → I5 = x_zi I 5 0 → k2 = k + 1 → n2 = n + 4096 →
  (x_ok Y3 4 0 ∧ x_ad Y3 4 0 = a0) ∧
  ∀ Y6 : x_Y, Y6 = x_yr Y3 4 0 0 (some b1) →
  (k2 + 1 ≤ 600288 ∧ n2 + 4096 ≤ 7292554) ∧
  ∀ (b7 k8 n8 : Nat) (Y9 : x_Y) (L10 : x_L) (I11 : x_I), Y9 = x_yn Y6 6 0 b7 4096 (fun _ => none) → L10 = x_zl L4 6 0 → I11 = x_zi I5 6 0 → k8 = k2 + 1 → n8 = n2 + 4096 →
  (x_ok Y9 4 0 ∧ x_ad Y9 4 0 = a0) ∧
  ∀ Y12 : x_Y, Y12 = x_yr Y9 4 0 1 (some b7) →
  (k8 + 1 ≤ 600288 ∧ n8 + 4096 ≤ 7292554) ∧
  ∀ (b13 k14 n14 : Nat) (Y15 : x_Y) (L16 : x_L) (I17 : x_I), Y15 = x_yn Y12 7 0 b13 4096 (fun _ => none) → L16 = x_zl L10 7 0 → I17 = x_zi I11 7 0 → k14 = k8 + 1 → n14 = n8 + 4096 →
  (x_ok Y15 4 0 ∧ x_ad Y15 4 0 = a0) ∧
  ∀ Y18 : x_Y, Y18 = x_yr Y15 4 0 2 (some b13) →
  Q Y18 L16 I17 k14 n14
set_option maxRecDepth 100000 in
set_option maxHeartbeats 4000000 in
theorem yc_Tab_init {l : Launch} {g : x_G} {Q : x_Y → x_L → x_I → Nat → Nat → Prop} {X : Nat → x_Y → x_L → x_I → Nat → Nat → Prop} {a0 : Nat} {Y : x_Y} {L : x_L} {I : x_I} {k n : Nat} (h : yw_Tab_init g Q X a0 Y L I k n) : x_C l y_Tab_init 1 g [.ref a0] Y L I k n (x_yV Q X) := by
  refine x_mth k_75 ?_
  intro p e R s m below meth c hE hnm hexn hw hk1 hn1
  obtain ⟨hx, hb, hml, hr, hlk, hown, hK, htr, hF, hLo, hRc, hRs⟩ := id hE
  have hbd : x_bd k n k n := ⟨Nat.le_refl _, hk1, Nat.le_refl _, hn1⟩
  have hl := lv_entry ([.ref a0]) (n := 1) (Nat.le_of_ble_eq_true rfl)
  generalize (lg_sl [.ref a0] ++ List.replicate (1 - (lg_sl [.ref a0]).length) Slot.unset).toArray = ls at hl ⊢
  have hl : lv_has ls 1 [(0, .ref a0)] := hl
  generalize s.heap = H at hw ⊢
  generalize ([] : List Loc) = locs at hw ⊢
  unfold yw_Tab_init at h
  refine lv_aload_n hx hb d_Tab_init_0 rfl (lv_at hl 0 rfl) ?_
  refine x_objI (rest := []) hE hl.1 k_76 k_34 k_35 (by decide) (Nat.le_of_ble_eq_true rfl) d_Tab_init_1 ?_
  refine lv_aload_n hx hb d_Tab_init_4 rfl (lv_at hl 0 rfl) ?_
  refine lv_sipush (v := 4096) hx hb d_Tab_init_5 (by decide) ?_
  refine x_newA1 (t := 5) (i := 0) hx hb hK hw rfl (by decide) (at0 := .long) rfl k_95 (by decide) (by decide) hRc hRs hbd h.1.1 h.1.2 d_Tab_init_8 (fun b1 k2 n2 Y3 L4 I5 H q1 q2 q3 q4 q5 hw hbd => ?_)
  replace h := h.2 b1 k2 n2 Y3 L4 I5 q1 q2 q3 q4 q5
  clear q1 q2 q3 q4 q5
  refine x_pRF (t := 4) (i := 0) (j := 0) hx hb hK hw hown h.1 rfl (by decide) (by decide) (x_wd hK k_77 rfl) (fun _ h => h) rfl hnm rfl fk_3_0 d_Tab_init_10 (fun Y6 H locs e_Y6 hw => ?_)
  replace h := h.2 Y6 e_Y6
  refine lv_aload_n hx hb d_Tab_init_13 rfl (lv_at hl 0 rfl) ?_
  refine lv_sipush (v := 4096) hx hb d_Tab_init_14 (by decide) ?_
  refine x_newA1 (t := 6) (i := 0) hx hb hK hw rfl (by decide) (at0 := .int) rfl k_96 (by decide) (by decide) hRc hRs hbd h.1.1 h.1.2 d_Tab_init_17 (fun b7 k8 n8 Y9 L10 I11 H q1 q2 q3 q4 q5 hw hbd => ?_)
  replace h := h.2 b7 k8 n8 Y9 L10 I11 q1 q2 q3 q4 q5
  clear q1 q2 q3 q4 q5
  refine x_pRF (t := 4) (i := 0) (j := 1) hx hb hK hw hown h.1 rfl (by decide) (by decide) (x_wd hK k_78 rfl) (fun _ h => h) rfl hnm rfl fk_3_1 d_Tab_init_19 (fun Y12 H locs e_Y12 hw => ?_)
  replace h := h.2 Y12 e_Y12
  refine lv_aload_n hx hb d_Tab_init_22 rfl (lv_at hl 0 rfl) ?_
  refine lv_sipush (v := 4096) hx hb d_Tab_init_23 (by decide) ?_
  refine x_newA1 (t := 7) (i := 0) hx hb hK hw rfl (by decide) (at0 := .byte) rfl k_97 (by decide) (by decide) hRc hRs hbd h.1.1 h.1.2 d_Tab_init_26 (fun b13 k14 n14 Y15 L16 I17 H q1 q2 q3 q4 q5 hw hbd => ?_)
  replace h := h.2 b13 k14 n14 Y15 L16 I17 q1 q2 q3 q4 q5
  clear q1 q2 q3 q4 q5
  refine x_pRF (t := 4) (i := 0) (j := 2) hx hb hK hw hown h.1 rfl (by decide) (by decide) (x_wd hK k_79 rfl) (fun _ h => h) rfl hnm rfl fk_3_2 d_Tab_init_28 (fun Y18 H locs e_Y18 hw => ?_)
  replace h := h.2 Y18 e_Y18
  exact x_vret hx hb hr hlk hw (Or.inl ⟨rfl, h⟩) hbd d_Tab_init_31
def yw_Jou_init (g : x_G) (Q : x_Y → x_L → x_I → Nat → Nat → Prop) (X : Nat → x_Y → x_L → x_I → Nat → Nat → Prop) (a0 : Nat) (Y : x_Y) (L : x_L) (I : x_I) (k n : Nat) : Prop :=
  (k + 1 ≤ 600288 ∧ n + 2048 ≤ 7292554) ∧
  ∀ (b1 k2 n2 : Nat) (Y3 : x_Y) (L4 : x_L) (I5 : x_I), Y3 = x_yn Y 9 0 b1 2048 (fun _ => none) → L4 = x_zl L 9 0 → I5 = x_zi I 9 0 → k2 = k + 1 → n2 = n + 2048 →
  (x_ok Y3 8 0 ∧ x_ad Y3 8 0 = a0) ∧
  ∀ Y6 : x_Y, Y6 = x_yr Y3 8 0 0 (some b1) →
  (k2 + 1 ≤ 600288 ∧ n2 + 2048 ≤ 7292554) ∧
  ∀ (b7 k8 n8 : Nat) (Y9 : x_Y) (L10 : x_L) (I11 : x_I), Y9 = x_yn Y6 10 0 b7 2048 (fun _ => none) → L10 = x_zl L4 10 0 → I11 = x_zi I5 10 0 → k8 = k2 + 1 → n8 = n2 + 2048 →
  (x_ok Y9 8 0 ∧ x_ad Y9 8 0 = a0) ∧
  ∀ Y12 : x_Y, Y12 = x_yr Y9 8 0 1 (some b7) →
  (k8 + 1 ≤ 600288 ∧ n8 + 2048 ≤ 7292554) ∧
  ∀ (b13 k14 n14 : Nat) (Y15 : x_Y) (L16 : x_L) (I17 : x_I), Y15 = x_yn Y12 11 0 b13 2048 (fun _ => none) → L16 = x_zl L10 11 0 → I17 = x_zi I11 11 0 → k14 = k8 + 1 → n14 = n8 + 2048 →
  (x_ok Y15 8 0 ∧ x_ad Y15 8 0 = a0) ∧
  ∀ Y18 : x_Y, Y18 = x_yr Y15 8 0 2 (some b13) →
  (k14 + 1 ≤ 600288 ∧ n14 + 2048 ≤ 7292554) ∧
  ∀ (b19 k20 n20 : Nat) (Y21 : x_Y) (L22 : x_L) (I23 : x_I), Y21 = x_yn Y18 12 0 b19 2048 (fun _ => none) → L22 = x_zl L16 12 0 → I23 = x_zi I17 12 0 → k20 = k14 + 1 → n20 = n14 + 2048 →
  (x_ok Y21 8 0 ∧ x_ad Y21 8 0 = a0) ∧
  ∀ Y24 : x_Y, Y24 = x_yr Y21 8 0 3 (some b19) →
  Q Y24 L22 I23 k20 n20
set_option maxRecDepth 100000 in
set_option maxHeartbeats 4000000 in
theorem yc_Jou_init {l : Launch} {g : x_G} {Q : x_Y → x_L → x_I → Nat → Nat → Prop} {X : Nat → x_Y → x_L → x_I → Nat → Nat → Prop} {a0 : Nat} {Y : x_Y} {L : x_L} {I : x_I} {k n : Nat} (h : yw_Jou_init g Q X a0 Y L I k n) : x_C l y_Jou_init 1 g [.ref a0] Y L I k n (x_yV Q X) := by
  refine x_mth k_102 ?_
  intro p e R s m below meth c hE hnm hexn hw hk1 hn1
  obtain ⟨hx, hb, hml, hr, hlk, hown, hK, htr, hF, hLo, hRc, hRs⟩ := id hE
  have hbd : x_bd k n k n := ⟨Nat.le_refl _, hk1, Nat.le_refl _, hn1⟩
  have hl := lv_entry ([.ref a0]) (n := 1) (Nat.le_of_ble_eq_true rfl)
  generalize (lg_sl [.ref a0] ++ List.replicate (1 - (lg_sl [.ref a0]).length) Slot.unset).toArray = ls at hl ⊢
  have hl : lv_has ls 1 [(0, .ref a0)] := hl
  generalize s.heap = H at hw ⊢
  generalize ([] : List Loc) = locs at hw ⊢
  unfold yw_Jou_init at h
  refine lv_aload_n hx hb d_Jou_init_0 rfl (lv_at hl 0 rfl) ?_
  refine x_objI (rest := []) hE hl.1 k_103 k_34 k_35 (by decide) (Nat.le_of_ble_eq_true rfl) d_Jou_init_1 ?_
  refine lv_aload_n hx hb d_Jou_init_4 rfl (lv_at hl 0 rfl) ?_
  refine lv_sipush (v := 2048) hx hb d_Jou_init_5 (by decide) ?_
  refine x_newA1 (t := 9) (i := 0) hx hb hK hw rfl (by decide) (at0 := .byte) rfl k_97 (by decide) (by decide) hRc hRs hbd h.1.1 h.1.2 d_Jou_init_8 (fun b1 k2 n2 Y3 L4 I5 H q1 q2 q3 q4 q5 hw hbd => ?_)
  replace h := h.2 b1 k2 n2 Y3 L4 I5 q1 q2 q3 q4 q5
  clear q1 q2 q3 q4 q5
  refine x_pRF (t := 8) (i := 0) (j := 0) hx hb hK hw hown h.1 rfl (by decide) (by decide) (x_wd hK k_104 rfl) (fun _ h => h) rfl hnm rfl fk_4_0 d_Jou_init_10 (fun Y6 H locs e_Y6 hw => ?_)
  replace h := h.2 Y6 e_Y6
  refine lv_aload_n hx hb d_Jou_init_13 rfl (lv_at hl 0 rfl) ?_
  refine lv_sipush (v := 2048) hx hb d_Jou_init_14 (by decide) ?_
  refine x_newA1 (t := 10) (i := 0) hx hb hK hw rfl (by decide) (at0 := .boolean) rfl k_127 (by decide) (by decide) hRc hRs hbd h.1.1 h.1.2 d_Jou_init_17 (fun b7 k8 n8 Y9 L10 I11 H q1 q2 q3 q4 q5 hw hbd => ?_)
  replace h := h.2 b7 k8 n8 Y9 L10 I11 q1 q2 q3 q4 q5
  clear q1 q2 q3 q4 q5
  refine x_pRF (t := 8) (i := 0) (j := 1) hx hb hK hw hown h.1 rfl (by decide) (by decide) (x_wd hK k_106 rfl) (fun _ h => h) rfl hnm rfl fk_4_1 d_Jou_init_19 (fun Y12 H locs e_Y12 hw => ?_)
  replace h := h.2 Y12 e_Y12
  refine lv_aload_n hx hb d_Jou_init_22 rfl (lv_at hl 0 rfl) ?_
  refine lv_sipush (v := 2048) hx hb d_Jou_init_23 (by decide) ?_
  refine x_newA1 (t := 11) (i := 0) hx hb hK hw rfl (by decide) (at0 := .int) rfl k_96 (by decide) (by decide) hRc hRs hbd h.1.1 h.1.2 d_Jou_init_26 (fun b13 k14 n14 Y15 L16 I17 H q1 q2 q3 q4 q5 hw hbd => ?_)
  replace h := h.2 b13 k14 n14 Y15 L16 I17 q1 q2 q3 q4 q5
  clear q1 q2 q3 q4 q5
  refine x_pRF (t := 8) (i := 0) (j := 2) hx hb hK hw hown h.1 rfl (by decide) (by decide) (x_wd hK k_108 rfl) (fun _ h => h) rfl hnm rfl fk_4_2 d_Jou_init_28 (fun Y18 H locs e_Y18 hw => ?_)
  replace h := h.2 Y18 e_Y18
  refine lv_aload_n hx hb d_Jou_init_31 rfl (lv_at hl 0 rfl) ?_
  refine lv_sipush (v := 2048) hx hb d_Jou_init_32 (by decide) ?_
  refine x_newA1 (t := 12) (i := 0) hx hb hK hw rfl (by decide) (at0 := .int) rfl k_96 (by decide) (by decide) hRc hRs hbd h.1.1 h.1.2 d_Jou_init_35 (fun b19 k20 n20 Y21 L22 I23 H q1 q2 q3 q4 q5 hw hbd => ?_)
  replace h := h.2 b19 k20 n20 Y21 L22 I23 q1 q2 q3 q4 q5
  clear q1 q2 q3 q4 q5
  refine x_pRF (t := 8) (i := 0) (j := 3) hx hb hK hw hown h.1 rfl (by decide) (by decide) (x_wd hK k_110 rfl) (fun _ h => h) rfl hnm rfl fk_4_3 d_Jou_init_37 (fun Y24 H locs e_Y24 hw => ?_)
  replace h := h.2 Y24 e_Y24
  exact x_vret hx hb hr hlk hw (Or.inl ⟨rfl, h⟩) hbd d_Jou_init_40
def yw_Book_init (g : x_G) (Q : x_Y → x_L → x_I → Nat → Nat → Prop) (X : Nat → x_Y → x_L → x_I → Nat → Nat → Prop) (a0 : Nat) (Y : x_Y) (L : x_L) (I : x_I) (k n : Nat) : Prop :=
  (k + 1 ≤ 600288 ∧ n + x_nf 2 ≤ 7292554) ∧
  ∀ (b1 k2 n2 : Nat) (Y3 : x_Y) (L4 : x_L) (I5 : x_I), Y3 = x_yn Y 2 0 b1 (x_nf 2) (fun _ => none) → L4 = x_zl L 2 0 → I5 = x_zi I 2 0 → k2 = k + 1 → n2 = n + (x_nf 2) →
  yw_AL_init g (fun Y8 L9 I10 k11 n11 =>
    (x_ok Y8 1 0 ∧ x_ad Y8 1 0 = a0) ∧
    ∀ Y12 : x_Y, Y12 = x_yr Y8 1 0 0 (some b1) →
    (k11 + 1 ≤ 600288 ∧ n11 + x_nf 3 ≤ 7292554) ∧
    ∀ (b13 k14 n14 : Nat) (Y15 : x_Y) (L16 : x_L) (I17 : x_I), Y15 = x_yn Y12 4 0 b13 (x_nf 3) (fun _ => none) → L16 = x_zl L9 4 0 → I17 = x_zi I10 4 0 → k14 = k11 + 1 → n14 = n11 + (x_nf 3) →
    yw_Tab_init g (fun Y20 L21 I22 k23 n23 =>
      (x_ok Y20 1 0 ∧ x_ad Y20 1 0 = a0) ∧
      ∀ Y24 : x_Y, Y24 = x_yr Y20 1 0 1 (some b13) →
      (k23 + 1 ≤ 600288 ∧ n23 + x_nf 4 ≤ 7292554) ∧
      ∀ (b25 k26 n26 : Nat) (Y27 : x_Y) (L28 : x_L) (I29 : x_I), Y27 = x_yn Y24 8 0 b25 (x_nf 4) (fun _ => none) → L28 = x_zl L21 8 0 → I29 = x_zi I22 8 0 → k26 = k23 + 1 → n26 = n23 + (x_nf 4) →
      yw_Jou_init g (fun Y32 L33 I34 k35 n35 =>
        (x_ok Y32 1 0 ∧ x_ad Y32 1 0 = a0) ∧
        ∀ Y36 : x_Y, Y36 = x_yr Y32 1 0 2 (some b25) →
        (k35 + 1 ≤ 600288 ∧ n35 + 300 ≤ 7292554) ∧
        ∀ (b37 k38 n38 : Nat) (Y39 : x_Y) (L40 : x_L) (I41 : x_I), Y39 = x_yn Y36 13 0 b37 300 (fun _ => none) → L40 = x_zl L33 13 0 → I41 = x_zi I34 13 0 → k38 = k35 + 1 → n38 = n35 + 300 →
        (x_ok Y39 1 0 ∧ x_ad Y39 1 0 = a0) ∧
        ∀ Y42 : x_Y, Y42 = x_yr Y39 1 0 3 (some b37) →
        Q Y42 L40 I41 k38 n38) x_ynx b25 Y27 L28 I29 k26 n26) x_ynx b13 Y15 L16 I17 k14 n14) x_ynx b1 Y3 L4 I5 k2 n2
set_option maxRecDepth 100000 in
set_option maxHeartbeats 4000000 in
theorem yc_Book_init {l : Launch} {g : x_G} {Q : x_Y → x_L → x_I → Nat → Nat → Prop} {X : Nat → x_Y → x_L → x_I → Nat → Nat → Prop} {a0 : Nat} {Y : x_Y} {L : x_L} {I : x_I} {k n : Nat} (h : yw_Book_init g Q X a0 Y L I k n) : x_C l y_Book_init 6 g [.ref a0] Y L I k n (x_yV Q X) := by
  refine x_mth k_40 ?_
  intro p e R s m below meth c hE hnm hexn hw hk1 hn1
  obtain ⟨hx, hb, hml, hr, hlk, hown, hK, htr, hF, hLo, hRc, hRs⟩ := id hE
  have hbd : x_bd k n k n := ⟨Nat.le_refl _, hk1, Nat.le_refl _, hn1⟩
  have hl := lv_entry ([.ref a0]) (n := 1) (Nat.le_of_ble_eq_true rfl)
  generalize (lg_sl [.ref a0] ++ List.replicate (1 - (lg_sl [.ref a0]).length) Slot.unset).toArray = ls at hl ⊢
  have hl : lv_has ls 1 [(0, .ref a0)] := hl
  generalize s.heap = H at hw ⊢
  generalize ([] : List Loc) = locs at hw ⊢
  unfold yw_Book_init at h
  refine lv_aload_n hx hb d_Book_init_0 rfl (lv_at hl 0 rfl) ?_
  refine x_objI (rest := []) hE hl.1 k_41 k_34 k_35 (by decide) (Nat.le_of_ble_eq_true rfl) d_Book_init_1 ?_
  refine lv_aload_n hx hb d_Book_init_4 rfl (lv_at hl 0 rfl) ?_
  refine x_newO (t := 2) (i := 0) hx hb hK hw hown rfl (by decide) k_42 k_43 k_5 hRc hRs hbd h.1.1 h.1.2 d_Book_init_5 (fun b1 k2 n2 Y3 L4 I5 H q1 q2 q3 q4 q5 hw hbd => ?_)
  replace h := h.2 b1 k2 n2 Y3 L4 I5 q1 q2 q3 q4 q5
  clear q1 q2 q3 q4 q5
  refine lv_dup hx hb d_Book_init_8 rfl ?_
  refine x_ygV (ls := ls) (rest := [.ref b1, .ref a0]) hE hw (yc_AL_init h) (x_cd hK k_46) q_AL_init (by decide) (by decide) hl.1 (Nat.le_of_ble_eq_true rfl) hbd d_Book_init_9 (x_toI (As := []) (b := b1) hx hb hown hK rfl k_44 k_45 k_46 q_AL_init rfl rfl d_Book_init_9) (fun Y8 L9 I10 k11 n11 H locs h hw hb9 => ?_) (fun _ _ _ _ _ _ _ _ h9 => h9.elim)
  replace hbd := hbd.tr hb9
  try dsimp only at h
  refine x_pRF (t := 1) (i := 0) (j := 0) hx hb hK hw hown h.1 rfl (by decide) (by decide) (x_wd hK k_128 rfl) (fun _ h => h) rfl hnm rfl fk_1_0 d_Book_init_12 (fun Y12 H locs e_Y12 hw => ?_)
  replace h := h.2 Y12 e_Y12
  refine lv_aload_n hx hb d_Book_init_15 rfl (lv_at hl 0 rfl) ?_
  refine x_newO (t := 4) (i := 0) hx hb hK hw hown rfl (by decide) k_71 k_72 k_6 hRc hRs hbd h.1.1 h.1.2 d_Book_init_16 (fun b13 k14 n14 Y15 L16 I17 H q1 q2 q3 q4 q5 hw hbd => ?_)
  replace h := h.2 b13 k14 n14 Y15 L16 I17 q1 q2 q3 q4 q5
  clear q1 q2 q3 q4 q5
  refine lv_dup hx hb d_Book_init_19 rfl ?_
  refine x_ygV (ls := ls) (rest := [.ref b13, .ref a0]) hE hw (yc_Tab_init h) (x_cd hK k_75) q_Tab_init (by decide) (by decide) hl.1 (Nat.le_of_ble_eq_true rfl) hbd d_Book_init_20 (x_toIN (As := []) (b := b13) hx hb hown hK rfl k_73 k_74 k_75 q_Tab_init rfl rfl d_Book_init_20) (fun Y20 L21 I22 k23 n23 H locs h hw hb9 => ?_) (fun _ _ _ _ _ _ _ _ h9 => h9.elim)
  replace hbd := hbd.tr hb9
  try dsimp only at h
  refine x_pRF (t := 1) (i := 0) (j := 1) hx hb hK hw hown h.1 rfl (by decide) (by decide) (x_wd hK k_131 rfl) (fun _ h => h) rfl hnm rfl fk_1_1 d_Book_init_23 (fun Y24 H locs e_Y24 hw => ?_)
  replace h := h.2 Y24 e_Y24
  refine lv_aload_n hx hb d_Book_init_26 rfl (lv_at hl 0 rfl) ?_
  refine x_newO (t := 8) (i := 0) hx hb hK hw hown rfl (by decide) k_98 k_99 k_7 hRc hRs hbd h.1.1 h.1.2 d_Book_init_27 (fun b25 k26 n26 Y27 L28 I29 H q1 q2 q3 q4 q5 hw hbd => ?_)
  replace h := h.2 b25 k26 n26 Y27 L28 I29 q1 q2 q3 q4 q5
  clear q1 q2 q3 q4 q5
  refine lv_dup hx hb d_Book_init_30 rfl ?_
  refine x_ygV (ls := ls) (rest := [.ref b25, .ref a0]) hE hw (yc_Jou_init h) (x_cd hK k_102) q_Jou_init (by decide) (by decide) hl.1 (Nat.le_of_ble_eq_true rfl) hbd d_Book_init_31 (x_toIN (As := []) (b := b25) hx hb hown hK rfl k_100 k_101 k_102 q_Jou_init rfl rfl d_Book_init_31) (fun Y32 L33 I34 k35 n35 H locs h hw hb9 => ?_) (fun _ _ _ _ _ _ _ _ h9 => h9.elim)
  replace hbd := hbd.tr hb9
  try dsimp only at h
  refine x_pRF (t := 1) (i := 0) (j := 2) hx hb hK hw hown h.1 rfl (by decide) (by decide) (x_wd hK k_134 rfl) (fun _ h => h) rfl hnm rfl fk_1_2 d_Book_init_34 (fun Y36 H locs e_Y36 hw => ?_)
  replace h := h.2 Y36 e_Y36
  refine lv_aload_n hx hb d_Book_init_37 rfl (lv_at hl 0 rfl) ?_
  refine lv_sipush (v := 300) hx hb d_Book_init_38 (by decide) ?_
  refine x_newA1 (t := 13) (i := 0) hx hb hK hw rfl (by decide) (at0 := .int) rfl k_96 (by decide) (by decide) hRc hRs hbd h.1.1 h.1.2 d_Book_init_41 (fun b37 k38 n38 Y39 L40 I41 H q1 q2 q3 q4 q5 hw hbd => ?_)
  replace h := h.2 b37 k38 n38 Y39 L40 I41 q1 q2 q3 q4 q5
  clear q1 q2 q3 q4 q5
  refine x_pRF (t := 1) (i := 0) (j := 3) hx hb hK hw hown h.1 rfl (by decide) (by decide) (x_wd hK k_137 rfl) (fun _ h => h) rfl hnm rfl fk_1_3 d_Book_init_43 (fun Y42 H locs e_Y42 hw => ?_)
  replace h := h.2 Y42 e_Y42
  exact x_vret hx hb hr hlk hw (Or.inl ⟨rfl, h⟩) hbd d_Book_init_46
def yw_Run_init (g : x_G) (Q : x_Y → x_L → x_I → Nat → Nat → Prop) (X : Nat → x_Y → x_L → x_I → Nat → Nat → Prop) (d : Nat) (a0 : Nat) (a1 : Nat) (a2 : Nat) (a3 : Nat) (p4 : Int32) (Y : x_Y) (L : x_L) (I : x_I) (k n : Nat) : Prop :=
  (k + 1 ≤ 600288 ∧ n + 8 ≤ 7292554) ∧
  ∀ (b1 k2 n2 : Nat) (Y3 : x_Y) (L4 : x_L) (I5 : x_I), Y3 = x_yn Y 21 d b1 8 (fun _ => none) → L4 = x_zl L 21 d → I5 = x_zi I 21 d → k2 = k + 1 → n2 = n + 8 →
  (x_ok Y3 20 d ∧ x_ad Y3 20 d = a0) ∧
  ∀ Y6 : x_Y, Y6 = x_yr Y3 20 d 7 (some b1) →
  (k2 + 1 ≤ 600288 ∧ n2 + 32 ≤ 7292554) ∧
  ∀ (b7 k8 n8 : Nat) (Y9 : x_Y) (L10 : x_L) (I11 : x_I), Y9 = x_yn Y6 22 d b7 32 (fun _ => none) → L10 = x_zl L4 22 d → I11 = x_zi I5 22 d → k8 = k2 + 1 → n8 = n2 + 32 →
  (x_ok Y9 20 d ∧ x_ad Y9 20 d = a0) ∧
  ∀ Y12 : x_Y, Y12 = x_yr Y9 20 d 8 (some b7) →
  (x_ok Y12 20 d ∧ x_ad Y12 20 d = a0) ∧
  ∀ I13 : x_I, I13 = x_u I11 20 d 13 (-1 : Int32) →
  (x_ok Y12 20 d ∧ x_ad Y12 20 d = a0) ∧
  ∀ Y14 : x_Y, Y14 = x_yr Y12 20 d 0 (some a1) →
  (x_ok Y14 20 d ∧ x_ad Y14 20 d = a0) ∧
  ∀ Y15 : x_Y, Y15 = x_yr Y14 20 d 1 (some a2) →
  (x_ok Y15 20 d ∧ x_ad Y15 20 d = a0) ∧
  ∀ Y16 : x_Y, Y16 = x_yr Y15 20 d 2 (some a3) →
  (x_ok Y16 20 d ∧ x_ad Y16 20 d = a0) ∧
  ∀ I17 : x_I, I17 = x_u I13 20 d 3 p4 →
  Q Y16 L10 I17 k8 n8
set_option maxRecDepth 100000 in
set_option maxHeartbeats 4000000 in
theorem yc_Run_init {l : Launch} {g : x_G} {Q : x_Y → x_L → x_I → Nat → Nat → Prop} {X : Nat → x_Y → x_L → x_I → Nat → Nat → Prop} {d : Nat} {a0 : Nat} {a1 : Nat} {a2 : Nat} {a3 : Nat} {p4 : Int32} {Y : x_Y} {L : x_L} {I : x_I} {k n : Nat} (h : yw_Run_init g Q X d a0 a1 a2 a3 p4 Y L I k n) : x_C l y_Run_init 1 g [.ref a0, .ref a1, .ref a2, .ref a3, .int p4] Y L I k n (x_yV Q X) := by
  refine x_mth k_171 ?_
  intro p e R s m below meth c hE hnm hexn hw hk1 hn1
  obtain ⟨hx, hb, hml, hr, hlk, hown, hK, htr, hF, hLo, hRc, hRs⟩ := id hE
  have hbd : x_bd k n k n := ⟨Nat.le_refl _, hk1, Nat.le_refl _, hn1⟩
  have hl := lv_entry ([.ref a0, .ref a1, .ref a2, .ref a3, .int p4]) (n := 5) (Nat.le_of_ble_eq_true rfl)
  generalize (lg_sl [.ref a0, .ref a1, .ref a2, .ref a3, .int p4] ++ List.replicate (5 - (lg_sl [.ref a0, .ref a1, .ref a2, .ref a3, .int p4]).length) Slot.unset).toArray = ls at hl ⊢
  have hl : lv_has ls 5 [(0, .ref a0), (1, .ref a1), (2, .ref a2), (3, .ref a3), (4, .int p4)] := hl
  generalize s.heap = H at hw ⊢
  generalize ([] : List Loc) = locs at hw ⊢
  unfold yw_Run_init at h
  refine lv_aload_n hx hb d_Run_init_0 rfl (lv_at hl 0 rfl) ?_
  refine x_objI (rest := []) hE hl.1 k_172 k_34 k_35 (by decide) (Nat.le_of_ble_eq_true rfl) d_Run_init_1 ?_
  refine lv_aload_n hx hb d_Run_init_4 rfl (lv_at hl 0 rfl) ?_
  refine lv_bipush (v := 8) hx hb d_Run_init_5 (by decide) ?_
  refine x_newA1 (t := 21) (i := d) hx hb hK hw rfl (by decide) (at0 := .int) rfl k_96 (by decide) (by decide) hRc hRs hbd h.1.1 h.1.2 d_Run_init_7 (fun b1 k2 n2 Y3 L4 I5 H q1 q2 q3 q4 q5 hw hbd => ?_)
  replace h := h.2 b1 k2 n2 Y3 L4 I5 q1 q2 q3 q4 q5
  clear q1 q2 q3 q4 q5
  refine x_pRF (t := 20) (i := d) (j := 7) hx hb hK hw hown h.1 rfl (by decide) (by decide) (x_wd hK k_180 rfl) (fun _ h => h) rfl hnm rfl fk_5_7 d_Run_init_9 (fun Y6 H locs e_Y6 hw => ?_)
  replace h := h.2 Y6 e_Y6
  refine lv_aload_n hx hb d_Run_init_12 rfl (lv_at hl 0 rfl) ?_
  refine lv_bipush (v := 32) hx hb d_Run_init_13 (by decide) ?_
  refine x_newA1 (t := 22) (i := d) hx hb hK hw rfl (by decide) (at0 := .int) rfl k_96 (by decide) (by decide) hRc hRs hbd h.1.1 h.1.2 d_Run_init_15 (fun b7 k8 n8 Y9 L10 I11 H q1 q2 q3 q4 q5 hw hbd => ?_)
  replace h := h.2 b7 k8 n8 Y9 L10 I11 q1 q2 q3 q4 q5
  clear q1 q2 q3 q4 q5
  refine x_pRF (t := 20) (i := d) (j := 8) hx hb hK hw hown h.1 rfl (by decide) (by decide) (x_wd hK k_182 rfl) (fun _ h => h) rfl hnm rfl fk_5_8 d_Run_init_17 (fun Y12 H locs e_Y12 hw => ?_)
  replace h := h.2 Y12 e_Y12
  refine lv_aload_n hx hb d_Run_init_20 rfl (lv_at hl 0 rfl) ?_
  refine lv_iconst (v := (-1)) hx hb d_Run_init_21 (by decide) ?_
  refine x_pI1 (t := 20) (i := d) (j := 13) hx hb hK hw hown h.1 rfl (by decide) (by decide) (x_wd hK k_189 rfl) (fun _ h => h) rfl rfl d_Run_init_22 (fun I13 H locs e_I13 hw => ?_)
  replace h := h.2 I13 e_I13
  refine lv_aload_n hx hb d_Run_init_25 rfl (lv_at hl 0 rfl) ?_
  refine lv_aload_n hx hb d_Run_init_26 rfl (lv_at hl 1 rfl) ?_
  refine x_pRF (t := 20) (i := d) (j := 0) hx hb hK hw hown h.1 rfl (by decide) (by decide) (x_wd hK k_173 rfl) (fun _ h => h) rfl hnm rfl fk_5_0 d_Run_init_27 (fun Y14 H locs e_Y14 hw => ?_)
  replace h := h.2 Y14 e_Y14
  refine lv_aload_n hx hb d_Run_init_30 rfl (lv_at hl 0 rfl) ?_
  refine lv_aload_n hx hb d_Run_init_31 rfl (lv_at hl 2 rfl) ?_
  refine x_pRF (t := 20) (i := d) (j := 1) hx hb hK hw hown h.1 rfl (by decide) (by decide) (x_wd hK k_174 rfl) (fun _ h => h) rfl hnm rfl fk_5_1 d_Run_init_32 (fun Y15 H locs e_Y15 hw => ?_)
  replace h := h.2 Y15 e_Y15
  refine lv_aload_n hx hb d_Run_init_35 rfl (lv_at hl 0 rfl) ?_
  refine lv_aload_n hx hb d_Run_init_36 rfl (lv_at hl 3 rfl) ?_
  refine x_pRF (t := 20) (i := d) (j := 2) hx hb hK hw hown h.1 rfl (by decide) (by decide) (x_wd hK k_175 rfl) (fun _ h => h) rfl hnm rfl fk_5_2 d_Run_init_37 (fun Y16 H locs e_Y16 hw => ?_)
  replace h := h.2 Y16 e_Y16
  refine lv_aload_n hx hb d_Run_init_40 rfl (lv_at hl 0 rfl) ?_
  refine lv_iload hx hb d_Run_init_41 (lv_at hl 4 rfl) ?_
  refine x_pIF (t := 20) (i := d) (j := 3) hx hb hK hw hown h.1 rfl (by decide) (by decide) (x_wd hK k_176 rfl) (fun _ h => h) rfl hnm rfl rfl d_Run_init_43 (fun I17 H locs e_I17 hw => ?_)
  replace h := h.2 I17 e_I17
  exact x_vret hx hb hr hlk hw (Or.inl ⟨rfl, h⟩) hbd d_Run_init_46
def yw_Acc_init (g : x_G) (Q : x_Y → x_L → x_I → Nat → Nat → Prop) (X : Nat → x_Y → x_L → x_I → Nat → Nat → Prop) (a : Nat) (a0 : Nat) (p1 : Int32) (Y : x_Y) (L : x_L) (I : x_I) (k n : Nat) : Prop :=
  (k + 1 ≤ 600288 ∧ n + 160 ≤ 7292554) ∧
  ∀ (b1 k2 n2 : Nat) (Y3 : x_Y) (L4 : x_L) (I5 : x_I), Y3 = x_yn Y 24 a b1 160 (fun _ => none) → L4 = x_zl L 24 a → I5 = x_zi I 24 a → k2 = k + 1 → n2 = n + 160 →
  (x_ok Y3 23 a ∧ x_ad Y3 23 a = a0) ∧
  ∀ Y6 : x_Y, Y6 = x_yr Y3 23 a 1 (some b1) →
  (x_ok Y6 23 a ∧ x_ad Y6 23 a = a0) ∧
  ∀ I7 : x_I, I7 = x_u I5 23 a 0 p1 →
  Q Y6 L4 I7 k2 n2
set_option maxRecDepth 100000 in
set_option maxHeartbeats 4000000 in
theorem yc_Acc_init {l : Launch} {g : x_G} {Q : x_Y → x_L → x_I → Nat → Nat → Prop} {X : Nat → x_Y → x_L → x_I → Nat → Nat → Prop} {a : Nat} {a0 : Nat} {p1 : Int32} {Y : x_Y} {L : x_L} {I : x_I} {k n : Nat} (h : yw_Acc_init g Q X a a0 p1 Y L I k n) : x_C l y_Acc_init 1 g [.ref a0, .int p1] Y L I k n (x_yV Q X) := by
  refine x_mth k_412 ?_
  intro p e R s m below meth c hE hnm hexn hw hk1 hn1
  obtain ⟨hx, hb, hml, hr, hlk, hown, hK, htr, hF, hLo, hRc, hRs⟩ := id hE
  have hbd : x_bd k n k n := ⟨Nat.le_refl _, hk1, Nat.le_refl _, hn1⟩
  have hl := lv_entry ([.ref a0, .int p1]) (n := 2) (Nat.le_of_ble_eq_true rfl)
  generalize (lg_sl [.ref a0, .int p1] ++ List.replicate (2 - (lg_sl [.ref a0, .int p1]).length) Slot.unset).toArray = ls at hl ⊢
  have hl : lv_has ls 2 [(0, .ref a0), (1, .int p1)] := hl
  generalize s.heap = H at hw ⊢
  generalize ([] : List Loc) = locs at hw ⊢
  unfold yw_Acc_init at h
  refine lv_aload_n hx hb d_Acc_init_0 rfl (lv_at hl 0 rfl) ?_
  refine x_objI (rest := []) hE hl.1 k_413 k_34 k_35 (by decide) (Nat.le_of_ble_eq_true rfl) d_Acc_init_1 ?_
  refine lv_aload_n hx hb d_Acc_init_4 rfl (lv_at hl 0 rfl) ?_
  refine lv_sipush (v := 160) hx hb d_Acc_init_5 (by decide) ?_
  refine x_newA1 (t := 24) (i := a) hx hb hK hw rfl (by decide) (at0 := .int) rfl k_96 (by decide) (by decide) hRc hRs hbd h.1.1 h.1.2 d_Acc_init_8 (fun b1 k2 n2 Y3 L4 I5 H q1 q2 q3 q4 q5 hw hbd => ?_)
  replace h := h.2 b1 k2 n2 Y3 L4 I5 q1 q2 q3 q4 q5
  clear q1 q2 q3 q4 q5
  refine x_pRF (t := 23) (i := a) (j := 1) hx hb hK hw hown h.1 rfl (by decide) (by decide) (x_wd hK k_417 rfl) (fun _ h => h) rfl hnm rfl fk_7_1 d_Acc_init_10 (fun Y6 H locs e_Y6 hw => ?_)
  replace h := h.2 Y6 e_Y6
  refine lv_aload_n hx hb d_Acc_init_13 rfl (lv_at hl 0 rfl) ?_
  refine lv_iload_n hx hb d_Acc_init_14 rfl (lv_at hl 1 rfl) ?_
  refine x_pI1 (t := 23) (i := a) (j := 0) hx hb hK hw hown h.1 rfl (by decide) (by decide) (x_wd hK k_414 rfl) (fun _ h => h) rfl rfl d_Acc_init_15 (fun I7 H locs e_I7 hw => ?_)
  replace h := h.2 I7 e_I7
  exact x_vret hx hb hr hlk hw (Or.inl ⟨rfl, h⟩) hbd d_Acc_init_18
def yw_Mod_init (g : x_G) (Q : x_Y → x_L → x_I → Nat → Nat → Prop) (X : Nat → x_Y → x_L → x_I → Nat → Nat → Prop) (a0 : Nat) (Y : x_Y) (L : x_L) (I : x_I) (k n : Nat) : Prop :=
  (k + 1 ≤ 600288 ∧ n + 24 ≤ 7292554) ∧
  ∀ (b1 k2 n2 : Nat) (Y3 : x_Y) (L4 : x_L) (I5 : x_I), Y3 = x_yn Y 42 0 b1 24 (fun _ => none) → L4 = x_zl L 42 0 → I5 = x_zi I 42 0 → k2 = k + 1 → n2 = n + 24 →
  (x_ok Y3 30 0 ∧ x_ad Y3 30 0 = a0) ∧
  ∀ Y6 : x_Y, Y6 = x_yr Y3 30 0 2 (some b1) →
  (k2 + 1 ≤ 600288 ∧ n2 + 3840 ≤ 7292554) ∧
  ∀ (b7 k8 n8 : Nat) (Y9 : x_Y) (L10 : x_L) (I11 : x_I), Y9 = x_yn Y6 43 0 b7 3840 (fun _ => none) → L10 = x_zl L4 43 0 → I11 = x_zi I5 43 0 → k8 = k2 + 1 → n8 = n2 + 3840 →
  (x_ok Y9 30 0 ∧ x_ad Y9 30 0 = a0) ∧
  ∀ Y12 : x_Y, Y12 = x_yr Y9 30 0 3 (some b7) →
  (k8 + 1 ≤ 600288 ∧ n8 + 24 ≤ 7292554) ∧
  ∀ (b13 k14 n14 : Nat) (Y15 : x_Y) (L16 : x_L) (I17 : x_I), Y15 = x_yn Y12 44 0 b13 24 (fun _ => none) → L16 = x_zl L10 44 0 → I17 = x_zi I11 44 0 → k14 = k8 + 1 → n14 = n8 + 24 →
  (x_ok Y15 30 0 ∧ x_ad Y15 30 0 = a0) ∧
  ∀ Y18 : x_Y, Y18 = x_yr Y15 30 0 4 (some b13) →
  (k14 + 1 ≤ 600288 ∧ n14 + 24 ≤ 7292554) ∧
  ∀ (b19 k20 n20 : Nat) (Y21 : x_Y) (L22 : x_L) (I23 : x_I), Y21 = x_yn Y18 45 0 b19 24 (fun _ => none) → L22 = x_zl L16 45 0 → I23 = x_zi I17 45 0 → k20 = k14 + 1 → n20 = n14 + 24 →
  (x_ok Y21 30 0 ∧ x_ad Y21 30 0 = a0) ∧
  ∀ Y24 : x_Y, Y24 = x_yr Y21 30 0 5 (some b19) →
  (k20 + 1 ≤ 600288 ∧ n20 + 500 ≤ 7292554) ∧
  ∀ (b25 k26 n26 : Nat) (Y27 : x_Y) (L28 : x_L) (I29 : x_I), Y27 = x_yn Y24 46 0 b25 500 (fun _ => none) → L28 = x_zl L22 46 0 → I29 = x_zi I23 46 0 → k26 = k20 + 1 → n26 = n20 + 500 →
  (x_ok Y27 30 0 ∧ x_ad Y27 30 0 = a0) ∧
  ∀ Y30 : x_Y, Y30 = x_yr Y27 30 0 6 (some b25) →
  (k26 + 1 ≤ 600288 ∧ n26 + 500 ≤ 7292554) ∧
  ∀ (b31 k32 n32 : Nat) (Y33 : x_Y) (L34 : x_L) (I35 : x_I), Y33 = x_yn Y30 47 0 b31 500 (fun _ => none) → L34 = x_zl L28 47 0 → I35 = x_zi I29 47 0 → k32 = k26 + 1 → n32 = n26 + 500 →
  (x_ok Y33 30 0 ∧ x_ad Y33 30 0 = a0) ∧
  ∀ Y36 : x_Y, Y36 = x_yr Y33 30 0 7 (some b31) →
  (k32 + 1 ≤ 600288 ∧ n32 + 500 ≤ 7292554) ∧
  ∀ (b37 k38 n38 : Nat) (Y39 : x_Y) (L40 : x_L) (I41 : x_I), Y39 = x_yn Y36 48 0 b37 500 (fun _ => none) → L40 = x_zl L34 48 0 → I41 = x_zi I35 48 0 → k38 = k32 + 1 → n38 = n32 + 500 →
  (x_ok Y39 30 0 ∧ x_ad Y39 30 0 = a0) ∧
  ∀ Y42 : x_Y, Y42 = x_yr Y39 30 0 8 (some b37) →
  (k38 + 1 ≤ 600288 ∧ n38 + 300 ≤ 7292554) ∧
  ∀ (b43 k44 n44 : Nat) (Y45 : x_Y) (L46 : x_L) (I47 : x_I), Y45 = x_yn Y42 50 0 b43 300 (fun _ => none) → L46 = x_zl L40 50 0 → I47 = x_zi I41 50 0 → k44 = k38 + 1 → n44 = n38 + 300 →
  (x_ok Y45 30 0 ∧ x_ad Y45 30 0 = a0) ∧
  ∀ Y48 : x_Y, Y48 = x_yr Y45 30 0 10 (some b43) →
  (k44 + 1 ≤ 600288 ∧ n44 + 192 ≤ 7292554) ∧
  ∀ (b49 k50 n50 : Nat) (Y51 : x_Y) (L52 : x_L) (I53 : x_I), Y51 = x_yn Y48 52 0 b49 192 (fun _ => none) → L52 = x_zl L46 52 0 → I53 = x_zi I47 52 0 → k50 = k44 + 1 → n50 = n44 + 192 →
  (x_ok Y51 30 0 ∧ x_ad Y51 30 0 = a0) ∧
  ∀ Y54 : x_Y, Y54 = x_yr Y51 30 0 12 (some b49) →
  (k50 + 1 ≤ 600288 ∧ n50 + 4000 ≤ 7292554) ∧
  ∀ (b55 k56 n56 : Nat) (Y57 : x_Y) (L58 : x_L) (I59 : x_I), Y57 = x_yn Y54 53 0 b55 4000 (fun _ => none) → L58 = x_zl L52 53 0 → I59 = x_zi I53 53 0 → k56 = k50 + 1 → n56 = n50 + 4000 →
  (x_ok Y57 30 0 ∧ x_ad Y57 30 0 = a0) ∧
  ∀ Y60 : x_Y, Y60 = x_yr Y57 30 0 13 (some b55) →
  (k56 + 1 ≤ 600288 ∧ n56 + 4000 ≤ 7292554) ∧
  ∀ (b61 k62 n62 : Nat) (Y63 : x_Y) (L64 : x_L) (I65 : x_I), Y63 = x_yn Y60 54 0 b61 4000 (fun _ => none) → L64 = x_zl L58 54 0 → I65 = x_zi I59 54 0 → k62 = k56 + 1 → n62 = n56 + 4000 →
  (x_ok Y63 30 0 ∧ x_ad Y63 30 0 = a0) ∧
  ∀ Y66 : x_Y, Y66 = x_yr Y63 30 0 14 (some b61) →
  (k62 + 1 ≤ 600288 ∧ n62 + 4000 ≤ 7292554) ∧
  ∀ (b67 k68 n68 : Nat) (Y69 : x_Y) (L70 : x_L) (I71 : x_I), Y69 = x_yn Y66 55 0 b67 4000 (fun _ => none) → L70 = x_zl L64 55 0 → I71 = x_zi I65 55 0 → k68 = k62 + 1 → n68 = n62 + 4000 →
  (x_ok Y69 30 0 ∧ x_ad Y69 30 0 = a0) ∧
  ∀ Y72 : x_Y, Y72 = x_yr Y69 30 0 15 (some b67) →
  (k68 + 1 ≤ 600288 ∧ n68 + 8 ≤ 7292554) ∧
  ∀ (b73 k74 n74 : Nat) (Y75 : x_Y) (L76 : x_L) (I77 : x_I), Y75 = x_yn Y72 56 0 b73 8 (fun _ => none) → L76 = x_zl L70 56 0 → I77 = x_zi I71 56 0 → k74 = k68 + 1 → n74 = n68 + 8 →
  (x_ok Y75 30 0 ∧ x_ad Y75 30 0 = a0) ∧
  ∀ Y78 : x_Y, Y78 = x_yr Y75 30 0 16 (some b73) →
  (k74 + 1 ≤ 600288 ∧ n74 + 8 ≤ 7292554) ∧
  ∀ (b79 k80 n80 : Nat) (Y81 : x_Y) (L82 : x_L) (I83 : x_I), Y81 = x_yn Y78 57 0 b79 8 (fun _ => none) → L82 = x_zl L76 57 0 → I83 = x_zi I77 57 0 → k80 = k74 + 1 → n80 = n74 + 8 →
  (x_ok Y81 30 0 ∧ x_ad Y81 30 0 = a0) ∧
  ∀ Y84 : x_Y, Y84 = x_yr Y81 30 0 17 (some b79) →
  (k80 + 1 ≤ 600288 ∧ n80 + 256 ≤ 7292554) ∧
  ∀ (b85 k86 n86 : Nat) (Y87 : x_Y) (L88 : x_L) (I89 : x_I), Y87 = x_yn Y84 59 0 b85 256 (fun _ => none) → L88 = x_zl L82 59 0 → I89 = x_zi I83 59 0 → k86 = k80 + 1 → n86 = n80 + 256 →
  (x_ok Y87 30 0 ∧ x_ad Y87 30 0 = a0) ∧
  ∀ Y90 : x_Y, Y90 = x_yr Y87 30 0 19 (some b85) →
  (k86 + 1 ≤ 600288 ∧ n86 + 8 ≤ 7292554) ∧
  ∀ (b91 k92 n92 : Nat) (Y93 : x_Y) (L94 : x_L) (I95 : x_I), Y93 = x_yn Y90 60 0 b91 8 (fun _ => none) → L94 = x_zl L88 60 0 → I95 = x_zi I89 60 0 → k92 = k86 + 1 → n92 = n86 + 8 →
  (x_ok Y93 30 0 ∧ x_ad Y93 30 0 = a0) ∧
  ∀ Y96 : x_Y, Y96 = x_yr Y93 30 0 20 (some b91) →
  (k92 + 1 ≤ 600288 ∧ n92 + 8 ≤ 7292554) ∧
  ∀ (b97 k98 n98 : Nat) (Y99 : x_Y) (L100 : x_L) (I101 : x_I), Y99 = x_yn Y96 61 0 b97 8 (fun _ => none) → L100 = x_zl L94 61 0 → I101 = x_zi I95 61 0 → k98 = k92 + 1 → n98 = n92 + 8 →
  (x_ok Y99 30 0 ∧ x_ad Y99 30 0 = a0) ∧
  ∀ Y102 : x_Y, Y102 = x_yr Y99 30 0 21 (some b97) →
  (k98 + 1 ≤ 600288 ∧ n98 + 64 ≤ 7292554) ∧
  ∀ (b103 k104 n104 : Nat) (Y105 : x_Y) (L106 : x_L) (I107 : x_I), Y105 = x_yn Y102 62 0 b103 64 (fun _ => none) → L106 = x_zl L100 62 0 → I107 = x_zi I101 62 0 → k104 = k98 + 1 → n104 = n98 + 64 →
  (x_ok Y105 30 0 ∧ x_ad Y105 30 0 = a0) ∧
  ∀ Y108 : x_Y, Y108 = x_yr Y105 30 0 22 (some b103) →
  (k104 + 1 ≤ 600288 ∧ n104 + 8 ≤ 7292554) ∧
  ∀ (b109 k110 n110 : Nat) (Y111 : x_Y) (L112 : x_L) (I113 : x_I), Y111 = x_yn Y108 63 0 b109 8 (fun _ => none) → L112 = x_zl L106 63 0 → I113 = x_zi I107 63 0 → k110 = k104 + 1 → n110 = n104 + 8 →
  (x_ok Y111 30 0 ∧ x_ad Y111 30 0 = a0) ∧
  ∀ Y114 : x_Y, Y114 = x_yr Y111 30 0 23 (some b109) →
  (k110 + 1 ≤ 600288 ∧ n110 + 8 ≤ 7292554) ∧
  ∀ (b115 k116 n116 : Nat) (Y117 : x_Y) (L118 : x_L) (I119 : x_I), Y117 = x_yn Y114 64 0 b115 8 (fun _ => none) → L118 = x_zl L112 64 0 → I119 = x_zi I113 64 0 → k116 = k110 + 1 → n116 = n110 + 8 →
  (x_ok Y117 30 0 ∧ x_ad Y117 30 0 = a0) ∧
  ∀ Y120 : x_Y, Y120 = x_yr Y117 30 0 24 (some b115) →
  (k116 + 1 ≤ 600288 ∧ n116 + 8 ≤ 7292554) ∧
  ∀ (b121 k122 n122 : Nat) (Y123 : x_Y) (L124 : x_L) (I125 : x_I), Y123 = x_yn Y120 65 0 b121 8 (fun _ => none) → L124 = x_zl L118 65 0 → I125 = x_zi I119 65 0 → k122 = k116 + 1 → n122 = n116 + 8 →
  (x_ok Y123 30 0 ∧ x_ad Y123 30 0 = a0) ∧
  ∀ Y126 : x_Y, Y126 = x_yr Y123 30 0 25 (some b121) →
  (k122 + 1 ≤ 600288 ∧ n122 + 8 ≤ 7292554) ∧
  ∀ (b127 k128 n128 : Nat) (Y129 : x_Y) (L130 : x_L) (I131 : x_I), Y129 = x_yn Y126 66 0 b127 8 (fun _ => none) → L130 = x_zl L124 66 0 → I131 = x_zi I125 66 0 → k128 = k122 + 1 → n128 = n122 + 8 →
  (x_ok Y129 30 0 ∧ x_ad Y129 30 0 = a0) ∧
  ∀ Y132 : x_Y, Y132 = x_yr Y129 30 0 26 (some b127) →
  (k128 + 1 ≤ 600288 ∧ n128 + 8 ≤ 7292554) ∧
  ∀ (b133 k134 n134 : Nat) (Y135 : x_Y) (L136 : x_L) (I137 : x_I), Y135 = x_yn Y132 67 0 b133 8 (fun _ => none) → L136 = x_zl L130 67 0 → I137 = x_zi I131 67 0 → k134 = k128 + 1 → n134 = n128 + 8 →
  (x_ok Y135 30 0 ∧ x_ad Y135 30 0 = a0) ∧
  ∀ Y138 : x_Y, Y138 = x_yr Y135 30 0 27 (some b133) →
  (k134 + 1 ≤ 600288 ∧ n134 + 8 ≤ 7292554) ∧
  ∀ (b139 k140 n140 : Nat) (Y141 : x_Y) (L142 : x_L) (I143 : x_I), Y141 = x_yn Y138 68 0 b139 8 (fun _ => none) → L142 = x_zl L136 68 0 → I143 = x_zi I137 68 0 → k140 = k134 + 1 → n140 = n134 + 8 →
  (x_ok Y141 30 0 ∧ x_ad Y141 30 0 = a0) ∧
  ∀ Y144 : x_Y, Y144 = x_yr Y141 30 0 28 (some b139) →
  Q Y144 L142 I143 k140 n140
set_option maxRecDepth 100000 in
set_option maxHeartbeats 4000000 in
theorem yc_Mod_init {l : Launch} {g : x_G} {Q : x_Y → x_L → x_I → Nat → Nat → Prop} {X : Nat → x_Y → x_L → x_I → Nat → Nat → Prop} {a0 : Nat} {Y : x_Y} {L : x_L} {I : x_I} {k n : Nat} (h : yw_Mod_init g Q X a0 Y L I k n) : x_C l y_Mod_init 1 g [.ref a0] Y L I k n (x_yV Q X) := by
  refine x_mth k_796 ?_
  intro p e R s m below meth c hE hnm hexn hw hk1 hn1
  obtain ⟨hx, hb, hml, hr, hlk, hown, hK, htr, hF, hLo, hRc, hRs⟩ := id hE
  have hbd : x_bd k n k n := ⟨Nat.le_refl _, hk1, Nat.le_refl _, hn1⟩
  have hl := lv_entry ([.ref a0]) (n := 1) (Nat.le_of_ble_eq_true rfl)
  generalize (lg_sl [.ref a0] ++ List.replicate (1 - (lg_sl [.ref a0]).length) Slot.unset).toArray = ls at hl ⊢
  have hl : lv_has ls 1 [(0, .ref a0)] := hl
  generalize s.heap = H at hw ⊢
  generalize ([] : List Loc) = locs at hw ⊢
  unfold yw_Mod_init at h
  refine lv_aload_n hx hb d_Mod_init_0 rfl (lv_at hl 0 rfl) ?_
  refine x_objI (rest := []) hE hl.1 k_797 k_34 k_35 (by decide) (Nat.le_of_ble_eq_true rfl) d_Mod_init_1 ?_
  refine lv_aload_n hx hb d_Mod_init_4 rfl (lv_at hl 0 rfl) ?_
  refine lv_bipush (v := 24) hx hb d_Mod_init_5 (by decide) ?_
  refine x_newA1 (t := 42) (i := 0) hx hb hK hw rfl (by decide) (at0 := .int) rfl k_96 (by decide) (by decide) hRc hRs hbd h.1.1 h.1.2 d_Mod_init_7 (fun b1 k2 n2 Y3 L4 I5 H q1 q2 q3 q4 q5 hw hbd => ?_)
  replace h := h.2 b1 k2 n2 Y3 L4 I5 q1 q2 q3 q4 q5
  clear q1 q2 q3 q4 q5
  refine x_pRF (t := 30) (i := 0) (j := 2) hx hb hK hw hown h.1 rfl (by decide) (by decide) (x_wd hK k_800 rfl) (fun _ h => h) rfl hnm rfl fk_8_2 d_Mod_init_9 (fun Y6 H locs e_Y6 hw => ?_)
  replace h := h.2 Y6 e_Y6
  refine lv_aload_n hx hb d_Mod_init_12 rfl (lv_at hl 0 rfl) ?_
  refine lv_sipush (v := 3840) hx hb d_Mod_init_13 (by decide) ?_
  refine x_newA1 (t := 43) (i := 0) hx hb hK hw rfl (by decide) (at0 := .int) rfl k_96 (by decide) (by decide) hRc hRs hbd h.1.1 h.1.2 d_Mod_init_16 (fun b7 k8 n8 Y9 L10 I11 H q1 q2 q3 q4 q5 hw hbd => ?_)
  replace h := h.2 b7 k8 n8 Y9 L10 I11 q1 q2 q3 q4 q5
  clear q1 q2 q3 q4 q5
  refine x_pRF (t := 30) (i := 0) (j := 3) hx hb hK hw hown h.1 rfl (by decide) (by decide) (x_wd hK k_801 rfl) (fun _ h => h) rfl hnm rfl fk_8_3 d_Mod_init_18 (fun Y12 H locs e_Y12 hw => ?_)
  replace h := h.2 Y12 e_Y12
  refine lv_aload_n hx hb d_Mod_init_21 rfl (lv_at hl 0 rfl) ?_
  refine lv_bipush (v := 24) hx hb d_Mod_init_22 (by decide) ?_
  refine x_newA1 (t := 44) (i := 0) hx hb hK hw rfl (by decide) (at0 := .int) rfl k_96 (by decide) (by decide) hRc hRs hbd h.1.1 h.1.2 d_Mod_init_24 (fun b13 k14 n14 Y15 L16 I17 H q1 q2 q3 q4 q5 hw hbd => ?_)
  replace h := h.2 b13 k14 n14 Y15 L16 I17 q1 q2 q3 q4 q5
  clear q1 q2 q3 q4 q5
  refine x_pRF (t := 30) (i := 0) (j := 4) hx hb hK hw hown h.1 rfl (by decide) (by decide) (x_wd hK k_802 rfl) (fun _ h => h) rfl hnm rfl fk_8_4 d_Mod_init_26 (fun Y18 H locs e_Y18 hw => ?_)
  replace h := h.2 Y18 e_Y18
  refine lv_aload_n hx hb d_Mod_init_29 rfl (lv_at hl 0 rfl) ?_
  refine lv_bipush (v := 24) hx hb d_Mod_init_30 (by decide) ?_
  refine x_newA1 (t := 45) (i := 0) hx hb hK hw rfl (by decide) (at0 := .boolean) rfl k_127 (by decide) (by decide) hRc hRs hbd h.1.1 h.1.2 d_Mod_init_32 (fun b19 k20 n20 Y21 L22 I23 H q1 q2 q3 q4 q5 hw hbd => ?_)
  replace h := h.2 b19 k20 n20 Y21 L22 I23 q1 q2 q3 q4 q5
  clear q1 q2 q3 q4 q5
  refine x_pRF (t := 30) (i := 0) (j := 5) hx hb hK hw hown h.1 rfl (by decide) (by decide) (x_wd hK k_803 rfl) (fun _ h => h) rfl hnm rfl fk_8_5 d_Mod_init_34 (fun Y24 H locs e_Y24 hw => ?_)
  replace h := h.2 Y24 e_Y24
  refine lv_aload_n hx hb d_Mod_init_37 rfl (lv_at hl 0 rfl) ?_
  refine lv_sipush (v := 500) hx hb d_Mod_init_38 (by decide) ?_
  refine x_newA1 (t := 46) (i := 0) hx hb hK hw rfl (by decide) (at0 := .int) rfl k_96 (by decide) (by decide) hRc hRs hbd h.1.1 h.1.2 d_Mod_init_41 (fun b25 k26 n26 Y27 L28 I29 H q1 q2 q3 q4 q5 hw hbd => ?_)
  replace h := h.2 b25 k26 n26 Y27 L28 I29 q1 q2 q3 q4 q5
  clear q1 q2 q3 q4 q5
  refine x_pRF (t := 30) (i := 0) (j := 6) hx hb hK hw hown h.1 rfl (by decide) (by decide) (x_wd hK k_804 rfl) (fun _ h => h) rfl hnm rfl fk_8_6 d_Mod_init_43 (fun Y30 H locs e_Y30 hw => ?_)
  replace h := h.2 Y30 e_Y30
  refine lv_aload_n hx hb d_Mod_init_46 rfl (lv_at hl 0 rfl) ?_
  refine lv_sipush (v := 500) hx hb d_Mod_init_47 (by decide) ?_
  refine x_newA1 (t := 47) (i := 0) hx hb hK hw rfl (by decide) (at0 := .int) rfl k_96 (by decide) (by decide) hRc hRs hbd h.1.1 h.1.2 d_Mod_init_50 (fun b31 k32 n32 Y33 L34 I35 H q1 q2 q3 q4 q5 hw hbd => ?_)
  replace h := h.2 b31 k32 n32 Y33 L34 I35 q1 q2 q3 q4 q5
  clear q1 q2 q3 q4 q5
  refine x_pRF (t := 30) (i := 0) (j := 7) hx hb hK hw hown h.1 rfl (by decide) (by decide) (x_wd hK k_805 rfl) (fun _ h => h) rfl hnm rfl fk_8_7 d_Mod_init_52 (fun Y36 H locs e_Y36 hw => ?_)
  replace h := h.2 Y36 e_Y36
  refine lv_aload_n hx hb d_Mod_init_55 rfl (lv_at hl 0 rfl) ?_
  refine lv_sipush (v := 500) hx hb d_Mod_init_56 (by decide) ?_
  refine x_newA1 (t := 48) (i := 0) hx hb hK hw rfl (by decide) (at0 := .int) rfl k_96 (by decide) (by decide) hRc hRs hbd h.1.1 h.1.2 d_Mod_init_59 (fun b37 k38 n38 Y39 L40 I41 H q1 q2 q3 q4 q5 hw hbd => ?_)
  replace h := h.2 b37 k38 n38 Y39 L40 I41 q1 q2 q3 q4 q5
  clear q1 q2 q3 q4 q5
  refine x_pRF (t := 30) (i := 0) (j := 8) hx hb hK hw hown h.1 rfl (by decide) (by decide) (x_wd hK k_806 rfl) (fun _ h => h) rfl hnm rfl fk_8_8 d_Mod_init_61 (fun Y42 H locs e_Y42 hw => ?_)
  replace h := h.2 Y42 e_Y42
  refine lv_aload_n hx hb d_Mod_init_64 rfl (lv_at hl 0 rfl) ?_
  refine lv_sipush (v := 300) hx hb d_Mod_init_65 (by decide) ?_
  refine x_newA1 (t := 50) (i := 0) hx hb hK hw rfl (by decide) (at0 := .int) rfl k_96 (by decide) (by decide) hRc hRs hbd h.1.1 h.1.2 d_Mod_init_68 (fun b43 k44 n44 Y45 L46 I47 H q1 q2 q3 q4 q5 hw hbd => ?_)
  replace h := h.2 b43 k44 n44 Y45 L46 I47 q1 q2 q3 q4 q5
  clear q1 q2 q3 q4 q5
  refine x_pRF (t := 30) (i := 0) (j := 10) hx hb hK hw hown h.1 rfl (by decide) (by decide) (x_wd hK k_808 rfl) (fun _ h => h) rfl hnm rfl fk_8_10 d_Mod_init_70 (fun Y48 H locs e_Y48 hw => ?_)
  replace h := h.2 Y48 e_Y48
  refine lv_aload_n hx hb d_Mod_init_73 rfl (lv_at hl 0 rfl) ?_
  refine lv_sipush (v := 192) hx hb d_Mod_init_74 (by decide) ?_
  refine x_newA1 (t := 52) (i := 0) hx hb hK hw rfl (by decide) (at0 := .int) rfl k_96 (by decide) (by decide) hRc hRs hbd h.1.1 h.1.2 d_Mod_init_77 (fun b49 k50 n50 Y51 L52 I53 H q1 q2 q3 q4 q5 hw hbd => ?_)
  replace h := h.2 b49 k50 n50 Y51 L52 I53 q1 q2 q3 q4 q5
  clear q1 q2 q3 q4 q5
  refine x_pRF (t := 30) (i := 0) (j := 12) hx hb hK hw hown h.1 rfl (by decide) (by decide) (x_wd hK k_810 rfl) (fun _ h => h) rfl hnm rfl fk_8_12 d_Mod_init_79 (fun Y54 H locs e_Y54 hw => ?_)
  replace h := h.2 Y54 e_Y54
  refine lv_aload_n hx hb d_Mod_init_82 rfl (lv_at hl 0 rfl) ?_
  refine lv_sipush (v := 4000) hx hb d_Mod_init_83 (by decide) ?_
  refine x_newA1 (t := 53) (i := 0) hx hb hK hw rfl (by decide) (at0 := .int) rfl k_96 (by decide) (by decide) hRc hRs hbd h.1.1 h.1.2 d_Mod_init_86 (fun b55 k56 n56 Y57 L58 I59 H q1 q2 q3 q4 q5 hw hbd => ?_)
  replace h := h.2 b55 k56 n56 Y57 L58 I59 q1 q2 q3 q4 q5
  clear q1 q2 q3 q4 q5
  refine x_pRF (t := 30) (i := 0) (j := 13) hx hb hK hw hown h.1 rfl (by decide) (by decide) (x_wd hK k_811 rfl) (fun _ h => h) rfl hnm rfl fk_8_13 d_Mod_init_88 (fun Y60 H locs e_Y60 hw => ?_)
  replace h := h.2 Y60 e_Y60
  refine lv_aload_n hx hb d_Mod_init_91 rfl (lv_at hl 0 rfl) ?_
  refine lv_sipush (v := 4000) hx hb d_Mod_init_92 (by decide) ?_
  refine x_newA1 (t := 54) (i := 0) hx hb hK hw rfl (by decide) (at0 := .int) rfl k_96 (by decide) (by decide) hRc hRs hbd h.1.1 h.1.2 d_Mod_init_95 (fun b61 k62 n62 Y63 L64 I65 H q1 q2 q3 q4 q5 hw hbd => ?_)
  replace h := h.2 b61 k62 n62 Y63 L64 I65 q1 q2 q3 q4 q5
  clear q1 q2 q3 q4 q5
  refine x_pRF (t := 30) (i := 0) (j := 14) hx hb hK hw hown h.1 rfl (by decide) (by decide) (x_wd hK k_812 rfl) (fun _ h => h) rfl hnm rfl fk_8_14 d_Mod_init_97 (fun Y66 H locs e_Y66 hw => ?_)
  replace h := h.2 Y66 e_Y66
  refine lv_aload_n hx hb d_Mod_init_100 rfl (lv_at hl 0 rfl) ?_
  refine lv_sipush (v := 4000) hx hb d_Mod_init_101 (by decide) ?_
  refine x_newA1 (t := 55) (i := 0) hx hb hK hw rfl (by decide) (at0 := .int) rfl k_96 (by decide) (by decide) hRc hRs hbd h.1.1 h.1.2 d_Mod_init_104 (fun b67 k68 n68 Y69 L70 I71 H q1 q2 q3 q4 q5 hw hbd => ?_)
  replace h := h.2 b67 k68 n68 Y69 L70 I71 q1 q2 q3 q4 q5
  clear q1 q2 q3 q4 q5
  refine x_pRF (t := 30) (i := 0) (j := 15) hx hb hK hw hown h.1 rfl (by decide) (by decide) (x_wd hK k_813 rfl) (fun _ h => h) rfl hnm rfl fk_8_15 d_Mod_init_106 (fun Y72 H locs e_Y72 hw => ?_)
  replace h := h.2 Y72 e_Y72
  refine lv_aload_n hx hb d_Mod_init_109 rfl (lv_at hl 0 rfl) ?_
  refine lv_bipush (v := 8) hx hb d_Mod_init_110 (by decide) ?_
  refine x_newA1 (t := 56) (i := 0) hx hb hK hw rfl (by decide) (at0 := .int) rfl k_96 (by decide) (by decide) hRc hRs hbd h.1.1 h.1.2 d_Mod_init_112 (fun b73 k74 n74 Y75 L76 I77 H q1 q2 q3 q4 q5 hw hbd => ?_)
  replace h := h.2 b73 k74 n74 Y75 L76 I77 q1 q2 q3 q4 q5
  clear q1 q2 q3 q4 q5
  refine x_pRF (t := 30) (i := 0) (j := 16) hx hb hK hw hown h.1 rfl (by decide) (by decide) (x_wd hK k_814 rfl) (fun _ h => h) rfl hnm rfl fk_8_16 d_Mod_init_114 (fun Y78 H locs e_Y78 hw => ?_)
  replace h := h.2 Y78 e_Y78
  refine lv_aload_n hx hb d_Mod_init_117 rfl (lv_at hl 0 rfl) ?_
  refine lv_bipush (v := 8) hx hb d_Mod_init_118 (by decide) ?_
  refine x_newA1 (t := 57) (i := 0) hx hb hK hw rfl (by decide) (at0 := .int) rfl k_96 (by decide) (by decide) hRc hRs hbd h.1.1 h.1.2 d_Mod_init_120 (fun b79 k80 n80 Y81 L82 I83 H q1 q2 q3 q4 q5 hw hbd => ?_)
  replace h := h.2 b79 k80 n80 Y81 L82 I83 q1 q2 q3 q4 q5
  clear q1 q2 q3 q4 q5
  refine x_pRF (t := 30) (i := 0) (j := 17) hx hb hK hw hown h.1 rfl (by decide) (by decide) (x_wd hK k_815 rfl) (fun _ h => h) rfl hnm rfl fk_8_17 d_Mod_init_122 (fun Y84 H locs e_Y84 hw => ?_)
  replace h := h.2 Y84 e_Y84
  refine lv_aload_n hx hb d_Mod_init_125 rfl (lv_at hl 0 rfl) ?_
  refine lv_sipush (v := 256) hx hb d_Mod_init_126 (by decide) ?_
  refine x_newA1 (t := 59) (i := 0) hx hb hK hw rfl (by decide) (at0 := .int) rfl k_96 (by decide) (by decide) hRc hRs hbd h.1.1 h.1.2 d_Mod_init_129 (fun b85 k86 n86 Y87 L88 I89 H q1 q2 q3 q4 q5 hw hbd => ?_)
  replace h := h.2 b85 k86 n86 Y87 L88 I89 q1 q2 q3 q4 q5
  clear q1 q2 q3 q4 q5
  refine x_pRF (t := 30) (i := 0) (j := 19) hx hb hK hw hown h.1 rfl (by decide) (by decide) (x_wd hK k_817 rfl) (fun _ h => h) rfl hnm rfl fk_8_19 d_Mod_init_131 (fun Y90 H locs e_Y90 hw => ?_)
  replace h := h.2 Y90 e_Y90
  refine lv_aload_n hx hb d_Mod_init_134 rfl (lv_at hl 0 rfl) ?_
  refine lv_bipush (v := 8) hx hb d_Mod_init_135 (by decide) ?_
  refine x_newA1 (t := 60) (i := 0) hx hb hK hw rfl (by decide) (at0 := .int) rfl k_96 (by decide) (by decide) hRc hRs hbd h.1.1 h.1.2 d_Mod_init_137 (fun b91 k92 n92 Y93 L94 I95 H q1 q2 q3 q4 q5 hw hbd => ?_)
  replace h := h.2 b91 k92 n92 Y93 L94 I95 q1 q2 q3 q4 q5
  clear q1 q2 q3 q4 q5
  refine x_pRF (t := 30) (i := 0) (j := 20) hx hb hK hw hown h.1 rfl (by decide) (by decide) (x_wd hK k_818 rfl) (fun _ h => h) rfl hnm rfl fk_8_20 d_Mod_init_139 (fun Y96 H locs e_Y96 hw => ?_)
  replace h := h.2 Y96 e_Y96
  refine lv_aload_n hx hb d_Mod_init_142 rfl (lv_at hl 0 rfl) ?_
  refine lv_bipush (v := 8) hx hb d_Mod_init_143 (by decide) ?_
  refine x_newA1 (t := 61) (i := 0) hx hb hK hw rfl (by decide) (at0 := .int) rfl k_96 (by decide) (by decide) hRc hRs hbd h.1.1 h.1.2 d_Mod_init_145 (fun b97 k98 n98 Y99 L100 I101 H q1 q2 q3 q4 q5 hw hbd => ?_)
  replace h := h.2 b97 k98 n98 Y99 L100 I101 q1 q2 q3 q4 q5
  clear q1 q2 q3 q4 q5
  refine x_pRF (t := 30) (i := 0) (j := 21) hx hb hK hw hown h.1 rfl (by decide) (by decide) (x_wd hK k_819 rfl) (fun _ h => h) rfl hnm rfl fk_8_21 d_Mod_init_147 (fun Y102 H locs e_Y102 hw => ?_)
  replace h := h.2 Y102 e_Y102
  refine lv_aload_n hx hb d_Mod_init_150 rfl (lv_at hl 0 rfl) ?_
  refine lv_bipush (v := 64) hx hb d_Mod_init_151 (by decide) ?_
  refine x_newA1 (t := 62) (i := 0) hx hb hK hw rfl (by decide) (at0 := .int) rfl k_96 (by decide) (by decide) hRc hRs hbd h.1.1 h.1.2 d_Mod_init_153 (fun b103 k104 n104 Y105 L106 I107 H q1 q2 q3 q4 q5 hw hbd => ?_)
  replace h := h.2 b103 k104 n104 Y105 L106 I107 q1 q2 q3 q4 q5
  clear q1 q2 q3 q4 q5
  refine x_pRF (t := 30) (i := 0) (j := 22) hx hb hK hw hown h.1 rfl (by decide) (by decide) (x_wd hK k_820 rfl) (fun _ h => h) rfl hnm rfl fk_8_22 d_Mod_init_155 (fun Y108 H locs e_Y108 hw => ?_)
  replace h := h.2 Y108 e_Y108
  refine lv_aload_n hx hb d_Mod_init_158 rfl (lv_at hl 0 rfl) ?_
  refine lv_bipush (v := 8) hx hb d_Mod_init_159 (by decide) ?_
  refine x_newA1 (t := 63) (i := 0) hx hb hK hw rfl (by decide) (at0 := .int) rfl k_96 (by decide) (by decide) hRc hRs hbd h.1.1 h.1.2 d_Mod_init_161 (fun b109 k110 n110 Y111 L112 I113 H q1 q2 q3 q4 q5 hw hbd => ?_)
  replace h := h.2 b109 k110 n110 Y111 L112 I113 q1 q2 q3 q4 q5
  clear q1 q2 q3 q4 q5
  refine x_pRF (t := 30) (i := 0) (j := 23) hx hb hK hw hown h.1 rfl (by decide) (by decide) (x_wd hK k_821 rfl) (fun _ h => h) rfl hnm rfl fk_8_23 d_Mod_init_163 (fun Y114 H locs e_Y114 hw => ?_)
  replace h := h.2 Y114 e_Y114
  refine lv_aload_n hx hb d_Mod_init_166 rfl (lv_at hl 0 rfl) ?_
  refine lv_bipush (v := 8) hx hb d_Mod_init_167 (by decide) ?_
  refine x_newA1 (t := 64) (i := 0) hx hb hK hw rfl (by decide) (at0 := .int) rfl k_96 (by decide) (by decide) hRc hRs hbd h.1.1 h.1.2 d_Mod_init_169 (fun b115 k116 n116 Y117 L118 I119 H q1 q2 q3 q4 q5 hw hbd => ?_)
  replace h := h.2 b115 k116 n116 Y117 L118 I119 q1 q2 q3 q4 q5
  clear q1 q2 q3 q4 q5
  refine x_pRF (t := 30) (i := 0) (j := 24) hx hb hK hw hown h.1 rfl (by decide) (by decide) (x_wd hK k_822 rfl) (fun _ h => h) rfl hnm rfl fk_8_24 d_Mod_init_171 (fun Y120 H locs e_Y120 hw => ?_)
  replace h := h.2 Y120 e_Y120
  refine lv_aload_n hx hb d_Mod_init_174 rfl (lv_at hl 0 rfl) ?_
  refine lv_bipush (v := 8) hx hb d_Mod_init_175 (by decide) ?_
  refine x_newA1 (t := 65) (i := 0) hx hb hK hw rfl (by decide) (at0 := .int) rfl k_96 (by decide) (by decide) hRc hRs hbd h.1.1 h.1.2 d_Mod_init_177 (fun b121 k122 n122 Y123 L124 I125 H q1 q2 q3 q4 q5 hw hbd => ?_)
  replace h := h.2 b121 k122 n122 Y123 L124 I125 q1 q2 q3 q4 q5
  clear q1 q2 q3 q4 q5
  refine x_pRF (t := 30) (i := 0) (j := 25) hx hb hK hw hown h.1 rfl (by decide) (by decide) (x_wd hK k_823 rfl) (fun _ h => h) rfl hnm rfl fk_8_25 d_Mod_init_179 (fun Y126 H locs e_Y126 hw => ?_)
  replace h := h.2 Y126 e_Y126
  refine lv_aload_n hx hb d_Mod_init_182 rfl (lv_at hl 0 rfl) ?_
  refine lv_bipush (v := 8) hx hb d_Mod_init_183 (by decide) ?_
  refine x_newA1 (t := 66) (i := 0) hx hb hK hw rfl (by decide) (at0 := .int) rfl k_96 (by decide) (by decide) hRc hRs hbd h.1.1 h.1.2 d_Mod_init_185 (fun b127 k128 n128 Y129 L130 I131 H q1 q2 q3 q4 q5 hw hbd => ?_)
  replace h := h.2 b127 k128 n128 Y129 L130 I131 q1 q2 q3 q4 q5
  clear q1 q2 q3 q4 q5
  refine x_pRF (t := 30) (i := 0) (j := 26) hx hb hK hw hown h.1 rfl (by decide) (by decide) (x_wd hK k_824 rfl) (fun _ h => h) rfl hnm rfl fk_8_26 d_Mod_init_187 (fun Y132 H locs e_Y132 hw => ?_)
  replace h := h.2 Y132 e_Y132
  refine lv_aload_n hx hb d_Mod_init_190 rfl (lv_at hl 0 rfl) ?_
  refine lv_bipush (v := 8) hx hb d_Mod_init_191 (by decide) ?_
  refine x_newA1 (t := 67) (i := 0) hx hb hK hw rfl (by decide) (at0 := .int) rfl k_96 (by decide) (by decide) hRc hRs hbd h.1.1 h.1.2 d_Mod_init_193 (fun b133 k134 n134 Y135 L136 I137 H q1 q2 q3 q4 q5 hw hbd => ?_)
  replace h := h.2 b133 k134 n134 Y135 L136 I137 q1 q2 q3 q4 q5
  clear q1 q2 q3 q4 q5
  refine x_pRF (t := 30) (i := 0) (j := 27) hx hb hK hw hown h.1 rfl (by decide) (by decide) (x_wd hK k_825 rfl) (fun _ h => h) rfl hnm rfl fk_8_27 d_Mod_init_195 (fun Y138 H locs e_Y138 hw => ?_)
  replace h := h.2 Y138 e_Y138
  refine lv_aload_n hx hb d_Mod_init_198 rfl (lv_at hl 0 rfl) ?_
  refine lv_bipush (v := 8) hx hb d_Mod_init_199 (by decide) ?_
  refine x_newA1 (t := 68) (i := 0) hx hb hK hw rfl (by decide) (at0 := .int) rfl k_96 (by decide) (by decide) hRc hRs hbd h.1.1 h.1.2 d_Mod_init_201 (fun b139 k140 n140 Y141 L142 I143 H q1 q2 q3 q4 q5 hw hbd => ?_)
  replace h := h.2 b139 k140 n140 Y141 L142 I143 q1 q2 q3 q4 q5
  clear q1 q2 q3 q4 q5
  refine x_pRF (t := 30) (i := 0) (j := 28) hx hb hK hw hown h.1 rfl (by decide) (by decide) (x_wd hK k_826 rfl) (fun _ h => h) rfl hnm rfl fk_8_28 d_Mod_init_203 (fun Y144 H locs e_Y144 hw => ?_)
  replace h := h.2 Y144 e_Y144
  exact x_vret hx hb hr hlk hw (Or.inl ⟨rfl, h⟩) hbd d_Mod_init_206
