def yw_Itr_init (g : x_G) (Q : x_Y → x_L → x_I → Nat → Nat → Prop) (X : Nat → x_Y → x_L → x_I → Nat → Nat → Prop) (a0 : Nat) (a1 : Nat) (Y : x_Y) (L : x_L) (I : x_I) (k n : Nat) : Prop :=
  (x_ok Y 17 0 ∧ x_ad Y 17 0 = a0) ∧
  ∀ Y1 : x_Y, Y1 = x_yr Y 17 0 3 (some a1) →
  (x_ok Y1 17 0 ∧ x_ad Y1 17 0 = a0) ∧
  ∀ I2 : x_I, I2 = x_u I 17 0 1 (-1 : Int32) →
  ((x_ok Y1 17 0 ∧ x_ad Y1 17 0 = a0) ∧ x_r Y1 17 0 3 = some (x_ad Y1 2 0)) ∧
  (x_ok Y1 2 0 ∧ x_ad Y1 2 0 = (x_ad Y1 2 0)) ∧
  (x_ok Y1 17 0 ∧ x_ad Y1 17 0 = a0) ∧
  ∀ I3 : x_I, I3 = x_u I2 17 0 2 (I2 2 0 2) →
  Q Y1 L I3 k n
set_option maxRecDepth 100000 in
set_option maxHeartbeats 4000000 in
theorem yc_Itr_init {l : Launch} {g : x_G} {Q : x_Y → x_L → x_I → Nat → Nat → Prop} {X : Nat → x_Y → x_L → x_I → Nat → Nat → Prop} {a0 : Nat} {a1 : Nat} {Y : x_Y} {L : x_L} {I : x_I} {k n : Nat} (h : yw_Itr_init g Q X a0 a1 Y L I k n) : x_C l y_Itr_init 1 g [.ref a0, .ref a1] Y L I k n (x_yV Q X) := by
  refine x_mth k_280 ?_
  intro p e R s m below meth c hE hnm hexn hw hk1 hn1
  obtain ⟨hx, hb, hml, hr, hlk, hown, hK, htr, hF, hLo, hRc, hRs⟩ := id hE
  have hbd : x_bd k n k n := ⟨Nat.le_refl _, hk1, Nat.le_refl _, hn1⟩
  have hl := lv_entry ([.ref a0, .ref a1]) (n := 2) (Nat.le_of_ble_eq_true rfl)
  generalize (lg_sl [.ref a0, .ref a1] ++ List.replicate (2 - (lg_sl [.ref a0, .ref a1]).length) Slot.unset).toArray = ls at hl ⊢
  have hl : lv_has ls 2 [(0, .ref a0), (1, .ref a1)] := hl
  generalize s.heap = H at hw ⊢
  generalize ([] : List Loc) = locs at hw ⊢
  unfold yw_Itr_init at h
  refine lv_aload_n hx hb d_Itr_init_0 rfl (lv_at hl 0 rfl) ?_
  refine lv_aload_n hx hb d_Itr_init_1 rfl (lv_at hl 1 rfl) ?_
  refine x_pRF (t := 17) (i := 0) (j := 3) hx hb hK hw hown h.1 rfl (by decide) (by decide) (x_wd hK k_285 rfl) (fun _ h => h) rfl hnm rfl fk_6_3 d_Itr_init_2 (fun Y1 H locs e_Y1 hw => ?_)
  replace h := h.2 Y1 e_Y1
  refine lv_aload_n hx hb d_Itr_init_5 rfl (lv_at hl 0 rfl) ?_
  refine x_objI (rest := []) hE hl.1 k_281 k_34 k_35 (by decide) (Nat.le_of_ble_eq_true rfl) d_Itr_init_6 ?_
  refine lv_aload_n hx hb d_Itr_init_9 rfl (lv_at hl 0 rfl) ?_
  refine lv_iconst (v := (-1)) hx hb d_Itr_init_10 (by decide) ?_
  refine x_pI1 (t := 17) (i := 0) (j := 1) hx hb hK hw hown h.1 rfl (by decide) (by decide) (x_wd hK k_283 rfl) (fun _ h => h) rfl rfl d_Itr_init_11 (fun I2 H locs e_I2 hw => ?_)
  replace h := h.2 I2 e_I2
  refine lv_aload_n hx hb d_Itr_init_14 rfl (lv_at hl 0 rfl) ?_
  refine lv_aload_n hx hb d_Itr_init_15 rfl (lv_at hl 0 rfl) ?_
  refine x_gR1 (t := 17) (i := 0) (j := 3) hx hb hK hw hown h.1 rfl (by decide) (by decide) (x_wd hK k_285 rfl) (fun _ h => h) fk_6_3 d_Itr_init_16 ?_
  replace h := h.2
  refine x_gI1 (t := 2) (i := 0) (j := 2) hx hb hK hw hown h.1 rfl (by decide) (by decide) (x_wd hK k_61 rfl) (fun _ h9 => x_sf hK h9) fk_2_2 d_Itr_init_19 ?_
  replace h := h.2
  refine x_pI1 (t := 17) (i := 0) (j := 2) hx hb hK hw hown h.1 rfl (by decide) (by decide) (x_wd hK k_284 rfl) (fun _ h => h) rfl rfl d_Itr_init_22 (fun I3 H locs e_I3 hw => ?_)
  replace h := h.2 I3 e_I3
  exact x_vret hx hb hr hlk hw (Or.inl ⟨rfl, h⟩) hbd d_Itr_init_25
def yw_AL_iterator (g : x_G) (Q : Nat → x_Y → x_L → x_I → Nat → Nat → Prop) (X : Nat → x_Y → x_L → x_I → Nat → Nat → Prop) (a0 : Nat) (Y : x_Y) (L : x_L) (I : x_I) (k n : Nat) : Prop :=
  (k + 1 ≤ 600288 ∧ n + x_nf 6 ≤ 7292554) ∧
  ∀ (b1 k2 n2 : Nat) (Y3 : x_Y) (L4 : x_L) (I5 : x_I), Y3 = x_yn Y 17 0 b1 (x_nf 6) (fun _ => none) → L4 = x_zl L 17 0 → I5 = x_zi I 17 0 → k2 = k + 1 → n2 = n + (x_nf 6) →
  yw_Itr_init g (fun Y8 L9 I10 k11 n11 =>
    Q b1 Y8 L9 I10 k11 n11) x_ynx b1 a0 Y3 L4 I5 k2 n2
set_option maxRecDepth 100000 in
set_option maxHeartbeats 4000000 in
theorem yc_AL_iterator {l : Launch} {g : x_G} {Q : Nat → x_Y → x_L → x_I → Nat → Nat → Prop} {X : Nat → x_Y → x_L → x_I → Nat → Nat → Prop} {a0 : Nat} {Y : x_Y} {L : x_L} {I : x_I} {k n : Nat} (h : yw_AL_iterator g Q X a0 Y L I k n) : x_C l y_AL_iterator 6 g [.ref a0] Y L I k n (x_yA Q X) := by
  refine x_mth k_275 ?_
  intro p e R s m below meth c hE hnm hexn hw hk1 hn1
  obtain ⟨hx, hb, hml, hr, hlk, hown, hK, htr, hF, hLo, hRc, hRs⟩ := id hE
  have hbd : x_bd k n k n := ⟨Nat.le_refl _, hk1, Nat.le_refl _, hn1⟩
  have hl := lv_entry ([.ref a0]) (n := 1) (Nat.le_of_ble_eq_true rfl)
  generalize (lg_sl [.ref a0] ++ List.replicate (1 - (lg_sl [.ref a0]).length) Slot.unset).toArray = ls at hl ⊢
  have hl : lv_has ls 1 [(0, .ref a0)] := hl
  generalize s.heap = H at hw ⊢
  generalize ([] : List Loc) = locs at hw ⊢
  unfold yw_AL_iterator at h
  refine x_newO (t := 17) (i := 0) hx hb hK hw hown rfl (by decide) k_276 k_277 k_16 hRc hRs hbd h.1.1 h.1.2 d_AL_iterator_0 (fun b1 k2 n2 Y3 L4 I5 H q1 q2 q3 q4 q5 hw hbd => ?_)
  replace h := h.2 b1 k2 n2 Y3 L4 I5 q1 q2 q3 q4 q5
  clear q1 q2 q3 q4 q5
  refine lv_dup hx hb d_AL_iterator_3 rfl ?_
  refine lv_aload_n hx hb d_AL_iterator_4 rfl (lv_at hl 0 rfl) ?_
  refine x_ygV (ls := ls) (rest := [.ref b1]) hE hw (yc_Itr_init h) (x_cd hK k_280) q_Itr_init (by decide) (by decide) hl.1 (Nat.le_of_ble_eq_true rfl) hbd d_AL_iterator_5 (x_toI (As := [.ref a0]) (b := b1) hx hb hown hK rfl k_278 k_279 k_280 q_Itr_init rfl rfl d_AL_iterator_5) (fun Y8 L9 I10 k11 n11 H locs h hw hb9 => ?_) (fun _ _ _ _ _ _ _ _ h9 => h9.elim)
  replace hbd := hbd.tr hb9
  try dsimp only at h
  exact x_aret hx hb hr (Or.inl ⟨_, rfl⟩) hlk hw (Or.inl ⟨_, rfl, h⟩) hbd d_AL_iterator_8
def yw_Itr_hasNext (g : x_G) (Q : Int32 → x_Y → x_L → x_I → Nat → Nat → Prop) (X : Nat → x_Y → x_L → x_I → Nat → Nat → Prop) (a0 : Nat) (Y : x_Y) (L : x_L) (I : x_I) (k n : Nat) : Prop :=
  (x_ok Y 17 0 ∧ x_ad Y 17 0 = a0) ∧
  ((x_ok Y 17 0 ∧ x_ad Y 17 0 = a0) ∧ x_r Y 17 0 3 = some (x_ad Y 2 0)) ∧
  (x_ok Y 2 0 ∧ x_ad Y 2 0 = (x_ad Y 2 0)) ∧
  (((I 17 0 0) = (I 2 0 1) →
    Q (0 : Int32) Y L I k n) ∧
  (¬ (I 17 0 0) = (I 2 0 1) →
    Q (1 : Int32) Y L I k n))
set_option maxRecDepth 100000 in
set_option maxHeartbeats 4000000 in
theorem yc_Itr_hasNext {l : Launch} {g : x_G} {Q : Int32 → x_Y → x_L → x_I → Nat → Nat → Prop} {X : Nat → x_Y → x_L → x_I → Nat → Nat → Prop} {a0 : Nat} {Y : x_Y} {L : x_L} {I : x_I} {k n : Nat} (h : yw_Itr_hasNext g Q X a0 Y L I k n) : x_C l y_Itr_hasNext 1 g [.ref a0] Y L I k n (x_yI Q X) := by
  refine x_mth k_304 ?_
  intro p e R s m below meth c hE hnm hexn hw hk1 hn1
  obtain ⟨hx, hb, hml, hr, hlk, hown, hK, htr, hF, hLo, hRc, hRs⟩ := id hE
  have hbd : x_bd k n k n := ⟨Nat.le_refl _, hk1, Nat.le_refl _, hn1⟩
  have hl := lv_entry ([.ref a0]) (n := 1) (Nat.le_of_ble_eq_true rfl)
  generalize (lg_sl [.ref a0] ++ List.replicate (1 - (lg_sl [.ref a0]).length) Slot.unset).toArray = ls at hl ⊢
  have hl : lv_has ls 1 [(0, .ref a0)] := hl
  generalize s.heap = H at hw ⊢
  generalize ([] : List Loc) = locs at hw ⊢
  unfold yw_Itr_hasNext at h
  refine lv_aload_n hx hb d_Itr_hasNext_0 rfl (lv_at hl 0 rfl) ?_
  refine x_gI1 (t := 17) (i := 0) (j := 0) hx hb hK hw hown h.1 rfl (by decide) (by decide) (x_wd hK k_282 rfl) (fun _ h => h) fk_6_0 d_Itr_hasNext_1 ?_
  replace h := h.2
  refine lv_aload_n hx hb d_Itr_hasNext_4 rfl (lv_at hl 0 rfl) ?_
  refine x_gR1 (t := 17) (i := 0) (j := 3) hx hb hK hw hown h.1 rfl (by decide) (by decide) (x_wd hK k_285 rfl) (fun _ h => h) fk_6_3 d_Itr_hasNext_5 ?_
  replace h := h.2
  refine x_gI1N (t := 2) (i := 0) (j := 1) hx hb hK hw hown h.1 rfl (by decide) (by decide) (x_wdF hK k_58) (fun _ h => h) fk_2_1 d_Itr_hasNext_8 ?_
  replace h := h.2
  refine lv_icmp_eq (tgt := 18) hx hb d_Itr_hasNext_11 (by decide) (fun c1 => ?_) (fun c1 => ?_)
  · replace h := h.1 c1
    refine lv_iconst (v := 0) hx hb d_Itr_hasNext_18 (by decide) ?_
    exact x_zret hx hb hr hlk hw (Or.inl rfl) (Or.inl ⟨_, rfl, h⟩) hbd d_Itr_hasNext_19
  · replace h := h.2 c1
    refine lv_iconst (v := 1) hx hb d_Itr_hasNext_14 (by decide) ?_
    refine lv_goto (tgt := 19) hx hb d_Itr_hasNext_15 (by decide) ?_
    exact x_zret hx hb hr hlk hw (Or.inr rfl) (Or.inl ⟨_, rfl, h⟩) hbd d_Itr_hasNext_19
def yw_Itr_checkForComodification (g : x_G) (Q : x_Y → x_L → x_I → Nat → Nat → Prop) (X : Nat → x_Y → x_L → x_I → Nat → Nat → Prop) (a0 : Nat) (Y : x_Y) (L : x_L) (I : x_I) (k n : Nat) : Prop :=
  ((x_ok Y 17 0 ∧ x_ad Y 17 0 = a0) ∧ x_r Y 17 0 3 = some (x_ad Y 2 0)) ∧
  (x_ok Y 2 0 ∧ x_ad Y 2 0 = (x_ad Y 2 0)) ∧
  (x_ok Y 17 0 ∧ x_ad Y 17 0 = a0) ∧
  (((I 2 0 2) = (I 17 0 2) →
    Q Y L I k n) ∧
  (¬ (I 2 0 2) = (I 17 0 2) →
    False))
set_option maxRecDepth 100000 in
set_option maxHeartbeats 4000000 in
theorem yc_Itr_checkForComodification {l : Launch} {g : x_G} {Q : x_Y → x_L → x_I → Nat → Nat → Prop} {X : Nat → x_Y → x_L → x_I → Nat → Nat → Prop} {a0 : Nat} {Y : x_Y} {L : x_L} {I : x_I} {k n : Nat} (h : yw_Itr_checkForComodification g Q X a0 Y L I k n) : x_C l y_Itr_checkForComodification 6 g [.ref a0] Y L I k n (x_yV Q X) := by
  refine x_mth k_317 ?_
  intro p e R s m below meth c hE hnm hexn hw hk1 hn1
  obtain ⟨hx, hb, hml, hr, hlk, hown, hK, htr, hF, hLo, hRc, hRs⟩ := id hE
  have hbd : x_bd k n k n := ⟨Nat.le_refl _, hk1, Nat.le_refl _, hn1⟩
  have hl := lv_entry ([.ref a0]) (n := 1) (Nat.le_of_ble_eq_true rfl)
  generalize (lg_sl [.ref a0] ++ List.replicate (1 - (lg_sl [.ref a0]).length) Slot.unset).toArray = ls at hl ⊢
  have hl : lv_has ls 1 [(0, .ref a0)] := hl
  generalize s.heap = H at hw ⊢
  generalize ([] : List Loc) = locs at hw ⊢
  unfold yw_Itr_checkForComodification at h
  refine lv_aload_n hx hb d_Itr_checkForComodification_0 rfl (lv_at hl 0 rfl) ?_
  refine x_gR1 (t := 17) (i := 0) (j := 3) hx hb hK hw hown h.1 rfl (by decide) (by decide) (x_wd hK k_285 rfl) (fun _ h => h) fk_6_3 d_Itr_checkForComodification_1 ?_
  replace h := h.2
  refine x_gI1 (t := 2) (i := 0) (j := 2) hx hb hK hw hown h.1 rfl (by decide) (by decide) (x_wd hK k_61 rfl) (fun _ h9 => x_sf hK h9) fk_2_2 d_Itr_checkForComodification_4 ?_
  replace h := h.2
  refine lv_aload_n hx hb d_Itr_checkForComodification_7 rfl (lv_at hl 0 rfl) ?_
  refine x_gI1 (t := 17) (i := 0) (j := 2) hx hb hK hw hown h.1 rfl (by decide) (by decide) (x_wd hK k_284 rfl) (fun _ h => h) fk_6_2 d_Itr_checkForComodification_8 ?_
  replace h := h.2
  refine lv_icmp_eq (tgt := 22) hx hb d_Itr_checkForComodification_11 (by decide) (fun c1 => ?_) (fun c1 => ?_)
  · replace h := h.1 c1
    exact x_vret hx hb hr hlk hw (Or.inl ⟨rfl, h⟩) hbd d_Itr_checkForComodification_22
  · replace h := h.2 c1
    exact h.elim
def yw_Itr_next (g : x_G) (Q : Nat → x_Y → x_L → x_I → Nat → Nat → Prop) (X : Nat → x_Y → x_L → x_I → Nat → Nat → Prop) (a0 : Nat) (Y : x_Y) (L : x_L) (I : x_I) (k n : Nat) : Prop :=
  (x_ok Y 17 0 ∧ x_ad Y 17 0 = a0) ∧
  yw_Itr_checkForComodification g (fun Y3 L4 I5 k6 n6 =>
    (x_ok Y3 17 0 ∧ x_ad Y3 17 0 = a0) ∧
    ∀ x7 : Int32, x7 = (I5 17 0 0) →
    ((x_ok Y3 17 0 ∧ x_ad Y3 17 0 = a0) ∧ x_r Y3 17 0 3 = some (x_ad Y3 2 0)) ∧
    (x_ok Y3 2 0 ∧ x_ad Y3 2 0 = (x_ad Y3 2 0)) ∧
    ((x7 < (I5 2 0 1) →
      ((x_ok Y3 17 0 ∧ x_ad Y3 17 0 = a0) ∧ x_r Y3 17 0 3 = some (x_ad Y3 2 0)) ∧
      ((x_ok Y3 2 0 ∧ x_ad Y3 2 0 = (x_ad Y3 2 0)) ∧ x_r Y3 2 0 0 = some (x_ad Y3 3 0)) ∧
      (x_ok Y3 3 0 ∧ x_ad Y3 3 0 = (x_ad Y3 3 0)) ∧
      ((x7 < (nI (x_n Y3 3 0)) →
        (x_ok Y3 17 0 ∧ x_ad Y3 17 0 = a0) ∧
        ∀ I10 : x_I, I10 = x_u I5 17 0 0 (x7 + (1 : Int32)) →
        (x_ok Y3 17 0 ∧ x_ad Y3 17 0 = a0) ∧
        ∀ I11 : x_I, I11 = x_u I10 17 0 1 x7 →
        ((x_ok Y3 3 0 ∧ x_ad Y3 3 0 = (x_ad Y3 3 0)) ∧ vp_in x7 (x_n Y3 3 0)) ∧
        ∃ c12 : Nat, x_r Y3 3 0 x7.toNatClampNeg = some c12 ∧
        Q c12 Y3 L4 I11 k6 n6) ∧
      (¬ x7 < (nI (x_n Y3 3 0)) →
        False))) ∧
    (¬ x7 < (I5 2 0 1) →
      False))) x_ynx a0 Y L I k n
set_option maxRecDepth 100000 in
set_option maxHeartbeats 4000000 in
theorem yc_Itr_next {l : Launch} {g : x_G} {Q : Nat → x_Y → x_L → x_I → Nat → Nat → Prop} {X : Nat → x_Y → x_L → x_I → Nat → Nat → Prop} {a0 : Nat} {Y : x_Y} {L : x_L} {I : x_I} {k n : Nat} (h : yw_Itr_next g Q X a0 Y L I k n) : x_C l y_Itr_next 7 g [.ref a0] Y L I k n (x_yA Q X) := by
  refine x_mth k_313 ?_
  intro p e R s m below meth c hE hnm hexn hw hk1 hn1
  obtain ⟨hx, hb, hml, hr, hlk, hown, hK, htr, hF, hLo, hRc, hRs⟩ := id hE
  have hbd : x_bd k n k n := ⟨Nat.le_refl _, hk1, Nat.le_refl _, hn1⟩
  have hl := lv_entry ([.ref a0]) (n := 3) (Nat.le_of_ble_eq_true rfl)
  generalize (lg_sl [.ref a0] ++ List.replicate (3 - (lg_sl [.ref a0]).length) Slot.unset).toArray = ls at hl ⊢
  have hl : lv_has ls 3 [(0, .ref a0)] := hl
  generalize s.heap = H at hw ⊢
  generalize ([] : List Loc) = locs at hw ⊢
  unfold yw_Itr_next at h
  refine lv_aload_n hx hb d_Itr_next_0 rfl (lv_at hl 0 rfl) ?_
  have o9 := h.1
  replace h := h.2
  refine x_ygV (ls := ls) (rest := []) hE hw (yc_Itr_checkForComodification h) (x_cd hK k_317) q_Itr_checkForComodification (by decide) (by decide) hl.1 (Nat.le_of_ble_eq_true rfl) hbd d_Itr_next_1 (x_toV (As := []) (b := a0) hx hb hown hK (x_recv1 (c0 := 6) hK hw o9 rfl (by decide)) k_314 k_315 k_316 ⟨_, x_cd hK k_317⟩ q_Itr_checkForComodification rfl rfl d_Itr_next_1) (fun Y3 L4 I5 k6 n6 H locs h hw hb9 => ?_) (fun _ _ _ _ _ _ _ _ h9 => h9.elim)
  replace hbd := hbd.tr hb9
  try dsimp only at h
  refine lv_aload_n hx hb d_Itr_next_4 rfl (lv_at hl 0 rfl) ?_
  refine x_gI1 (t := 17) (i := 0) (j := 0) hx hb hK hw hown h.1 rfl (by decide) (by decide) (x_wd hK k_282 rfl) (fun _ h => h) fk_6_0 d_Itr_next_5 ?_
  replace h := h.2
  refine lv_topi (fun x7 e_x7 => ?_)
  replace h := h x7 e_x7
  refine lv_istore_n (lv' := [(1, .int x7), (0, .ref a0)]) hx hb d_Itr_next_8 rfl hl (by decide) rfl (fun ls hl => ?_)
  refine lv_iload_n hx hb d_Itr_next_9 rfl (lv_at hl 0 rfl) ?_
  refine lv_aload_n hx hb d_Itr_next_10 rfl (lv_at hl 1 rfl) ?_
  refine x_gR1 (t := 17) (i := 0) (j := 3) hx hb hK hw hown h.1 rfl (by decide) (by decide) (x_wd hK k_285 rfl) (fun _ h => h) fk_6_3 d_Itr_next_11 ?_
  replace h := h.2
  refine x_gI1N (t := 2) (i := 0) (j := 1) hx hb hK hw hown h.1 rfl (by decide) (by decide) (x_wdF hK k_58) (fun _ h => h) fk_2_1 d_Itr_next_14 ?_
  replace h := h.2
  refine lv_icmp_lt (tgt := 28) hx hb d_Itr_next_17 (by decide) (fun c8 => ?_) (fun c8 => ?_)
  · replace h := h.1 c8
    refine lv_aload_n hx hb d_Itr_next_28 rfl (lv_at hl 1 rfl) ?_
    refine x_gR1 (t := 17) (i := 0) (j := 3) hx hb hK hw hown h.1 rfl (by decide) (by decide) (x_wd hK k_285 rfl) (fun _ h => h) fk_6_3 d_Itr_next_29 ?_
    replace h := h.2
    refine x_gR1 (t := 2) (i := 0) (j := 0) hx hb hK hw hown h.1 rfl (by decide) (by decide) (x_wd hK k_57 rfl) (fun _ h => h) fk_2_0 d_Itr_next_32 ?_
    replace h := h.2
    refine lv_astore_n (lv' := [(2, .ref (x_ad Y3 3 0)), (1, .int x7), (0, .ref a0)]) hx hb d_Itr_next_35 rfl hl (by decide) rfl (fun ls hl => ?_)
    refine lv_iload_n hx hb d_Itr_next_36 rfl (lv_at hl 1 rfl) ?_
    refine lv_aload_n hx hb d_Itr_next_37 rfl (lv_at hl 0 rfl) ?_
    refine x_alen1 (t := 3) (i := 0) hx hb hK hw ⟨h.1, rfl⟩ rfl (by decide) d_Itr_next_38 ?_
    replace h := h.2
    refine lv_icmp_lt (tgt := 50) hx hb d_Itr_next_39 (by decide) (fun c9 => ?_) (fun c9 => ?_)
    · replace h := h.1 c9
      refine lv_aload_n hx hb d_Itr_next_50 rfl (lv_at hl 2 rfl) ?_
      refine lv_iload_n hx hb d_Itr_next_51 rfl (lv_at hl 1 rfl) ?_
      refine lv_iconst (v := 1) hx hb d_Itr_next_52 (by decide) ?_
      refine lv_iadd hx hb d_Itr_next_53 ?_
      refine x_pI1 (t := 17) (i := 0) (j := 0) hx hb hK hw hown h.1 rfl (by decide) (by decide) (x_wd hK k_282 rfl) (fun _ h => h) rfl rfl d_Itr_next_54 (fun I10 H locs e_I10 hw => ?_)
      replace h := h.2 I10 e_I10
      refine lv_aload_n hx hb d_Itr_next_57 rfl (lv_at hl 0 rfl) ?_
      refine lv_aload_n hx hb d_Itr_next_58 rfl (lv_at hl 2 rfl) ?_
      refine lv_iload_n hx hb d_Itr_next_59 rfl (lv_at hl 1 rfl) ?_
      refine lv_dup_x1 hx hb d_Itr_next_60 rfl rfl ?_
      refine x_pI1 (t := 17) (i := 0) (j := 1) hx hb hK hw hown h.1 rfl (by decide) (by decide) (x_wd hK k_283 rfl) (fun _ h => h) rfl rfl d_Itr_next_61 (fun I11 H locs e_I11 hw => ?_)
      replace h := h.2 I11 e_I11
      obtain ⟨⟨o9, i9⟩, c12, r9, h⟩ := h
      refine x_aald1 (t := 3) (i := 0) hx hb hK hw o9 rfl (by decide) (by decide) i9 r9 d_Itr_next_64 ?_
      clear o9 i9 r9
      exact x_aret hx hb hr (Or.inl ⟨_, rfl⟩) hlk hw (Or.inl ⟨_, rfl, h⟩) hbd d_Itr_next_65
    · replace h := h.2 c9
      exact h.elim
  · replace h := h.2 c8
    exact h.elim
def yw_Led_supply_15 (g : x_G) (Q : Int32 → x_Y → x_L → x_I → Nat → Nat → Prop) (X : Nat → x_Y → x_L → x_I → Nat → Nat → Prop) : Nat → Nat → Int32 → Nat → x_Y → x_L → x_I → Nat → Nat → Prop
  | 0, _, _, _, _, _, _, _, _ => False
  | fu + 1, b0_, v1, b2_, Y, L, I, ka, na =>
    (x_ok Y 17 0 ∧ x_ad Y 17 0 = b2_) ∧
    yw_Itr_hasNext g (fun r8 Y10 L11 I12 k13 n13 =>
      ((r8 = 0 →
        Q v1 Y10 L11 I12 k13 n13) ∧
      (¬ r8 = 0 →
        (x_ok Y10 17 0 ∧ x_ad Y10 17 0 = b2_) ∧
        yw_Itr_next g (fun a16 Y17 L18 I19 k20 n20 =>
          ∃ i21 : Nat,
          (x_ok Y17 23 i21 ∧ x_ad Y17 23 i21 = a16) ∧
          (x_ok Y17 23 i21 ∧ x_ad Y17 23 i21 = a16) ∧
          ∀ x22 : Int32, x22 = (v1 + (I19 23 i21 0)) →
          yw_Led_supply_15 g Q X fu b0_ x22 b2_ Y17 L18 I19 k20 n20) x_ynx b2_ Y10 L11 I12 k13 n13))) x_ynx b2_ Y L I ka na
def yw_Led_supply (g : x_G) (Q : Int32 → x_Y → x_L → x_I → Nat → Nat → Prop) (X : Nat → x_Y → x_L → x_I → Nat → Nat → Prop) (a0 : Nat) (Y : x_Y) (L : x_L) (I : x_I) (k n : Nat) : Prop :=
  ∀ x1 : Int32, x1 = (0 : Int32) →
  ((x_ok Y 0 0 ∧ x_ad Y 0 0 = a0) ∧ x_r Y 0 0 0 = some (x_ad Y 1 0)) ∧
  ((x_ok Y 1 0 ∧ x_ad Y 1 0 = (x_ad Y 1 0)) ∧ x_r Y 1 0 0 = some (x_ad Y 2 0)) ∧
  (x_ok Y 2 0 ∧ x_ad Y 2 0 = (x_ad Y 2 0)) ∧
  yw_AL_iterator g (fun a3 Y4 L5 I6 k7 n7 =>
    ∃ fu : Nat, yw_Led_supply_15 g Q X fu a0 x1 a3 Y4 L5 I6 k7 n7) x_ynx (x_ad Y 2 0) Y L I k n
set_option maxRecDepth 100000 in
set_option maxHeartbeats 4000000 in
theorem yc_Led_supply_15 {l : Launch} {g : x_G} {p : Program} {e : Env} {R : Room} {s : State} {m : MethodId} {args : Array Value} {below : List Frame} {meth : Method} {c : Code} {k n : Nat} {Q : Int32 → x_Y → x_L → x_I → Nat → Nat → Prop} {X : Nat → x_Y → x_L → x_I → Nat → Nat → Prop} (hE : x_E l g p e R s m meth c "CallLedger" prog_1_method_17_code 4 (some .int) 8 k n) (hnm : meth.name = (y_Led_supply : MethodName).name) (hexn : c.exceptionTable.toList = []) :
    ∀ (fu : Nat) (b0_ : Nat) (v1 : Int32) (b2_ : Nat) (Y : x_Y) (L : x_L) (I : x_I) (ka na : Nat) (H : Heap) (locs : List Loc) (ls : Array Slot), yw_Led_supply_15 g Q X fu b0_ v1 b2_ Y L I ka na → x_WL g Y L I H locs → x_bd k n ka na → lv_has ls 4 [(0, .ref b0_), (1, .int v1), (2, .ref b2_)] → W p l e R s m args below meth c H locs (ka - k) (na - n) (x_Q g below s k n (x_yI Q X)) (F0 m 15 ls []) := by
  obtain ⟨hx, hb, hml, hr, hlk, hown, hK, htr, hF, hLo, hRc, hRs⟩ := id hE
  intro fu
  induction fu with
  | zero =>
    intro b0_ v1 b2_ Y L I ka na H locs ls h
    exact h.elim
  | succ fu ih =>
    intro b0_ v1 b2_ Y L I ka na H locs ls h hw hbd hl
    unfold yw_Led_supply_15 at h
    refine lv_aload_n hx hb d_Led_supply_15 rfl (lv_at hl 2 rfl) ?_
    have o9 := h.1
    replace h := h.2
    refine x_ygI (ls := ls) (rest := []) hE hw (yc_Itr_hasNext h) (x_cd hK k_304) q_Itr_hasNext (by decide) (by decide) hl.1 (Nat.le_of_ble_eq_true rfl) hbd d_Led_supply_16 (x_toF (C := "java/util/ArrayList$Itr") (x := y_Iter_hasNext) (As := []) (b := b2_) hx hb hown hK (hK.cls (c := 6) (by decide)).2 (x_recv1 hK hw o9 rfl (by decide)) k_296 k_302 k_300 (x_wdI hK (by decide) k_298 k_297 k_303 k_301 k_299) q_Iter_hasNext rfl rfl d_Led_supply_16) (fun r8 Y10 L11 I12 k13 n13 H locs h hw hb9 => ?_) (fun _ _ _ _ _ _ _ _ h9 => h9.elim)
    replace hbd := hbd.tr hb9
    try dsimp only at h
    refine lv_if_eq (tgt := 44) hx hb d_Led_supply_21 (by decide) (fun c14 => ?_) (fun c14 => ?_)
    · replace h := h.1 c14
      refine lv_iload_n hx hb d_Led_supply_44 rfl (lv_at hl 1 rfl) ?_
      exact x_iret hx hb hr hlk hw (Or.inl ⟨_, rfl, h⟩) hbd d_Led_supply_45
    · replace h := h.2 c14
      refine lv_aload_n hx hb d_Led_supply_24 rfl (lv_at hl 2 rfl) ?_
      have o9 := h.1
      replace h := h.2
      refine x_ygA (ls := ls) (rest := []) hE hw (yc_Itr_next h) (x_cd hK k_313) q_Itr_next (by decide) (by decide) hl.1 (Nat.le_of_ble_eq_true rfl) hbd d_Led_supply_25 (x_toF (C := "java/util/ArrayList$Itr") (x := y_Iter_next) (As := []) (b := b2_) hx hb hown hK (hK.cls (c := 6) (by decide)).2 (x_recv1 hK hw o9 rfl (by decide)) k_306 k_311 k_309 (x_wdI hK (by decide) k_308 k_307 k_312 k_310 k_299) q_Iter_next rfl rfl d_Led_supply_25) (fun a16 Y17 L18 I19 k20 n20 H locs h hw hb9 => ?_) (fun _ _ _ _ _ _ _ _ h9 => h9.elim)
      replace hbd := hbd.tr hb9
      try dsimp only at h
      obtain ⟨i21, h⟩ := h
      refine x_cast1 (t := 23) (i := i21) hx hb hK hw hown h.1 rfl (by decide) k_318 d_Led_supply_30 ?_
      replace h := h.2
      refine lv_astore_n (lv' := [(3, .ref a16), (0, .ref b0_), (1, .int v1), (2, .ref b2_)]) hx hb d_Led_supply_33 rfl hl (by decide) rfl (fun ls hl => ?_)
      refine lv_iload_n hx hb d_Led_supply_34 rfl (lv_at hl 2 rfl) ?_
      refine lv_aload_n hx hb d_Led_supply_35 rfl (lv_at hl 0 rfl) ?_
      refine x_gI1N (t := 23) (i := i21) (j := 0) hx hb hK hw hown h.1 rfl (by decide) (by decide) (x_wdF hK k_416) (fun _ h => h) fk_7_0 d_Led_supply_36 ?_
      replace h := h.2
      refine lv_iadd hx hb d_Led_supply_39 ?_
      refine lv_topi (fun x22 e_x22 => ?_)
      replace h := h x22 e_x22
      refine lv_istore_n (lv' := [(1, .int x22), (3, .ref a16), (0, .ref b0_), (2, .ref b2_)]) hx hb d_Led_supply_40 rfl hl (by decide) rfl (fun ls hl => ?_)
      refine lv_goto (tgt := 15) hx hb d_Led_supply_41 (by decide) ?_
      exact ih b0_ x22 b2_ Y17 L18 I19 k20 n20 H locs ls h hw hbd (lv_sub hl [2, 0, 3] rfl)
set_option maxRecDepth 100000 in
set_option maxHeartbeats 4000000 in
theorem yc_Led_supply {l : Launch} {g : x_G} {Q : Int32 → x_Y → x_L → x_I → Nat → Nat → Prop} {X : Nat → x_Y → x_L → x_I → Nat → Nat → Prop} {a0 : Nat} {Y : x_Y} {L : x_L} {I : x_I} {k n : Nat} (h : yw_Led_supply g Q X a0 Y L I k n) : x_C l y_Led_supply 8 g [.ref a0] Y L I k n (x_yI Q X) := by
  refine x_mth k_265 ?_
  intro p e R s m below meth c hE hnm hexn hw hk1 hn1
  obtain ⟨hx, hb, hml, hr, hlk, hown, hK, htr, hF, hLo, hRc, hRs⟩ := id hE
  have hbd : x_bd k n k n := ⟨Nat.le_refl _, hk1, Nat.le_refl _, hn1⟩
  have hl := lv_entry ([.ref a0]) (n := 4) (Nat.le_of_ble_eq_true rfl)
  generalize (lg_sl [.ref a0] ++ List.replicate (4 - (lg_sl [.ref a0]).length) Slot.unset).toArray = ls at hl ⊢
  have hl : lv_has ls 4 [(0, .ref a0)] := hl
  generalize s.heap = H at hw ⊢
  generalize ([] : List Loc) = locs at hw ⊢
  unfold yw_Led_supply at h
  refine lv_iconst (v := 0) hx hb d_Led_supply_0 (by decide) ?_
  refine lv_topi (fun x1 e_x1 => ?_)
  replace h := h x1 e_x1
  refine lv_istore_n (lv' := [(1, .int x1), (0, .ref a0)]) hx hb d_Led_supply_1 rfl hl (by decide) rfl (fun ls hl => ?_)
  refine lv_aload_n hx hb d_Led_supply_2 rfl (lv_at hl 1 rfl) ?_
  refine x_gR1 (t := 0) (i := 0) (j := 0) hx hb hK hw hown h.1 rfl (by decide) (by decide) (x_wd hK k_220 rfl) (fun _ h => h) fk_0_0 d_Led_supply_3 ?_
  replace h := h.2
  refine x_gR1N (t := 1) (i := 0) (j := 0) hx hb hK hw hown h.1 rfl (by decide) (by decide) (x_wdF hK k_129) (fun _ h => h) fk_1_0 d_Led_supply_6 ?_
  replace h := h.2
  have o9 := h.1
  replace h := h.2
  refine x_ygA (ls := ls) (rest := []) hE hw (yc_AL_iterator h) (x_cd hK k_275) q_AL_iterator (by decide) (by decide) hl.1 (Nat.le_of_ble_eq_true rfl) hbd d_Led_supply_9 (x_toF (C := "java/util/ArrayList") (x := y_List_iterator) (As := []) (b := (x_ad Y 2 0)) hx hb hown hK (hK.cls (c := 2) (by decide)).2 (x_recv1 hK hw o9 rfl (by decide)) k_267 k_273 k_271 (x_wdI hK (by decide) k_269 k_268 k_274 k_272 k_270) q_List_iterator rfl rfl d_Led_supply_9) (fun a3 Y4 L5 I6 k7 n7 H locs h hw hb9 => ?_) (fun _ _ _ _ _ _ _ _ h9 => h9.elim)
  replace hbd := hbd.tr hb9
  try dsimp only at h
  refine lv_astore_n (lv' := [(2, .ref a3), (1, .int x1), (0, .ref a0)]) hx hb d_Led_supply_14 rfl hl (by decide) rfl (fun ls hl => ?_)
  obtain ⟨fu, h⟩ := h
  exact yc_Led_supply_15 hE hnm hexn fu a0 x1 a3 Y4 L5 I6 k7 n7 H locs ls h hw hbd (lv_sub hl [2, 1, 0] rfl)
