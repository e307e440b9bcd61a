def yw_Led_fits (g : x_G) (Q : x_Y → x_L → x_I → Nat → Nat → Prop) (X : Nat → x_Y → x_L → x_I → Nat → Nat → Prop) (p0 : Int32) (Y : x_Y) (L : x_L) (I : x_I) (k n : Nat) : Prop :=
  ((¬ p0 = 0 →
    Q Y L I k n) ∧
  (p0 = 0 →
    k + 1 ≤ 600288 ∧ n + 6 ≤ 7292554 ∧ X 0 Y L I (k + 1) (n + 6)))
set_option maxRecDepth 100000 in
set_option maxHeartbeats 4000000 in
theorem yc_Led_fits {l : Launch} {g : x_G} {Q : x_Y → x_L → x_I → Nat → Nat → Prop} {X : Nat → x_Y → x_L → x_I → Nat → Nat → Prop} {p0 : Int32} {Y : x_Y} {L : x_L} {I : x_I} {k n : Nat} (h : yw_Led_fits g Q X p0 Y L I k n) : x_C l y_Led_fits 6 g [.int p0] Y L I k n (x_yV Q X) := by
  refine x_mth k_329 ?_
  intro p e R s m below meth c hE hnm hexn hw hk1 hn1
  obtain ⟨hx, hb, hml, hr, hlk, hown, hK, htr, hF, hLo, hRc, hRs⟩ := id hE
  have hbd : x_bd k n k n := ⟨Nat.le_refl _, hk1, Nat.le_refl _, hn1⟩
  have hl := lv_entry ([.int p0]) (n := 1) (Nat.le_of_ble_eq_true rfl)
  generalize (lg_sl [.int p0] ++ List.replicate (1 - (lg_sl [.int p0]).length) Slot.unset).toArray = ls at hl ⊢
  have hl : lv_has ls 1 [(0, .int p0)] := hl
  generalize s.heap = H at hw ⊢
  generalize ([] : List Loc) = locs at hw ⊢
  unfold yw_Led_fits at h
  refine lv_iload_n hx hb d_Led_fits_0 rfl (lv_at hl 0 rfl) ?_
  refine lv_if_ne (tgt := 14) hx hb d_Led_fits_1 (by decide) (fun c1 => ?_) (fun c1 => ?_)
  · replace h := h.1 c1
    exact x_vret hx hb hr hlk hw (Or.inl ⟨rfl, h⟩) hbd d_Led_fits_14
  · replace h := h.2 c1
    exact x_throw (kx := 0) hE hexn hw x_xk_0 (by decide) k_330 k_331 k_15 k_372 (by decide) (Nat.le_of_ble_eq_true rfl) hl.1 h.1 h.2.1 hbd d_Led_fits_4 d_Led_fits_7 d_Led_fits_8 d_Led_fits_10 d_Led_fits_13 (Or.inr ⟨_, rfl, h.2.2⟩)
def yw_Led_openD (g : x_G) (Q : Int32 → x_Y → x_L → x_I → Nat → Nat → Prop) (X : Nat → x_Y → x_L → x_I → Nat → Nat → Prop) (nA : Nat) (a0 : Nat) (p1 : Int32) (Y : x_Y) (L : x_L) (I : x_I) (k n : Nat) : Prop :=
  ((p1 < 0 →
    yw_Led_fits g (fun Y4 L5 I6 k7 n7 =>
      ((x_ok Y4 0 0 ∧ x_ad Y4 0 0 = a0) ∧ x_r Y4 0 0 0 = some (x_ad Y4 1 0)) ∧
      ((x_ok Y4 1 0 ∧ x_ad Y4 1 0 = (x_ad Y4 1 0)) ∧ x_r Y4 1 0 0 = some (x_ad Y4 2 0)) ∧
      (x_ok Y4 2 0 ∧ x_ad Y4 2 0 = (x_ad Y4 2 0)) ∧
      (((I6 2 0 1) = (24 : Int32) →
        Q (-1 : Int32) Y4 L5 I6 k7 n7) ∧
      (¬ (I6 2 0 1) = (24 : Int32) →
        (x_ok Y4 0 0 ∧ x_ad Y4 0 0 = a0) ∧
        yw_Led_supply g (fun r9 Y11 L12 I13 k14 n14 =>
          (((lg_cmp (r9.toInt64 + p1.toInt64) (2147483647 : Int64)) ≤ 0 →
            ((x_ok Y11 0 0 ∧ x_ad Y11 0 0 = a0) ∧ x_r Y11 0 0 0 = some (x_ad Y11 1 0)) ∧
            ((x_ok Y11 1 0 ∧ x_ad Y11 1 0 = (x_ad Y11 1 0)) ∧ x_r Y11 1 0 0 = some (x_ad Y11 2 0)) ∧
            (k14 + 1 ≤ 600288 ∧ n14 + x_nf 7 ≤ 7292554) ∧
            ∀ (b16 k17 n17 : Nat) (Y18 : x_Y) (L19 : x_L) (I20 : x_I), Y18 = x_yn Y11 23 nA b16 (x_nf 7) (fun _ => none) → L19 = x_zl L12 23 nA → I20 = x_zi I13 23 nA → k17 = k14 + 1 → n17 = n14 + (x_nf 7) →
            yw_Acc_init g (fun Y23 L24 I25 k26 n26 =>
              (x_ok Y23 2 0 ∧ x_ad Y23 2 0 = (x_ad Y11 2 0)) ∧
              yw_AL_add1D g (fun r27 Y29 L30 I31 k32 n32 =>
                ((x_ok Y29 0 0 ∧ x_ad Y29 0 0 = a0) ∧ x_r Y29 0 0 0 = some (x_ad Y29 1 0)) ∧
                ((x_ok Y29 1 0 ∧ x_ad Y29 1 0 = (x_ad Y29 1 0)) ∧ x_r Y29 1 0 0 = some (x_ad Y29 2 0)) ∧
                (x_ok Y29 2 0 ∧ x_ad Y29 2 0 = (x_ad Y29 2 0)) ∧
                Q ((I31 2 0 1) - (1 : Int32)) Y29 L30 I31 k32 n32) x_ynx nA (x_ad Y11 2 0) b16 Y23 L24 I25 k26 n26) x_ynx nA b16 p1 Y18 L19 I20 k17 n17) ∧
          (¬ (lg_cmp (r9.toInt64 + p1.toInt64) (2147483647 : Int64)) ≤ 0 →
            Q (-1 : Int32) Y11 L12 I13 k14 n14))) x_ynx a0 Y4 L5 I6 k7 n7))) X (0 : Int32) Y L I k n) ∧
  (¬ p1 < 0 →
    yw_Led_fits g (fun Y35 L36 I37 k38 n38 =>
      ((x_ok Y35 0 0 ∧ x_ad Y35 0 0 = a0) ∧ x_r Y35 0 0 0 = some (x_ad Y35 1 0)) ∧
      ((x_ok Y35 1 0 ∧ x_ad Y35 1 0 = (x_ad Y35 1 0)) ∧ x_r Y35 1 0 0 = some (x_ad Y35 2 0)) ∧
      (x_ok Y35 2 0 ∧ x_ad Y35 2 0 = (x_ad Y35 2 0)) ∧
      (((I37 2 0 1) = (24 : Int32) →
        Q (-1 : Int32) Y35 L36 I37 k38 n38) ∧
      (¬ (I37 2 0 1) = (24 : Int32) →
        (x_ok Y35 0 0 ∧ x_ad Y35 0 0 = a0) ∧
        yw_Led_supply g (fun r40 Y42 L43 I44 k45 n45 =>
          (((lg_cmp (r40.toInt64 + p1.toInt64) (2147483647 : Int64)) ≤ 0 →
            ((x_ok Y42 0 0 ∧ x_ad Y42 0 0 = a0) ∧ x_r Y42 0 0 0 = some (x_ad Y42 1 0)) ∧
            ((x_ok Y42 1 0 ∧ x_ad Y42 1 0 = (x_ad Y42 1 0)) ∧ x_r Y42 1 0 0 = some (x_ad Y42 2 0)) ∧
            (k45 + 1 ≤ 600288 ∧ n45 + x_nf 7 ≤ 7292554) ∧
            ∀ (b47 k48 n48 : Nat) (Y49 : x_Y) (L50 : x_L) (I51 : x_I), Y49 = x_yn Y42 23 nA b47 (x_nf 7) (fun _ => none) → L50 = x_zl L43 23 nA → I51 = x_zi I44 23 nA → k48 = k45 + 1 → n48 = n45 + (x_nf 7) →
            yw_Acc_init g (fun Y54 L55 I56 k57 n57 =>
              (x_ok Y54 2 0 ∧ x_ad Y54 2 0 = (x_ad Y42 2 0)) ∧
              yw_AL_add1D g (fun r58 Y60 L61 I62 k63 n63 =>
                ((x_ok Y60 0 0 ∧ x_ad Y60 0 0 = a0) ∧ x_r Y60 0 0 0 = some (x_ad Y60 1 0)) ∧
                ((x_ok Y60 1 0 ∧ x_ad Y60 1 0 = (x_ad Y60 1 0)) ∧ x_r Y60 1 0 0 = some (x_ad Y60 2 0)) ∧
                (x_ok Y60 2 0 ∧ x_ad Y60 2 0 = (x_ad Y60 2 0)) ∧
                Q ((I62 2 0 1) - (1 : Int32)) Y60 L61 I62 k63 n63) x_ynx nA (x_ad Y42 2 0) b47 Y54 L55 I56 k57 n57) x_ynx nA b47 p1 Y49 L50 I51 k48 n48) ∧
          (¬ (lg_cmp (r40.toInt64 + p1.toInt64) (2147483647 : Int64)) ≤ 0 →
            Q (-1 : Int32) Y42 L43 I44 k45 n45))) x_ynx a0 Y35 L36 I37 k38 n38))) X (1 : Int32) Y L I k n))
set_option maxRecDepth 100000 in
set_option maxHeartbeats 4000000 in
theorem yc_Led_openD {l : Launch} {g : x_G} {Q : Int32 → x_Y → x_L → x_I → Nat → Nat → Prop} {X : Nat → x_Y → x_L → x_I → Nat → Nat → Prop} {nA : Nat} {a0 : Nat} {p1 : Int32} {Y : x_Y} {L : x_L} {I : x_I} {k n : Nat} (h : yw_Led_openD g Q X nA a0 p1 Y L I k n) : x_C l y_Led_open 9 g [.ref a0, .int p1] Y L I k n (x_yI Q X) := by
  refine x_mth k_326 ?_
  intro p e R s m below meth c hE hnm hexn hw hk1 hn1
  obtain ⟨hx, hb, hml, hr, hlk, hown, hK, htr, hF, hLo, hRc, hRs⟩ := id hE
  have hbd : x_bd k n k n := ⟨Nat.le_refl _, hk1, Nat.le_refl _, hn1⟩
  have hl := lv_entry ([.ref a0, .int p1]) (n := 2) (Nat.le_of_ble_eq_true rfl)
  generalize (lg_sl [.ref a0, .int p1] ++ List.replicate (2 - (lg_sl [.ref a0, .int p1]).length) Slot.unset).toArray = ls at hl ⊢
  have hl : lv_has ls 2 [(0, .ref a0), (1, .int p1)] := hl
  generalize s.heap = H at hw ⊢
  generalize ([] : List Loc) = locs at hw ⊢
  unfold yw_Led_openD at h
  refine lv_iload_n hx hb d_Led_openD_0 rfl (lv_at hl 1 rfl) ?_
  refine lv_if_lt (tgt := 8) hx hb d_Led_openD_1 (by decide) (fun c1 => ?_) (fun c1 => ?_)
  · replace h := h.1 c1
    refine lv_iconst (v := 0) hx hb d_Led_openD_8 (by decide) ?_
    refine x_ygV (ls := ls) (rest := []) hE hw (yc_Led_fits h) (x_cd hK k_329) q_Led_fits (by decide) (by decide) hl.1 (Nat.le_of_ble_eq_true rfl) hbd d_Led_openD_9 (x_toS (As := [.int (0 : Int32)]) hx hb hown hK k_327 k_328 k_1 ⟨_, x_cd hK k_329⟩ q_Led_fits rfl rfl d_Led_openD_9) (fun Y4 L5 I6 k7 n7 H locs h hw hb9 => ?_) (fun kx Y9 L9 I9 k9 n9 H locs h hw hb9 => x_thr hlk (fun x h9 => by rw [hexn] at h9; cases h9) hw (Or.inr ⟨kx, rfl, h⟩) (hbd.tr hb9))
    replace hbd := hbd.tr hb9
    try dsimp only at h
    refine lv_aload_n hx hb d_Led_openD_12 rfl (lv_at hl 0 rfl) ?_
    refine x_gR1 (t := 0) (i := 0) (j := 0) hx hb hK hw hown h.1 rfl (by decide) (by decide) (x_wd hK k_220 rfl) (fun _ h => h) fk_0_0 d_Led_openD_13 ?_
    replace h := h.2
    refine x_gR1N (t := 1) (i := 0) (j := 0) hx hb hK hw hown h.1 rfl (by decide) (by decide) (x_wdF hK k_129) (fun _ h => h) fk_1_0 d_Led_openD_16 ?_
    replace h := h.2
    refine x_lsize1 (rest := []) hE hw h.1 k_399 (by decide) hl.1 (Nat.le_of_ble_eq_true rfl) hbd d_Led_openD_19 (fun H locs hw => ?_)
    replace h := h.2
    refine lv_bipush (v := 24) hx hb d_Led_openD_24 (by decide) ?_
    refine lv_icmp_eq (tgt := 44) hx hb d_Led_openD_26 (by decide) (fun c8 => ?_) (fun c8 => ?_)
    · replace h := h.1 c8
      refine lv_iconst (v := (-1)) hx hb d_Led_openD_44 (by decide) ?_
      exact x_iret hx hb hr hlk hw (Or.inl ⟨_, rfl, h⟩) hbd d_Led_openD_45
    · replace h := h.2 c8
      refine lv_aload_n hx hb d_Led_openD_29 rfl (lv_at hl 0 rfl) ?_
      have o9 := h.1
      replace h := h.2
      refine x_ygI (ls := ls) (rest := []) hE hw (yc_Led_supply h) (x_cd hK k_265) q_Led_supply (by decide) (by decide) hl.1 (Nat.le_of_ble_eq_true rfl) hbd d_Led_openD_30 (x_toV (As := []) (b := a0) hx hb hown hK (x_recv1 (c0 := 0) hK hw o9 rfl (by decide)) k_407 k_263 k_264 ⟨_, x_cd hK k_265⟩ q_Led_supply rfl rfl d_Led_openD_30) (fun r9 Y11 L12 I13 k14 n14 H locs h hw hb9 => ?_) (fun _ _ _ _ _ _ _ _ h9 => h9.elim)
      replace hbd := hbd.tr hb9
      try dsimp only at h
      refine lv_i2l hx hb d_Led_openD_33 rfl ?_
      refine lv_iload_n hx hb d_Led_openD_34 rfl (lv_at hl 1 rfl) ?_
      refine lv_i2l hx hb d_Led_openD_35 rfl ?_
      refine lv_ladd hx hb d_Led_openD_36 ?_
      refine lv_ldc2 (v := 2147483647) hx hb hown (x_wd hK k_408 rfl) d_Led_openD_37 ?_
      refine W.lcmp hx hb d_Led_openD_40 ?_
      refine lv_if_le (tgt := 46) hx hb d_Led_openD_41 (by decide) (fun c15 => ?_) (fun c15 => ?_)
      · replace h := h.1 c15
        refine lv_aload_n hx hb d_Led_openD_46 rfl (lv_at hl 0 rfl) ?_
        refine x_gR1 (t := 0) (i := 0) (j := 0) hx hb hK hw hown h.1 rfl (by decide) (by decide) (x_wd hK k_220 rfl) (fun _ h => h) fk_0_0 d_Led_openD_47 ?_
        replace h := h.2
        refine x_gR1N (t := 1) (i := 0) (j := 0) hx hb hK hw hown h.1 rfl (by decide) (by decide) (x_wdF hK k_129) (fun _ h => h) fk_1_0 d_Led_openD_50 ?_
        replace h := h.2
        refine x_newO (t := 23) (i := nA) hx hb hK hw hown rfl (by decide) k_318 k_409 k_17 hRc hRs hbd h.1.1 h.1.2 d_Led_openD_53 (fun b16 k17 n17 Y18 L19 I20 H q1 q2 q3 q4 q5 hw hbd => ?_)
        replace h := h.2 b16 k17 n17 Y18 L19 I20 q1 q2 q3 q4 q5
        clear q1 q2 q3 q4 q5
        refine lv_dup hx hb d_Led_openD_56 rfl ?_
        refine lv_iload_n hx hb d_Led_openD_57 rfl (lv_at hl 1 rfl) ?_
        refine x_ygV (ls := ls) (rest := [.ref b16, .ref (x_ad Y11 2 0)]) hE hw (yc_Acc_init h) (x_cd hK k_412) q_Acc_init (by decide) (by decide) hl.1 (Nat.le_of_ble_eq_true rfl) hbd d_Led_openD_58 (x_toI (As := [.int p1]) (b := b16) hx hb hown hK rfl k_410 k_411 k_412 q_Acc_init rfl rfl d_Led_openD_58) (fun Y23 L24 I25 k26 n26 H locs h hw hb9 => ?_) (fun _ _ _ _ _ _ _ _ h9 => h9.elim)
        replace hbd := hbd.tr hb9
        try dsimp only at h
        have o9 := h.1
        replace h := h.2
        refine x_ygI (ls := ls) (rest := []) hE hw (yc_AL_add1D h) (x_cd hK k_441) q_AL_add1 (by decide) (by decide) hl.1 (Nat.le_of_ble_eq_true rfl) hbd d_Led_openD_61 (x_toF (C := "java/util/ArrayList") (x := y_List_add) (As := [.ref b16]) (b := (x_ad Y11 2 0)) hx hb hown hK (hK.cls (c := 2) (by decide)).2 (x_recv1 hK hw o9 rfl (by decide)) k_434 k_439 k_437 (x_wdI hK (by decide) k_436 k_435 k_440 k_438 k_270) q_List_add rfl rfl d_Led_openD_61) (fun r27 Y29 L30 I31 k32 n32 H locs h hw hb9 => ?_) (fun _ _ _ _ _ _ _ _ h9 => h9.elim)
        replace hbd := hbd.tr hb9
        try dsimp only at h
        refine lv_pop hx hb d_Led_openD_66 rfl ?_
        refine lv_aload_n hx hb d_Led_openD_67 rfl (lv_at hl 0 rfl) ?_
        refine x_gR1 (t := 0) (i := 0) (j := 0) hx hb hK hw hown h.1 rfl (by decide) (by decide) (x_wd hK k_220 rfl) (fun _ h => h) fk_0_0 d_Led_openD_68 ?_
        replace h := h.2
        refine x_gR1N (t := 1) (i := 0) (j := 0) hx hb hK hw hown h.1 rfl (by decide) (by decide) (x_wdF hK k_129) (fun _ h => h) fk_1_0 d_Led_openD_71 ?_
        replace h := h.2
        refine x_lsize1 (rest := []) hE hw h.1 k_399 (by decide) hl.1 (Nat.le_of_ble_eq_true rfl) hbd d_Led_openD_74 (fun H locs hw => ?_)
        replace h := h.2
        refine lv_iconst (v := 1) hx hb d_Led_openD_79 (by decide) ?_
        refine lv_isub hx hb d_Led_openD_80 ?_
        exact x_iret hx hb hr hlk hw (Or.inl ⟨_, rfl, h⟩) hbd d_Led_openD_81
      · replace h := h.2 c15
        refine lv_iconst (v := (-1)) hx hb d_Led_openD_44 (by decide) ?_
        exact x_iret hx hb hr hlk hw (Or.inl ⟨_, rfl, h⟩) hbd d_Led_openD_45
  · replace h := h.2 c1
    refine lv_iconst (v := 1) hx hb d_Led_openD_4 (by decide) ?_
    refine lv_goto (tgt := 9) hx hb d_Led_openD_5 (by decide) ?_
    refine x_ygV (ls := ls) (rest := []) hE hw (yc_Led_fits h) (x_cd hK k_329) q_Led_fits (by decide) (by decide) hl.1 (Nat.le_of_ble_eq_true rfl) hbd d_Led_openD_9 (x_toS (As := [.int (1 : Int32)]) hx hb hown hK k_327 k_328 k_1 ⟨_, x_cd hK k_329⟩ q_Led_fits rfl rfl d_Led_openD_9) (fun Y35 L36 I37 k38 n38 H locs h hw hb9 => ?_) (fun kx Y9 L9 I9 k9 n9 H locs h hw hb9 => x_thr hlk (fun x h9 => by rw [hexn] at h9; cases h9) hw (Or.inr ⟨kx, rfl, h⟩) (hbd.tr hb9))
    replace hbd := hbd.tr hb9
    try dsimp only at h
    refine lv_aload_n hx hb d_Led_openD_12 rfl (lv_at hl 0 rfl) ?_
    refine x_gR1 (t := 0) (i := 0) (j := 0) hx hb hK hw hown h.1 rfl (by decide) (by decide) (x_wd hK k_220 rfl) (fun _ h => h) fk_0_0 d_Led_openD_13 ?_
    replace h := h.2
    refine x_gR1N (t := 1) (i := 0) (j := 0) hx hb hK hw hown h.1 rfl (by decide) (by decide) (x_wdF hK k_129) (fun _ h => h) fk_1_0 d_Led_openD_16 ?_
    replace h := h.2
    refine x_lsize1 (rest := []) hE hw h.1 k_399 (by decide) hl.1 (Nat.le_of_ble_eq_true rfl) hbd d_Led_openD_19 (fun H locs hw => ?_)
    replace h := h.2
    refine lv_bipush (v := 24) hx hb d_Led_openD_24 (by decide) ?_
    refine lv_icmp_eq (tgt := 44) hx hb d_Led_openD_26 (by decide) (fun c39 => ?_) (fun c39 => ?_)
    · replace h := h.1 c39
      refine lv_iconst (v := (-1)) hx hb d_Led_openD_44 (by decide) ?_
      exact x_iret hx hb hr hlk hw (Or.inl ⟨_, rfl, h⟩) hbd d_Led_openD_45
    · replace h := h.2 c39
      refine lv_aload_n hx hb d_Led_openD_29 rfl (lv_at hl 0 rfl) ?_
      have o9 := h.1
      replace h := h.2
      refine x_ygI (ls := ls) (rest := []) hE hw (yc_Led_supply h) (x_cd hK k_265) q_Led_supply (by decide) (by decide) hl.1 (Nat.le_of_ble_eq_true rfl) hbd d_Led_openD_30 (x_toV (As := []) (b := a0) hx hb hown hK (x_recv1 (c0 := 0) hK hw o9 rfl (by decide)) k_407 k_263 k_264 ⟨_, x_cd hK k_265⟩ q_Led_supply rfl rfl d_Led_openD_30) (fun r40 Y42 L43 I44 k45 n45 H locs h hw hb9 => ?_) (fun _ _ _ _ _ _ _ _ h9 => h9.elim)
      replace hbd := hbd.tr hb9
      try dsimp only at h
      refine lv_i2l hx hb d_Led_openD_33 rfl ?_
      refine lv_iload_n hx hb d_Led_openD_34 rfl (lv_at hl 1 rfl) ?_
      refine lv_i2l hx hb d_Led_openD_35 rfl ?_
      refine lv_ladd hx hb d_Led_openD_36 ?_
      refine lv_ldc2 (v := 2147483647) hx hb hown (x_wd hK k_408 rfl) d_Led_openD_37 ?_
      refine W.lcmp hx hb d_Led_openD_40 ?_
      refine lv_if_le (tgt := 46) hx hb d_Led_openD_41 (by decide) (fun c46 => ?_) (fun c46 => ?_)
      · replace h := h.1 c46
        refine lv_aload_n hx hb d_Led_openD_46 rfl (lv_at hl 0 rfl) ?_
        refine x_gR1 (t := 0) (i := 0) (j := 0) hx hb hK hw hown h.1 rfl (by decide) (by decide) (x_wd hK k_220 rfl) (fun _ h => h) fk_0_0 d_Led_openD_47 ?_
        replace h := h.2
        refine x_gR1N (t := 1) (i := 0) (j := 0) hx hb hK hw hown h.1 rfl (by decide) (by decide) (x_wdF hK k_129) (fun _ h => h) fk_1_0 d_Led_openD_50 ?_
        replace h := h.2
        refine x_newO (t := 23) (i := nA) hx hb hK hw hown rfl (by decide) k_318 k_409 k_17 hRc hRs hbd h.1.1 h.1.2 d_Led_openD_53 (fun b47 k48 n48 Y49 L50 I51 H q1 q2 q3 q4 q5 hw hbd => ?_)
        replace h := h.2 b47 k48 n48 Y49 L50 I51 q1 q2 q3 q4 q5
        clear q1 q2 q3 q4 q5
        refine lv_dup hx hb d_Led_openD_56 rfl ?_
        refine lv_iload_n hx hb d_Led_openD_57 rfl (lv_at hl 1 rfl) ?_
        refine x_ygV (ls := ls) (rest := [.ref b47, .ref (x_ad Y42 2 0)]) hE hw (yc_Acc_init h) (x_cd hK k_412) q_Acc_init (by decide) (by decide) hl.1 (Nat.le_of_ble_eq_true rfl) hbd d_Led_openD_58 (x_toI (As := [.int p1]) (b := b47) hx hb hown hK rfl k_410 k_411 k_412 q_Acc_init rfl rfl d_Led_openD_58) (fun Y54 L55 I56 k57 n57 H locs h hw hb9 => ?_) (fun _ _ _ _ _ _ _ _ h9 => h9.elim)
        replace hbd := hbd.tr hb9
        try dsimp only at h
        have o9 := h.1
        replace h := h.2
        refine x_ygI (ls := ls) (rest := []) hE hw (yc_AL_add1D h) (x_cd hK k_441) q_AL_add1 (by decide) (by decide) hl.1 (Nat.le_of_ble_eq_true rfl) hbd d_Led_openD_61 (x_toF (C := "java/util/ArrayList") (x := y_List_add) (As := [.ref b47]) (b := (x_ad Y42 2 0)) hx hb hown hK (hK.cls (c := 2) (by decide)).2 (x_recv1 hK hw o9 rfl (by decide)) k_434 k_439 k_437 (x_wdI hK (by decide) k_436 k_435 k_440 k_438 k_270) q_List_add rfl rfl d_Led_openD_61) (fun r58 Y60 L61 I62 k63 n63 H locs h hw hb9 => ?_) (fun _ _ _ _ _ _ _ _ h9 => h9.elim)
        replace hbd := hbd.tr hb9
        try dsimp only at h
        refine lv_pop hx hb d_Led_openD_66 rfl ?_
        refine lv_aload_n hx hb d_Led_openD_67 rfl (lv_at hl 0 rfl) ?_
        refine x_gR1 (t := 0) (i := 0) (j := 0) hx hb hK hw hown h.1 rfl (by decide) (by decide) (x_wd hK k_220 rfl) (fun _ h => h) fk_0_0 d_Led_openD_68 ?_
        replace h := h.2
        refine x_gR1N (t := 1) (i := 0) (j := 0) hx hb hK hw hown h.1 rfl (by decide) (by decide) (x_wdF hK k_129) (fun _ h => h) fk_1_0 d_Led_openD_71 ?_
        replace h := h.2
        refine x_lsize1 (rest := []) hE hw h.1 k_399 (by decide) hl.1 (Nat.le_of_ble_eq_true rfl) hbd d_Led_openD_74 (fun H locs hw => ?_)
        replace h := h.2
        refine lv_iconst (v := 1) hx hb d_Led_openD_79 (by decide) ?_
        refine lv_isub hx hb d_Led_openD_80 ?_
        exact x_iret hx hb hr hlk hw (Or.inl ⟨_, rfl, h⟩) hbd d_Led_openD_81
      · replace h := h.2 c46
        refine lv_iconst (v := (-1)) hx hb d_Led_openD_44 (by decide) ?_
        exact x_iret hx hb hr hlk hw (Or.inl ⟨_, rfl, h⟩) hbd d_Led_openD_45
def yw_Led_openE (g : x_G) (Q : Int32 → x_Y → x_L → x_I → Nat → Nat → Prop) (X : Nat → x_Y → x_L → x_I → Nat → Nat → Prop) (nA : Nat) (a0 : Nat) (p1 : Int32) (Y : x_Y) (L : x_L) (I : x_I) (k n : Nat) : Prop :=
  ((p1 < 0 →
    yw_Led_fits g (fun Y4 L5 I6 k7 n7 =>
      ((x_ok Y4 0 0 ∧ x_ad Y4 0 0 = a0) ∧ x_r Y4 0 0 0 = some (x_ad Y4 1 0)) ∧
      ((x_ok Y4 1 0 ∧ x_ad Y4 1 0 = (x_ad Y4 1 0)) ∧ x_r Y4 1 0 0 = some (x_ad Y4 2 0)) ∧
      (x_ok Y4 2 0 ∧ x_ad Y4 2 0 = (x_ad Y4 2 0)) ∧
      (((I6 2 0 1) = (24 : Int32) →
        Q (-1 : Int32) Y4 L5 I6 k7 n7) ∧
      (¬ (I6 2 0 1) = (24 : Int32) →
        (x_ok Y4 0 0 ∧ x_ad Y4 0 0 = a0) ∧
        yw_Led_supply g (fun r9 Y11 L12 I13 k14 n14 =>
          (((lg_cmp (r9.toInt64 + p1.toInt64) (2147483647 : Int64)) ≤ 0 →
            ((x_ok Y11 0 0 ∧ x_ad Y11 0 0 = a0) ∧ x_r Y11 0 0 0 = some (x_ad Y11 1 0)) ∧
            ((x_ok Y11 1 0 ∧ x_ad Y11 1 0 = (x_ad Y11 1 0)) ∧ x_r Y11 1 0 0 = some (x_ad Y11 2 0)) ∧
            (k14 + 1 ≤ 600288 ∧ n14 + x_nf 7 ≤ 7292554) ∧
            ∀ (b16 k17 n17 : Nat) (Y18 : x_Y) (L19 : x_L) (I20 : x_I), Y18 = x_yn Y11 23 nA b16 (x_nf 7) (fun _ => none) → L19 = x_zl L12 23 nA → I20 = x_zi I13 23 nA → k17 = k14 + 1 → n17 = n14 + (x_nf 7) →
            yw_Acc_init g (fun Y23 L24 I25 k26 n26 =>
              (x_ok Y23 2 0 ∧ x_ad Y23 2 0 = (x_ad Y11 2 0)) ∧
              yw_AL_add1E g (fun r27 Y29 L30 I31 k32 n32 =>
                ((x_ok Y29 0 0 ∧ x_ad Y29 0 0 = a0) ∧ x_r Y29 0 0 0 = some (x_ad Y29 1 0)) ∧
                ((x_ok Y29 1 0 ∧ x_ad Y29 1 0 = (x_ad Y29 1 0)) ∧ x_r Y29 1 0 0 = some (x_ad Y29 2 0)) ∧
                (x_ok Y29 2 0 ∧ x_ad Y29 2 0 = (x_ad Y29 2 0)) ∧
                Q ((I31 2 0 1) - (1 : Int32)) Y29 L30 I31 k32 n32) x_ynx nA (x_ad Y11 2 0) b16 Y23 L24 I25 k26 n26) x_ynx nA b16 p1 Y18 L19 I20 k17 n17) ∧
          (¬ (lg_cmp (r9.toInt64 + p1.toInt64) (2147483647 : Int64)) ≤ 0 →
            Q (-1 : Int32) Y11 L12 I13 k14 n14))) x_ynx a0 Y4 L5 I6 k7 n7))) X (0 : Int32) Y L I k n) ∧
  (¬ p1 < 0 →
    yw_Led_fits g (fun Y35 L36 I37 k38 n38 =>
      ((x_ok Y35 0 0 ∧ x_ad Y35 0 0 = a0) ∧ x_r Y35 0 0 0 = some (x_ad Y35 1 0)) ∧
      ((x_ok Y35 1 0 ∧ x_ad Y35 1 0 = (x_ad Y35 1 0)) ∧ x_r Y35 1 0 0 = some (x_ad Y35 2 0)) ∧
      (x_ok Y35 2 0 ∧ x_ad Y35 2 0 = (x_ad Y35 2 0)) ∧
      (((I37 2 0 1) = (24 : Int32) →
        Q (-1 : Int32) Y35 L36 I37 k38 n38) ∧
      (¬ (I37 2 0 1) = (24 : Int32) →
        (x_ok Y35 0 0 ∧ x_ad Y35 0 0 = a0) ∧
        yw_Led_supply g (fun r40 Y42 L43 I44 k45 n45 =>
          (((lg_cmp (r40.toInt64 + p1.toInt64) (2147483647 : Int64)) ≤ 0 →
            ((x_ok Y42 0 0 ∧ x_ad Y42 0 0 = a0) ∧ x_r Y42 0 0 0 = some (x_ad Y42 1 0)) ∧
            ((x_ok Y42 1 0 ∧ x_ad Y42 1 0 = (x_ad Y42 1 0)) ∧ x_r Y42 1 0 0 = some (x_ad Y42 2 0)) ∧
            (k45 + 1 ≤ 600288 ∧ n45 + x_nf 7 ≤ 7292554) ∧
            ∀ (b47 k48 n48 : Nat) (Y49 : x_Y) (L50 : x_L) (I51 : x_I), Y49 = x_yn Y42 23 nA b47 (x_nf 7) (fun _ => none) → L50 = x_zl L43 23 nA → I51 = x_zi I44 23 nA → k48 = k45 + 1 → n48 = n45 + (x_nf 7) →
            yw_Acc_init g (fun Y54 L55 I56 k57 n57 =>
              (x_ok Y54 2 0 ∧ x_ad Y54 2 0 = (x_ad Y42 2 0)) ∧
              yw_AL_add1E g (fun r58 Y60 L61 I62 k63 n63 =>
                ((x_ok Y60 0 0 ∧ x_ad Y60 0 0 = a0) ∧ x_r Y60 0 0 0 = some (x_ad Y60 1 0)) ∧
                ((x_ok Y60 1 0 ∧ x_ad Y60 1 0 = (x_ad Y60 1 0)) ∧ x_r Y60 1 0 0 = some (x_ad Y60 2 0)) ∧
                (x_ok Y60 2 0 ∧ x_ad Y60 2 0 = (x_ad Y60 2 0)) ∧
                Q ((I62 2 0 1) - (1 : Int32)) Y60 L61 I62 k63 n63) x_ynx nA (x_ad Y42 2 0) b47 Y54 L55 I56 k57 n57) x_ynx nA b47 p1 Y49 L50 I51 k48 n48) ∧
          (¬ (lg_cmp (r40.toInt64 + p1.toInt64) (2147483647 : Int64)) ≤ 0 →
            Q (-1 : Int32) Y42 L43 I44 k45 n45))) x_ynx a0 Y35 L36 I37 k38 n38))) X (1 : Int32) Y L I k n))
set_option maxRecDepth 100000 in
set_option maxHeartbeats 4000000 in
theorem yc_Led_openE {l : Launch} {g : x_G} {Q : Int32 → x_Y → x_L → x_I → Nat → Nat → Prop} {X : Nat → x_Y → x_L → x_I → Nat → Nat → Prop} {nA : Nat} {a0 : Nat} {p1 : Int32} {Y : x_Y} {L : x_L} {I : x_I} {k n : Nat} (h : yw_Led_openE g Q X nA a0 p1 Y L I k n) : x_C l y_Led_open 9 g [.ref a0, .int p1] Y L I k n (x_yI Q X) := by
  refine x_mth k_326 ?_
  intro p e R s m below meth c hE hnm hexn hw hk1 hn1
  obtain ⟨hx, hb, hml, hr, hlk, hown, hK, htr, hF, hLo, hRc, hRs⟩ := id hE
  have hbd : x_bd k n k n := ⟨Nat.le_refl _, hk1, Nat.le_refl _, hn1⟩
  have hl := lv_entry ([.ref a0, .int p1]) (n := 2) (Nat.le_of_ble_eq_true rfl)
  generalize (lg_sl [.ref a0, .int p1] ++ List.replicate (2 - (lg_sl [.ref a0, .int p1]).length) Slot.unset).toArray = ls at hl ⊢
  have hl : lv_has ls 2 [(0, .ref a0), (1, .int p1)] := hl
  generalize s.heap = H at hw ⊢
  generalize ([] : List Loc) = locs at hw ⊢
  unfold yw_Led_openE at h
  refine lv_iload_n hx hb d_Led_openE_0 rfl (lv_at hl 1 rfl) ?_
  refine lv_if_lt (tgt := 8) hx hb d_Led_openE_1 (by decide) (fun c1 => ?_) (fun c1 => ?_)
  · replace h := h.1 c1
    refine lv_iconst (v := 0) hx hb d_Led_openE_8 (by decide) ?_
    refine x_ygV (ls := ls) (rest := []) hE hw (yc_Led_fits h) (x_cd hK k_329) q_Led_fits (by decide) (by decide) hl.1 (Nat.le_of_ble_eq_true rfl) hbd d_Led_openE_9 (x_toS (As := [.int (0 : Int32)]) hx hb hown hK k_327 k_328 k_1 ⟨_, x_cd hK k_329⟩ q_Led_fits rfl rfl d_Led_openE_9) (fun Y4 L5 I6 k7 n7 H locs h hw hb9 => ?_) (fun kx Y9 L9 I9 k9 n9 H locs h hw hb9 => x_thr hlk (fun x h9 => by rw [hexn] at h9; cases h9) hw (Or.inr ⟨kx, rfl, h⟩) (hbd.tr hb9))
    replace hbd := hbd.tr hb9
    try dsimp only at h
    refine lv_aload_n hx hb d_Led_openE_12 rfl (lv_at hl 0 rfl) ?_
    refine x_gR1 (t := 0) (i := 0) (j := 0) hx hb hK hw hown h.1 rfl (by decide) (by decide) (x_wd hK k_220 rfl) (fun _ h => h) fk_0_0 d_Led_openE_13 ?_
    replace h := h.2
    refine x_gR1N (t := 1) (i := 0) (j := 0) hx hb hK hw hown h.1 rfl (by decide) (by decide) (x_wdF hK k_129) (fun _ h => h) fk_1_0 d_Led_openE_16 ?_
    replace h := h.2
    refine x_lsize1 (rest := []) hE hw h.1 k_399 (by decide) hl.1 (Nat.le_of_ble_eq_true rfl) hbd d_Led_openE_19 (fun H locs hw => ?_)
    replace h := h.2
    refine lv_bipush (v := 24) hx hb d_Led_openE_24 (by decide) ?_
    refine lv_icmp_eq (tgt := 44) hx hb d_Led_openE_26 (by decide) (fun c8 => ?_) (fun c8 => ?_)
    · replace h := h.1 c8
      refine lv_iconst (v := (-1)) hx hb d_Led_openE_44 (by decide) ?_
      exact x_iret hx hb hr hlk hw (Or.inl ⟨_, rfl, h⟩) hbd d_Led_openE_45
    · replace h := h.2 c8
      refine lv_aload_n hx hb d_Led_openE_29 rfl (lv_at hl 0 rfl) ?_
      have o9 := h.1
      replace h := h.2
      refine x_ygI (ls := ls) (rest := []) hE hw (yc_Led_supply h) (x_cd hK k_265) q_Led_supply (by decide) (by decide) hl.1 (Nat.le_of_ble_eq_true rfl) hbd d_Led_openE_30 (x_toV (As := []) (b := a0) hx hb hown hK (x_recv1 (c0 := 0) hK hw o9 rfl (by decide)) k_407 k_263 k_264 ⟨_, x_cd hK k_265⟩ q_Led_supply rfl rfl d_Led_openE_30) (fun r9 Y11 L12 I13 k14 n14 H locs h hw hb9 => ?_) (fun _ _ _ _ _ _ _ _ h9 => h9.elim)
      replace hbd := hbd.tr hb9
      try dsimp only at h
      refine lv_i2l hx hb d_Led_openE_33 rfl ?_
      refine lv_iload_n hx hb d_Led_openE_34 rfl (lv_at hl 1 rfl) ?_
      refine lv_i2l hx hb d_Led_openE_35 rfl ?_
      refine lv_ladd hx hb d_Led_openE_36 ?_
      refine lv_ldc2 (v := 2147483647) hx hb hown (x_wd hK k_408 rfl) d_Led_openE_37 ?_
      refine W.lcmp hx hb d_Led_openE_40 ?_
      refine lv_if_le (tgt := 46) hx hb d_Led_openE_41 (by decide) (fun c15 => ?_) (fun c15 => ?_)
      · replace h := h.1 c15
        refine lv_aload_n hx hb d_Led_openE_46 rfl (lv_at hl 0 rfl) ?_
        refine x_gR1 (t := 0) (i := 0) (j := 0) hx hb hK hw hown h.1 rfl (by decide) (by decide) (x_wd hK k_220 rfl) (fun _ h => h) fk_0_0 d_Led_openE_47 ?_
        replace h := h.2
        refine x_gR1N (t := 1) (i := 0) (j := 0) hx hb hK hw hown h.1 rfl (by decide) (by decide) (x_wdF hK k_129) (fun _ h => h) fk_1_0 d_Led_openE_50 ?_
        replace h := h.2
        refine x_newO (t := 23) (i := nA) hx hb hK hw hown rfl (by decide) k_318 k_409 k_17 hRc hRs hbd h.1.1 h.1.2 d_Led_openE_53 (fun b16 k17 n17 Y18 L19 I20 H q1 q2 q3 q4 q5 hw hbd => ?_)
        replace h := h.2 b16 k17 n17 Y18 L19 I20 q1 q2 q3 q4 q5
        clear q1 q2 q3 q4 q5
        refine lv_dup hx hb d_Led_openE_56 rfl ?_
        refine lv_iload_n hx hb d_Led_openE_57 rfl (lv_at hl 1 rfl) ?_
        refine x_ygV (ls := ls) (rest := [.ref b16, .ref (x_ad Y11 2 0)]) hE hw (yc_Acc_init h) (x_cd hK k_412) q_Acc_init (by decide) (by decide) hl.1 (Nat.le_of_ble_eq_true rfl) hbd d_Led_openE_58 (x_toI (As := [.int p1]) (b := b16) hx hb hown hK rfl k_410 k_411 k_412 q_Acc_init rfl rfl d_Led_openE_58) (fun Y23 L24 I25 k26 n26 H locs h hw hb9 => ?_) (fun _ _ _ _ _ _ _ _ h9 => h9.elim)
        replace hbd := hbd.tr hb9
        try dsimp only at h
        have o9 := h.1
        replace h := h.2
        refine x_ygI (ls := ls) (rest := []) hE hw (yc_AL_add1E h) (x_cd hK k_441) q_AL_add1 (by decide) (by decide) hl.1 (Nat.le_of_ble_eq_true rfl) hbd d_Led_openE_61 (x_toF (C := "java/util/ArrayList") (x := y_List_add) (As := [.ref b16]) (b := (x_ad Y11 2 0)) hx hb hown hK (hK.cls (c := 2) (by decide)).2 (x_recv1 hK hw o9 rfl (by decide)) k_434 k_439 k_437 (x_wdI hK (by decide) k_436 k_435 k_440 k_438 k_270) q_List_add rfl rfl d_Led_openE_61) (fun r27 Y29 L30 I31 k32 n32 H locs h hw hb9 => ?_) (fun _ _ _ _ _ _ _ _ h9 => h9.elim)
        replace hbd := hbd.tr hb9
        try dsimp only at h
        refine lv_pop hx hb d_Led_openE_66 rfl ?_
        refine lv_aload_n hx hb d_Led_openE_67 rfl (lv_at hl 0 rfl) ?_
        refine x_gR1 (t := 0) (i := 0) (j := 0) hx hb hK hw hown h.1 rfl (by decide) (by decide) (x_wd hK k_220 rfl) (fun _ h => h) fk_0_0 d_Led_openE_68 ?_
        replace h := h.2
        refine x_gR1N (t := 1) (i := 0) (j := 0) hx hb hK hw hown h.1 rfl (by decide) (by decide) (x_wdF hK k_129) (fun _ h => h) fk_1_0 d_Led_openE_71 ?_
        replace h := h.2
        refine x_lsize1 (rest := []) hE hw h.1 k_399 (by decide) hl.1 (Nat.le_of_ble_eq_true rfl) hbd d_Led_openE_74 (fun H locs hw => ?_)
        replace h := h.2
        refine lv_iconst (v := 1) hx hb d_Led_openE_79 (by decide) ?_
        refine lv_isub hx hb d_Led_openE_80 ?_
        exact x_iret hx hb hr hlk hw (Or.inl ⟨_, rfl, h⟩) hbd d_Led_openE_81
      · replace h := h.2 c15
        refine lv_iconst (v := (-1)) hx hb d_Led_openE_44 (by decide) ?_
        exact x_iret hx hb hr hlk hw (Or.inl ⟨_, rfl, h⟩) hbd d_Led_openE_45
  · replace h := h.2 c1
    refine lv_iconst (v := 1) hx hb d_Led_openE_4 (by decide) ?_
    refine lv_goto (tgt := 9) hx hb d_Led_openE_5 (by decide) ?_
    refine x_ygV (ls := ls) (rest := []) hE hw (yc_Led_fits h) (x_cd hK k_329) q_Led_fits (by decide) (by decide) hl.1 (Nat.le_of_ble_eq_true rfl) hbd d_Led_openE_9 (x_toS (As := [.int (1 : Int32)]) hx hb hown hK k_327 k_328 k_1 ⟨_, x_cd hK k_329⟩ q_Led_fits rfl rfl d_Led_openE_9) (fun Y35 L36 I37 k38 n38 H locs h hw hb9 => ?_) (fun kx Y9 L9 I9 k9 n9 H locs h hw hb9 => x_thr hlk (fun x h9 => by rw [hexn] at h9; cases h9) hw (Or.inr ⟨kx, rfl, h⟩) (hbd.tr hb9))
    replace hbd := hbd.tr hb9
    try dsimp only at h
    refine lv_aload_n hx hb d_Led_openE_12 rfl (lv_at hl 0 rfl) ?_
    refine x_gR1 (t := 0) (i := 0) (j := 0) hx hb hK hw hown h.1 rfl (by decide) (by decide) (x_wd hK k_220 rfl) (fun _ h => h) fk_0_0 d_Led_openE_13 ?_
    replace h := h.2
    refine x_gR1N (t := 1) (i := 0) (j := 0) hx hb hK hw hown h.1 rfl (by decide) (by decide) (x_wdF hK k_129) (fun _ h => h) fk_1_0 d_Led_openE_16 ?_
    replace h := h.2
    refine x_lsize1 (rest := []) hE hw h.1 k_399 (by decide) hl.1 (Nat.le_of_ble_eq_true rfl) hbd d_Led_openE_19 (fun H locs hw => ?_)
    replace h := h.2
    refine lv_bipush (v := 24) hx hb d_Led_openE_24 (by decide) ?_
    refine lv_icmp_eq (tgt := 44) hx hb d_Led_openE_26 (by decide) (fun c39 => ?_) (fun c39 => ?_)
    · replace h := h.1 c39
      refine lv_iconst (v := (-1)) hx hb d_Led_openE_44 (by decide) ?_
      exact x_iret hx hb hr hlk hw (Or.inl ⟨_, rfl, h⟩) hbd d_Led_openE_45
    · replace h := h.2 c39
      refine lv_aload_n hx hb d_Led_openE_29 rfl (lv_at hl 0 rfl) ?_
      have o9 := h.1
      replace h := h.2
      refine x_ygI (ls := ls) (rest := []) hE hw (yc_Led_supply h) (x_cd hK k_265) q_Led_supply (by decide) (by decide) hl.1 (Nat.le_of_ble_eq_true rfl) hbd d_Led_openE_30 (x_toV (As := []) (b := a0) hx hb hown hK (x_recv1 (c0 := 0) hK hw o9 rfl (by decide)) k_407 k_263 k_264 ⟨_, x_cd hK k_265⟩ q_Led_supply rfl rfl d_Led_openE_30) (fun r40 Y42 L43 I44 k45 n45 H locs h hw hb9 => ?_) (fun _ _ _ _ _ _ _ _ h9 => h9.elim)
      replace hbd := hbd.tr hb9
      try dsimp only at h
      refine lv_i2l hx hb d_Led_openE_33 rfl ?_
      refine lv_iload_n hx hb d_Led_openE_34 rfl (lv_at hl 1 rfl) ?_
      refine lv_i2l hx hb d_Led_openE_35 rfl ?_
      refine lv_ladd hx hb d_Led_openE_36 ?_
      refine lv_ldc2 (v := 2147483647) hx hb hown (x_wd hK k_408 rfl) d_Led_openE_37 ?_
      refine W.lcmp hx hb d_Led_openE_40 ?_
      refine lv_if_le (tgt := 46) hx hb d_Led_openE_41 (by decide) (fun c46 => ?_) (fun c46 => ?_)
      · replace h := h.1 c46
        refine lv_aload_n hx hb d_Led_openE_46 rfl (lv_at hl 0 rfl) ?_
        refine x_gR1 (t := 0) (i := 0) (j := 0) hx hb hK hw hown h.1 rfl (by decide) (by decide) (x_wd hK k_220 rfl) (fun _ h => h) fk_0_0 d_Led_openE_47 ?_
        replace h := h.2
        refine x_gR1N (t := 1) (i := 0) (j := 0) hx hb hK hw hown h.1 rfl (by decide) (by decide) (x_wdF hK k_129) (fun _ h => h) fk_1_0 d_Led_openE_50 ?_
        replace h := h.2
        refine x_newO (t := 23) (i := nA) hx hb hK hw hown rfl (by decide) k_318 k_409 k_17 hRc hRs hbd h.1.1 h.1.2 d_Led_openE_53 (fun b47 k48 n48 Y49 L50 I51 H q1 q2 q3 q4 q5 hw hbd => ?_)
        replace h := h.2 b47 k48 n48 Y49 L50 I51 q1 q2 q3 q4 q5
        clear q1 q2 q3 q4 q5
        refine lv_dup hx hb d_Led_openE_56 rfl ?_
        refine lv_iload_n hx hb d_Led_openE_57 rfl (lv_at hl 1 rfl) ?_
        refine x_ygV (ls := ls) (rest := [.ref b47, .ref (x_ad Y42 2 0)]) hE hw (yc_Acc_init h) (x_cd hK k_412) q_Acc_init (by decide) (by decide) hl.1 (Nat.le_of_ble_eq_true rfl) hbd d_Led_openE_58 (x_toI (As := [.int p1]) (b := b47) hx hb hown hK rfl k_410 k_411 k_412 q_Acc_init rfl rfl d_Led_openE_58) (fun Y54 L55 I56 k57 n57 H locs h hw hb9 => ?_) (fun _ _ _ _ _ _ _ _ h9 => h9.elim)
        replace hbd := hbd.tr hb9
        try dsimp only at h
        have o9 := h.1
        replace h := h.2
        refine x_ygI (ls := ls) (rest := []) hE hw (yc_AL_add1E h) (x_cd hK k_441) q_AL_add1 (by decide) (by decide) hl.1 (Nat.le_of_ble_eq_true rfl) hbd d_Led_openE_61 (x_toF (C := "java/util/ArrayList") (x := y_List_add) (As := [.ref b47]) (b := (x_ad Y42 2 0)) hx hb hown hK (hK.cls (c := 2) (by decide)).2 (x_recv1 hK hw o9 rfl (by decide)) k_434 k_439 k_437 (x_wdI hK (by decide) k_436 k_435 k_440 k_438 k_270) q_List_add rfl rfl d_Led_openE_61) (fun r58 Y60 L61 I62 k63 n63 H locs h hw hb9 => ?_) (fun _ _ _ _ _ _ _ _ h9 => h9.elim)
        replace hbd := hbd.tr hb9
        try dsimp only at h
        refine lv_pop hx hb d_Led_openE_66 rfl ?_
        refine lv_aload_n hx hb d_Led_openE_67 rfl (lv_at hl 0 rfl) ?_
        refine x_gR1 (t := 0) (i := 0) (j := 0) hx hb hK hw hown h.1 rfl (by decide) (by decide) (x_wd hK k_220 rfl) (fun _ h => h) fk_0_0 d_Led_openE_68 ?_
        replace h := h.2
        refine x_gR1N (t := 1) (i := 0) (j := 0) hx hb hK hw hown h.1 rfl (by decide) (by decide) (x_wdF hK k_129) (fun _ h => h) fk_1_0 d_Led_openE_71 ?_
        replace h := h.2
        refine x_lsize1 (rest := []) hE hw h.1 k_399 (by decide) hl.1 (Nat.le_of_ble_eq_true rfl) hbd d_Led_openE_74 (fun H locs hw => ?_)
        replace h := h.2
        refine lv_iconst (v := 1) hx hb d_Led_openE_79 (by decide) ?_
        refine lv_isub hx hb d_Led_openE_80 ?_
        exact x_iret hx hb hr hlk hw (Or.inl ⟨_, rfl, h⟩) hbd d_Led_openE_81
      · replace h := h.2 c46
        refine lv_iconst (v := (-1)) hx hb d_Led_openE_44 (by decide) ?_
        exact x_iret hx hb hr hlk hw (Or.inl ⟨_, rfl, h⟩) hbd d_Led_openE_45
def yw_Law_openD (g : x_G) (Q : Int32 → x_Y → x_L → x_I → Nat → Nat → Prop) (X : Nat → x_Y → x_L → x_I → Nat → Nat → Prop) (nA : Nat) (a0 : Nat) (p1 : Int32) (a2 : Nat) (Y : x_Y) (L : x_L) (I : x_I) (k n : Nat) : Prop :=
  (x_ok Y 0 0 ∧ x_ad Y 0 0 = a0) ∧
  yw_Led_openD g (fun r1 Y3 L4 I5 k6 n6 =>
    ((x_ok Y3 25 0 ∧ x_ad Y3 25 0 = a2) ∧ vp_in (0 : Int32) (x_n Y3 25 0)) ∧
    ∀ L7 : x_L, L7 = x_ul L4 25 0 (0 : Int32).toNatClampNeg (r1.toInt64) →
    Q (0 : Int32) Y3 L7 I5 k6 n6)
  (fun kx Y9 L9 I9 k9 n9 => kx = 0 ∧
    Q (1 : Int32) Y9 L9 I9 k9 n9)  nA a0 p1 Y L I k n
set_option maxRecDepth 100000 in
set_option maxHeartbeats 4000000 in
theorem yc_Law_openD {l : Launch} {g : x_G} {Q : Int32 → x_Y → x_L → x_I → Nat → Nat → Prop} {X : Nat → x_Y → x_L → x_I → Nat → Nat → Prop} {nA : Nat} {a0 : Nat} {p1 : Int32} {a2 : Nat} {Y : x_Y} {L : x_L} {I : x_I} {k n : Nat} (h : yw_Law_openD g Q X nA a0 p1 a2 Y L I k n) : x_C l y_Law_open 10 g [.ref a0, .int p1, .ref a2] Y L I k n (x_yI Q X) := by
  refine x_mthW k_321 ?_
  intro p e R s m below meth c hE hnm hhn hw hk1 hn1
  obtain ⟨hx, hb, hml, hr, hlk, hown, hK, htr, hF, hLo, hRc, hRs⟩ := id hE
  have hbd : x_bd k n k n := ⟨Nat.le_refl _, hk1, Nat.le_refl _, hn1⟩
  have hl := lv_entry ([.ref a0, .int p1, .ref a2]) (n := 4) (Nat.le_of_ble_eq_true rfl)
  generalize (lg_sl [.ref a0, .int p1, .ref a2] ++ List.replicate (4 - (lg_sl [.ref a0, .int p1, .ref a2]).length) Slot.unset).toArray = ls at hl ⊢
  have hl : lv_has ls 4 [(0, .ref a0), (1, .int p1), (2, .ref a2)] := hl
  generalize s.heap = H at hw ⊢
  generalize ([] : List Loc) = locs at hw ⊢
  unfold yw_Law_openD at h
  refine lv_aload_n hx hb d_Law_openD_0 rfl (lv_at hl 2 rfl) ?_
  refine lv_iconst (v := 0) hx hb d_Law_openD_1 (by decide) ?_
  refine lv_aload_n hx hb d_Law_openD_2 rfl (lv_at hl 0 rfl) ?_
  refine lv_iload_n hx hb d_Law_openD_3 rfl (lv_at hl 1 rfl) ?_
  have o9 := h.1
  replace h := h.2
  refine x_ygI (ls := ls) (rest := [.int (0 : Int32), .ref a2]) hE hw (yc_Led_openD h) (x_cd hK k_326) q_Led_open (by decide) (by decide) hl.1 (Nat.le_of_ble_eq_true rfl) hbd d_Law_openD_4 (x_toV (As := [.int p1]) (b := a0) hx hb hown hK (x_recv1 (c0 := 0) hK hw o9 rfl (by decide)) k_323 k_324 k_325 ⟨_, x_cd hK k_326⟩ q_Led_open rfl rfl d_Law_openD_4) (fun r1 Y3 L4 I5 k6 n6 H locs h hw hb9 => ?_) (fun kx Y9 L9 I9 k9 n9 H locs h hw hb9 => ?_)
  · replace hbd := hbd.tr hb9
    try dsimp only at h
    refine lv_i2l hx hb d_Law_openD_7 rfl ?_
    refine x_last1 (t := 25) (i := 0) hx hb hK hw h.1.1 rfl h.1.2 d_Law_openD_8 (fun L7 H locs e_L7 hw => ?_)
    replace h := h.2 L7 e_L7
    refine lv_goto (tgt := 15) hx hb d_Law_openD_9 (by decide) ?_
    refine lv_iconst (v := 0) hx hb d_Law_openD_15 (by decide) ?_
    exact x_iret hx hb hr hlk hw (Or.inl ⟨_, rfl, h⟩) hbd d_Law_openD_16
  · replace hbd := hbd.tr hb9
    obtain ⟨rfl, h⟩ := h
    refine x_catch1 (kx := 0) hE hhn ⟨by decide, by decide⟩ (by decide) k_322 k_332 (fun ax => ?_)
    refine lv_astore_n (lv' := [(3, .ref ax), (0, .ref a0), (1, .int p1), (2, .ref a2)]) hx hb d_Law_openD_12 rfl hl (by decide) rfl (fun ls hl => ?_)
    refine lv_iconst (v := 1) hx hb d_Law_openD_13 (by decide) ?_
    exact x_iret hx hb hr hlk hw (Or.inl ⟨_, rfl, h⟩) hbd d_Law_openD_14
def yw_Law_openE (g : x_G) (Q : Int32 → x_Y → x_L → x_I → Nat → Nat → Prop) (X : Nat → x_Y → x_L → x_I → Nat → Nat → Prop) (nA : Nat) (a0 : Nat) (p1 : Int32) (a2 : Nat) (Y : x_Y) (L : x_L) (I : x_I) (k n : Nat) : Prop :=
  (x_ok Y 0 0 ∧ x_ad Y 0 0 = a0) ∧
  yw_Led_openE g (fun r1 Y3 L4 I5 k6 n6 =>
    ((x_ok Y3 25 0 ∧ x_ad Y3 25 0 = a2) ∧ vp_in (0 : Int32) (x_n Y3 25 0)) ∧
    ∀ L7 : x_L, L7 = x_ul L4 25 0 (0 : Int32).toNatClampNeg (r1.toInt64) →
    Q (0 : Int32) Y3 L7 I5 k6 n6)
  (fun kx Y9 L9 I9 k9 n9 => kx = 0 ∧
    Q (1 : Int32) Y9 L9 I9 k9 n9)  nA a0 p1 Y L I k n
set_option maxRecDepth 100000 in
set_option maxHeartbeats 4000000 in
theorem yc_Law_openE {l : Launch} {g : x_G} {Q : Int32 → x_Y → x_L → x_I → Nat → Nat → Prop} {X : Nat → x_Y → x_L → x_I → Nat → Nat → Prop} {nA : Nat} {a0 : Nat} {p1 : Int32} {a2 : Nat} {Y : x_Y} {L : x_L} {I : x_I} {k n : Nat} (h : yw_Law_openE g Q X nA a0 p1 a2 Y L I k n) : x_C l y_Law_open 10 g [.ref a0, .int p1, .ref a2] Y L I k n (x_yI Q X) := by
  refine x_mthW k_321 ?_
  intro p e R s m below meth c hE hnm hhn hw hk1 hn1
  obtain ⟨hx, hb, hml, hr, hlk, hown, hK, htr, hF, hLo, hRc, hRs⟩ := id hE
  have hbd : x_bd k n k n := ⟨Nat.le_refl _, hk1, Nat.le_refl _, hn1⟩
  have hl := lv_entry ([.ref a0, .int p1, .ref a2]) (n := 4) (Nat.le_of_ble_eq_true rfl)
  generalize (lg_sl [.ref a0, .int p1, .ref a2] ++ List.replicate (4 - (lg_sl [.ref a0, .int p1, .ref a2]).length) Slot.unset).toArray = ls at hl ⊢
  have hl : lv_has ls 4 [(0, .ref a0), (1, .int p1), (2, .ref a2)] := hl
  generalize s.heap = H at hw ⊢
  generalize ([] : List Loc) = locs at hw ⊢
  unfold yw_Law_openE at h
  refine lv_aload_n hx hb d_Law_openE_0 rfl (lv_at hl 2 rfl) ?_
  refine lv_iconst (v := 0) hx hb d_Law_openE_1 (by decide) ?_
  refine lv_aload_n hx hb d_Law_openE_2 rfl (lv_at hl 0 rfl) ?_
  refine lv_iload_n hx hb d_Law_openE_3 rfl (lv_at hl 1 rfl) ?_
  have o9 := h.1
  replace h := h.2
  refine x_ygI (ls := ls) (rest := [.int (0 : Int32), .ref a2]) hE hw (yc_Led_openE h) (x_cd hK k_326) q_Led_open (by decide) (by decide) hl.1 (Nat.le_of_ble_eq_true rfl) hbd d_Law_openE_4 (x_toV (As := [.int p1]) (b := a0) hx hb hown hK (x_recv1 (c0 := 0) hK hw o9 rfl (by decide)) k_323 k_324 k_325 ⟨_, x_cd hK k_326⟩ q_Led_open rfl rfl d_Law_openE_4) (fun r1 Y3 L4 I5 k6 n6 H locs h hw hb9 => ?_) (fun kx Y9 L9 I9 k9 n9 H locs h hw hb9 => ?_)
  · replace hbd := hbd.tr hb9
    try dsimp only at h
    refine lv_i2l hx hb d_Law_openE_7 rfl ?_
    refine x_last1 (t := 25) (i := 0) hx hb hK hw h.1.1 rfl h.1.2 d_Law_openE_8 (fun L7 H locs e_L7 hw => ?_)
    replace h := h.2 L7 e_L7
    refine lv_goto (tgt := 15) hx hb d_Law_openE_9 (by decide) ?_
    refine lv_iconst (v := 0) hx hb d_Law_openE_15 (by decide) ?_
    exact x_iret hx hb hr hlk hw (Or.inl ⟨_, rfl, h⟩) hbd d_Law_openE_16
  · replace hbd := hbd.tr hb9
    obtain ⟨rfl, h⟩ := h
    refine x_catch1 (kx := 0) hE hhn ⟨by decide, by decide⟩ (by decide) k_322 k_332 (fun ax => ?_)
    refine lv_astore_n (lv' := [(3, .ref ax), (0, .ref a0), (1, .int p1), (2, .ref a2)]) hx hb d_Law_openE_12 rfl hl (by decide) rfl (fun ls hl => ?_)
    refine lv_iconst (v := 1) hx hb d_Law_openE_13 (by decide) ?_
    exact x_iret hx hb hr hlk hw (Or.inl ⟨_, rfl, h⟩) hbd d_Law_openE_14
