def yw_Ins_values (g : x_G) (Q : Nat → x_Y → x_L → x_I → Nat → Nat → Prop) (X : Nat → x_Y → x_L → x_I → Nat → Nat → Prop) (Y : x_Y) (L : x_L) (I : x_I) (k n : Nat) : Prop :=
  (k + 1 ≤ 600288 ∧ n + 30 ≤ 7292554) ∧
  ∀ (b1 k2 n2 : Nat) (Y3 : x_Y), Y3 = x_yn Y 14 0 b1 30 (x_er g) → k2 = k + 1 → n2 = n + 30 →
  (x_ok Y3 14 0 ∧ x_ad Y3 14 0 = b1) ∧
  Q b1 Y3 L I k2 n2
set_option maxRecDepth 100000 in
set_option maxHeartbeats 4000000 in
theorem yc_Ins_values {l : Launch} {g : x_G} {Q : Nat → x_Y → x_L → x_I → Nat → Nat → Prop} {X : Nat → x_Y → x_L → x_I → Nat → Nat → Prop} {Y : x_Y} {L : x_L} {I : x_I} {k n : Nat} (h : yw_Ins_values g Q X  Y L I k n) : x_C l y_Ins_values 1 g [] Y L I k n (x_yA Q X) := by
  refine x_mth k_155 ?_
  intro p e R s m below meth c hE hnm hexn hw hk1 hn1
  obtain ⟨hx, hb, hml, hr, hlk, hown, hK, htr, hF, hLo, hRc, hRs⟩ := id hE
  have hbd : x_bd k n k n := ⟨Nat.le_refl _, hk1, Nat.le_refl _, hn1⟩
  have hl : lv_has ((lg_sl ([] : List Value) ++ List.replicate (0 - (lg_sl ([] : List Value)).length) Slot.unset).toArray) 0 [] := lv_entry [] (n := 0) (Nat.le_of_ble_eq_true rfl)
  generalize (lg_sl ([] : List Value) ++ List.replicate (0 - (lg_sl ([] : List Value)).length) Slot.unset).toArray = ls at hl ⊢
  have hl : lv_has ls 0 [] := hl
  generalize s.heap = H at hw ⊢
  generalize ([] : List Loc) = locs at hw ⊢
  unfold yw_Ins_values at h
  refine x_gsZ hx hb hK hw hown (x_wd hK k_156 rfl) d_Ins_values_0 ?_
  refine x_cloneZ (rest := []) hE hl.1 hw k_158 (by decide) (Nat.le_of_ble_eq_true rfl) hbd h.1.1 h.1.2 d_Ins_values_3 (fun b1 k2 n2 Y3 H q1 q2 q3 hw hbd => ?_)
  replace h := h.2 b1 k2 n2 Y3 q1 q2 q3
  refine x_castZ hx hb hK hw hown h.1 k_165 d_Ins_values_6 ?_
  replace h := h.2
  exact x_aret hx hb hr (Or.inr ⟨_, rfl⟩) hlk hw (Or.inl ⟨_, rfl, h⟩) hbd d_Ins_values_9
def yw_Led_init_41 (g : x_G) (Q : x_Y → x_L → x_I → Nat → Nat → Prop) (X : Nat → x_Y → x_L → x_I → Nat → Nat → Prop) : Nat → Nat → Int32 → x_Y → x_L → x_I → Nat → Nat → Prop
  | 0, _, _, _, _, _, _, _ => False
  | fu + 1, b0_, v1, Y, L, I, ka, na =>
    (((8 : Int32) ≤ v1 →
      Q Y L I ka na) ∧
    (¬ (8 : Int32) ≤ v1 →
      ((x_ok Y 0 0 ∧ x_ad Y 0 0 = b0_) ∧ x_r Y 0 0 2 = some (x_ad Y 15 0)) ∧
      (ka + 1 ≤ 600288 ∧ na + x_nf 5 ≤ 7292554) ∧
      ∀ (b34 k35 n35 : Nat) (Y36 : x_Y) (L37 : x_L) (I38 : x_I), Y36 = x_yn Y 20 (v1.toNatClampNeg) b34 (x_nf 5) (fun _ => none) → L37 = x_zl L 20 (v1.toNatClampNeg) → I38 = x_zi I 20 (v1.toNatClampNeg) → k35 = ka + 1 → n35 = na + (x_nf 5) →
      ((x_ok Y36 0 0 ∧ x_ad Y36 0 0 = b0_) ∧ x_r Y36 0 0 0 = some (x_ad Y36 1 0)) ∧
      ((x_ok Y36 0 0 ∧ x_ad Y36 0 0 = b0_) ∧ x_r Y36 0 0 1 = some (x_ad Y36 14 0)) ∧
      ((x_ok Y36 0 0 ∧ x_ad Y36 0 0 = b0_) ∧ x_r Y36 0 0 2 = some (x_ad Y36 15 0)) ∧
      yw_Run_init g (fun Y41 L42 I43 k44 n44 =>
        (((x_ok Y41 15 0 ∧ x_ad Y41 15 0 = (x_ad Y 15 0)) ∧ (x_ok Y41 20 (v1.toNatClampNeg) ∧ x_ad Y41 20 (v1.toNatClampNeg) = b34)) ∧ vp_in v1 (x_n Y41 15 0)) ∧
        ∀ Y45 : x_Y, Y45 = x_yr Y41 15 0 v1.toNatClampNeg (some b34) →
        ∀ x46 : Int32, x46 = v1 + (1 : Int32) →
        yw_Led_init_41 g Q X fu b0_ x46 Y45 L42 I43 k44 n44) x_ynx (v1.toNatClampNeg) b34 (x_ad Y36 1 0) (x_ad Y36 14 0) (x_ad Y36 15 0) v1 Y36 L37 I38 k35 n35))
def yw_Led_init (g : x_G) (Q : x_Y → x_L → x_I → Nat → Nat → Prop) (X : Nat → x_Y → x_L → x_I → Nat → Nat → Prop) (a0 : Nat) (Y : x_Y) (L : x_L) (I : x_I) (k n : Nat) : Prop :=
  (k + 1 ≤ 600288 ∧ n + x_nf 1 ≤ 7292554) ∧
  ∀ (b1 k2 n2 : Nat) (Y3 : x_Y) (L4 : x_L) (I5 : x_I), Y3 = x_yn Y 1 0 b1 (x_nf 1) (fun _ => none) → L4 = x_zl L 1 0 → I5 = x_zi I 1 0 → k2 = k + 1 → n2 = n + (x_nf 1) →
  yw_Book_init g (fun Y8 L9 I10 k11 n11 =>
    (x_ok Y8 0 0 ∧ x_ad Y8 0 0 = a0) ∧
    ∀ Y12 : x_Y, Y12 = x_yr Y8 0 0 0 (some b1) →
    yw_Ins_values g (fun a14 Y15 L16 I17 k18 n18 =>
      (x_ok Y15 0 0 ∧ x_ad Y15 0 0 = a0) ∧
      ∀ Y19 : x_Y, Y19 = x_yr Y15 0 0 1 (some a14) →
      (k18 + 1 ≤ 600288 ∧ n18 + 8 ≤ 7292554) ∧
      ∀ (b20 k21 n21 : Nat) (Y22 : x_Y) (L23 : x_L) (I24 : x_I), Y22 = x_yn Y19 15 0 b20 8 (fun _ => none) → L23 = x_zl L16 15 0 → I24 = x_zi I17 15 0 → k21 = k18 + 1 → n21 = n18 + 8 →
      (x_ok Y22 0 0 ∧ x_ad Y22 0 0 = a0) ∧
      ∀ Y25 : x_Y, Y25 = x_yr Y22 0 0 2 (some b20) →
      (k21 + 1 ≤ 600288 ∧ n21 + 8 ≤ 7292554) ∧
      ∀ (b26 k27 n27 : Nat) (Y28 : x_Y) (L29 : x_L) (I30 : x_I), Y28 = x_yn Y25 16 0 b26 8 (fun _ => none) → L29 = x_zl L23 16 0 → I30 = x_zi I24 16 0 → k27 = k21 + 1 → n27 = n21 + 8 →
      (x_ok Y28 0 0 ∧ x_ad Y28 0 0 = a0) ∧
      ∀ Y31 : x_Y, Y31 = x_yr Y28 0 0 3 (some b26) →
      ∀ x32 : Int32, x32 = (0 : Int32) →
      ∃ fu : Nat, yw_Led_init_41 g Q X fu a0 x32 Y31 L29 I30 k27 n27) x_ynx  Y12 L9 I10 k11 n11) x_ynx b1 Y3 L4 I5 k2 n2
set_option maxRecDepth 100000 in
set_option maxHeartbeats 4000000 in
theorem yc_Led_init_41 {l : Launch} {g : x_G} {p : Program} {e : Env} {R : Room} {s : State} {m : MethodId} {args : Array Value} {below : List Frame} {meth : Method} {c : Code} {k n : Nat} {Q : x_Y → x_L → x_I → Nat → Nat → Prop} {X : Nat → x_Y → x_L → x_I → Nat → Nat → Prop} (hE : x_E l g p e R s m meth c "CallLedger" prog_1_method_1_code 2 none 7 k n) (hnm : meth.name = (y_Led_init : MethodName).name) (hexn : c.exceptionTable.toList = []) :
    ∀ (fu : Nat) (b0_ : Nat) (v1 : Int32) (Y : x_Y) (L : x_L) (I : x_I) (ka na : Nat) (H : Heap) (locs : List Loc) (ls : Array Slot), yw_Led_init_41 g Q X fu b0_ v1 Y L I ka na → x_WL g Y L I H locs → x_bd k n ka na → lv_has ls 2 [(0, .ref b0_), (1, .int v1)] → W p l e R s m args below meth c H locs (ka - k) (na - n) (x_Q g below s k n (x_yV Q X)) (F0 m 41 ls []) := by
  obtain ⟨hx, hb, hml, hr, hlk, hown, hK, htr, hF, hLo, hRc, hRs⟩ := id hE
  intro fu
  induction fu with
  | zero =>
    intro b0_ v1 Y L I ka na H locs ls h
    exact h.elim
  | succ fu ih =>
    intro b0_ v1 Y L I ka na H locs ls h hw hbd hl
    unfold yw_Led_init_41 at h
    refine lv_iload_n hx hb d_Led_init_41 rfl (lv_at hl 1 rfl) ?_
    refine lv_bipush (v := 8) hx hb d_Led_init_42 (by decide) ?_
    refine lv_icmp_ge (tgt := 79) hx hb d_Led_init_44 (by decide) (fun c33 => ?_) (fun c33 => ?_)
    · replace h := h.1 c33
      exact x_vret hx hb hr hlk hw (Or.inl ⟨rfl, h⟩) hbd d_Led_init_79
    · replace h := h.2 c33
      refine lv_aload_n hx hb d_Led_init_47 rfl (lv_at hl 0 rfl) ?_
      refine x_gR1 (t := 0) (i := 0) (j := 2) hx hb hK hw hown h.1 rfl (by decide) (by decide) (x_wd hK k_222 rfl) (fun _ h => h) fk_0_2 d_Led_init_48 ?_
      replace h := h.2
      refine lv_iload_n hx hb d_Led_init_51 rfl (lv_at hl 1 rfl) ?_
      refine x_newO (t := 20) (i := (v1.toNatClampNeg)) hx hb hK hw hown rfl (by decide) k_166 k_168 k_10 hRc hRs hbd h.1.1 h.1.2 d_Led_init_52 (fun b34 k35 n35 Y36 L37 I38 H q1 q2 q3 q4 q5 hw hbd => ?_)
      replace h := h.2 b34 k35 n35 Y36 L37 I38 q1 q2 q3 q4 q5
      clear q1 q2 q3 q4 q5
      refine lv_dup hx hb d_Led_init_55 rfl ?_
      refine lv_aload_n hx hb d_Led_init_56 rfl (lv_at hl 0 rfl) ?_
      refine x_gR1 (t := 0) (i := 0) (j := 0) hx hb hK hw hown h.1 rfl (by decide) (by decide) (x_wd hK k_220 rfl) (fun _ h => h) fk_0_0 d_Led_init_57 ?_
      replace h := h.2
      refine lv_aload_n hx hb d_Led_init_60 rfl (lv_at hl 0 rfl) ?_
      refine x_gR1 (t := 0) (i := 0) (j := 1) hx hb hK hw hown h.1 rfl (by decide) (by decide) (x_wd hK k_221 rfl) (fun _ h => h) fk_0_1 d_Led_init_61 ?_
      replace h := h.2
      refine lv_aload_n hx hb d_Led_init_64 rfl (lv_at hl 0 rfl) ?_
      refine x_gR1 (t := 0) (i := 0) (j := 2) hx hb hK hw hown h.1 rfl (by decide) (by decide) (x_wd hK k_222 rfl) (fun _ h => h) fk_0_2 d_Led_init_65 ?_
      replace h := h.2
      refine lv_iload_n hx hb d_Led_init_68 rfl (lv_at hl 1 rfl) ?_
      refine x_ygV (ls := ls) (rest := [.ref b34, .int v1, .ref (x_ad Y 15 0)]) hE hw (yc_Run_init h) (x_cd hK k_171) q_Run_init (by decide) (by decide) hl.1 (Nat.le_of_ble_eq_true rfl) hbd d_Led_init_69 (x_toI (As := [.ref (x_ad Y36 1 0), .ref (x_ad Y36 14 0), .ref (x_ad Y36 15 0), .int v1]) (b := b34) hx hb hown hK rfl k_169 k_170 k_171 q_Run_init rfl rfl d_Led_init_69) (fun Y41 L42 I43 k44 n44 H locs h hw hb9 => ?_) (fun _ _ _ _ _ _ _ _ h9 => h9.elim)
      replace hbd := hbd.tr hb9
      try dsimp only at h
      refine x_aast (t := 15) (i := 0) (t1 := 20) (i1 := (v1.toNatClampNeg)) hx hb hK hw ⟨h.1.1.1, rfl⟩ h.1.1.2 rfl (by decide) rfl rfl (by decide) (x_castself hK (by decide)) h.1.2 d_Led_init_72 (fun Y45 H locs e_Y45 hw => ?_)
      replace h := h.2 Y45 e_Y45
      obtain ⟨x46, e_x46⟩ : ∃ z : Int32, z = v1 + (1 : Int32) := ⟨_, rfl⟩
      replace h := h x46 e_x46
      refine lv_iinc (v := x46) (lv' := [(1, .int x46), (0, .ref b0_)]) hx hb d_Led_init_73 hl (k := 1) rfl (by rw [e_x46]; rfl) (by decide) rfl (fun ls hl => ?_)
      refine lv_goto (tgt := 41) hx hb d_Led_init_76 (by decide) ?_
      exact ih b0_ x46 Y45 L42 I43 k44 n44 H locs ls h hw hbd (lv_sub hl [1, 0] rfl)
set_option maxRecDepth 100000 in
set_option maxHeartbeats 4000000 in
theorem yc_Led_init {l : Launch} {g : x_G} {Q : x_Y → x_L → x_I → Nat → Nat → Prop} {X : Nat → x_Y → x_L → x_I → Nat → Nat → Prop} {a0 : Nat} {Y : x_Y} {L : x_L} {I : x_I} {k n : Nat} (h : yw_Led_init g Q X a0 Y L I k n) : x_C l y_Led_init 7 g [.ref a0] Y L I k n (x_yV Q X) := by
  refine x_mth k_32 ?_
  intro p e R s m below meth c hE hnm hexn hw hk1 hn1
  obtain ⟨hx, hb, hml, hr, hlk, hown, hK, htr, hF, hLo, hRc, hRs⟩ := id hE
  have hbd : x_bd k n k n := ⟨Nat.le_refl _, hk1, Nat.le_refl _, hn1⟩
  have hl := lv_entry ([.ref a0]) (n := 2) (Nat.le_of_ble_eq_true rfl)
  generalize (lg_sl [.ref a0] ++ List.replicate (2 - (lg_sl [.ref a0]).length) Slot.unset).toArray = ls at hl ⊢
  have hl : lv_has ls 2 [(0, .ref a0)] := hl
  generalize s.heap = H at hw ⊢
  generalize ([] : List Loc) = locs at hw ⊢
  unfold yw_Led_init at h
  refine lv_aload_n hx hb d_Led_init_0 rfl (lv_at hl 0 rfl) ?_
  refine x_objI (rest := []) hE hl.1 k_33 k_34 k_35 (by decide) (Nat.le_of_ble_eq_true rfl) d_Led_init_1 ?_
  refine lv_aload_n hx hb d_Led_init_4 rfl (lv_at hl 0 rfl) ?_
  refine x_newO (t := 1) (i := 0) hx hb hK hw hown rfl (by decide) k_36 k_37 k_2 hRc hRs hbd h.1.1 h.1.2 d_Led_init_5 (fun b1 k2 n2 Y3 L4 I5 H q1 q2 q3 q4 q5 hw hbd => ?_)
  replace h := h.2 b1 k2 n2 Y3 L4 I5 q1 q2 q3 q4 q5
  clear q1 q2 q3 q4 q5
  refine lv_dup hx hb d_Led_init_8 rfl ?_
  refine x_ygV (ls := ls) (rest := [.ref b1, .ref a0]) hE hw (yc_Book_init h) (x_cd hK k_40) q_Book_init (by decide) (by decide) hl.1 (Nat.le_of_ble_eq_true rfl) hbd d_Led_init_9 (x_toIN (As := []) (b := b1) hx hb hown hK rfl k_38 k_39 k_40 q_Book_init rfl rfl d_Led_init_9) (fun Y8 L9 I10 k11 n11 H locs h hw hb9 => ?_) (fun _ _ _ _ _ _ _ _ h9 => h9.elim)
  replace hbd := hbd.tr hb9
  try dsimp only at h
  refine x_pRF (t := 0) (i := 0) (j := 0) hx hb hK hw hown h.1 rfl (by decide) (by decide) (x_wd hK k_220 rfl) (fun _ h => h) rfl hnm rfl fk_0_0 d_Led_init_12 (fun Y12 H locs e_Y12 hw => ?_)
  replace h := h.2 Y12 e_Y12
  refine lv_aload_n hx hb d_Led_init_15 rfl (lv_at hl 0 rfl) ?_
  refine x_ygA (ls := ls) (rest := [.ref a0]) hE hw (yc_Ins_values h) (x_cd hK k_155) q_Ins_values (by decide) (by decide) hl.1 (Nat.le_of_ble_eq_true rfl) hbd d_Led_init_16 (x_toS (As := []) hx hb hown hK k_153 k_154 k_9 ⟨_, x_cd hK k_155⟩ q_Ins_values rfl rfl d_Led_init_16) (fun a14 Y15 L16 I17 k18 n18 H locs h hw hb9 => ?_) (fun _ _ _ _ _ _ _ _ h9 => h9.elim)
  replace hbd := hbd.tr hb9
  try dsimp only at h
  refine x_pRF (t := 0) (i := 0) (j := 1) hx hb hK hw hown h.1 rfl (by decide) (by decide) (x_wd hK k_221 rfl) (fun _ h => h) rfl hnm rfl fk_0_1 d_Led_init_19 (fun Y19 H locs e_Y19 hw => ?_)
  replace h := h.2 Y19 e_Y19
  refine lv_aload_n hx hb d_Led_init_22 rfl (lv_at hl 0 rfl) ?_
  refine lv_bipush (v := 8) hx hb d_Led_init_23 (by decide) ?_
  refine x_newQ (t := 15) (i := 0) hx hb hK hw hown rfl (by decide) rfl k_166 k_167 (by decide) (by decide) hRc hRs hbd h.1.1 h.1.2 d_Led_init_25 (fun b20 k21 n21 Y22 L23 I24 H q1 q2 q3 q4 q5 hw hbd => ?_)
  replace h := h.2 b20 k21 n21 Y22 L23 I24 q1 q2 q3 q4 q5
  clear q1 q2 q3 q4 q5
  refine x_pRF (t := 0) (i := 0) (j := 2) hx hb hK hw hown h.1 rfl (by decide) (by decide) (x_wd hK k_222 rfl) (fun _ h => h) rfl hnm rfl fk_0_2 d_Led_init_28 (fun Y25 H locs e_Y25 hw => ?_)
  replace h := h.2 Y25 e_Y25
  refine lv_aload_n hx hb d_Led_init_31 rfl (lv_at hl 0 rfl) ?_
  refine lv_bipush (v := 8) hx hb d_Led_init_32 (by decide) ?_
  refine x_newA1 (t := 16) (i := 0) hx hb hK hw rfl (by decide) (at0 := .int) rfl k_96 (by decide) (by decide) hRc hRs hbd h.1.1 h.1.2 d_Led_init_34 (fun b26 k27 n27 Y28 L29 I30 H q1 q2 q3 q4 q5 hw hbd => ?_)
  replace h := h.2 b26 k27 n27 Y28 L29 I30 q1 q2 q3 q4 q5
  clear q1 q2 q3 q4 q5
  refine x_pRF (t := 0) (i := 0) (j := 3) hx hb hK hw hown h.1 rfl (by decide) (by decide) (x_wd hK k_223 rfl) (fun _ h => h) rfl hnm rfl fk_0_3 d_Led_init_36 (fun Y31 H locs e_Y31 hw => ?_)
  replace h := h.2 Y31 e_Y31
  refine lv_iconst (v := 0) hx hb d_Led_init_39 (by decide) ?_
  refine lv_topi (fun x32 e_x32 => ?_)
  replace h := h x32 e_x32
  refine lv_istore_n (lv' := [(1, .int x32), (0, .ref a0)]) hx hb d_Led_init_40 rfl hl (by decide) rfl (fun ls hl => ?_)
  obtain ⟨fu, h⟩ := h
  exact yc_Led_init_41 hE hnm hexn fu a0 x32 Y31 L29 I30 k27 n27 H locs ls h hw hbd (lv_sub hl [1, 0] rfl)
