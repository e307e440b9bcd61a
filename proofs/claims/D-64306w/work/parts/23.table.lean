def w_Tab_find_5 (Q : Int32 → Prop) : Nat → Int64 → Int32 → x_L → x_I → Prop
  | 0, _, _, _, _ => False
  | fu + 1, v1, v3, L, I =>
    vp_in v3 4096 ∧
    (((I 7 0 v3.toNatClampNeg) = 0 →
      Q (-1 : Int32)) ∧
    (¬ (I 7 0 v3.toNatClampNeg) = 0 →
      vp_in v3 4096 ∧
      ((¬ (I 7 0 v3.toNatClampNeg) = (1 : Int32) →
        ∀ x5 : Int32, x5 = ((v3 + (1 : Int32)) &&& (4095 : Int32)) →
        w_Tab_find_5 Q fu v1 x5 L I) ∧
      ((I 7 0 v3.toNatClampNeg) = (1 : Int32) →
        vp_in v3 4096 ∧
        ((¬ (lg_cmp (L 5 0 v3.toNatClampNeg) v1) = 0 →
          ∀ x8 : Int32, x8 = ((v3 + (1 : Int32)) &&& (4095 : Int32)) →
          w_Tab_find_5 Q fu v1 x8 L I) ∧
        ((lg_cmp (L 5 0 v3.toNatClampNeg) v1) = 0 →
          Q v3))))))
def w_Tab_find (Q : Int32 → Prop) (p1 : Int64) (L : x_L) (I : x_I) : Prop :=
  w_Tab_place (fun r1 =>
    ∃ fu : Nat, w_Tab_find_5 Q fu p1 r1 L I) p1
set_option maxRecDepth 100000 in
set_option maxHeartbeats 4000000 in
theorem c_Tab_find_5 {l : Launch} {g : x_G} {Y : x_Y} {p : Program} {e : Env} {R : Room} {s : State} {m : MethodId} {args : Array Value} {below : List Frame} {meth : Method} {c : Code} {k n : Nat} (hE : x_E l g p e R s m meth c "CallLedger$Table" prog_7_method_3_code 4 (some .int) 1 k n) (hexn : c.exceptionTable.toList = []) (hY : x_Y0 g Y) (ok0_ : x_ok Y 4 0) {Q : Int32 → Prop} {L : x_L} {I : x_I} :
    ∀ (fu : Nat) (v1 : Int64) (v3 : Int32) (H : Heap) (locs : List Loc) (ls : Array Slot), w_Tab_find_5 Q fu v1 v3 L I → x_WL g Y L I H locs → x_bd k n k n → lv_has ls 4 [(0, .ref (x_ad Y 4 0)), (1, .long v1), (3, .int v3)] → W p l e R s m args below meth c H locs (k - k) (n - n) (x_Q g below s k n (x_pI Y (fun v L' I' k' n' => L' = L ∧ I' = I ∧ k' = k ∧ n' = n ∧ Q v) x_nx)) (F0 m 5 ls []) := by
  obtain ⟨hx, hb, hml, hr, hlk, hown, hK, htr, hF, hLo, hRc, hRs⟩ := id hE
  intro fu
  induction fu with
  | zero =>
    intro v1 v3 H locs ls h
    exact h.elim
  | succ fu ih =>
    intro v1 v3 H locs ls h hw hbd hl
    unfold w_Tab_find_5 at h
    refine lv_aload_n hx hb d_Tab_find_5 rfl (lv_at hl 0 rfl) ?_
    refine x_getR (t := 4) (i := 0) (j := 2) hx hb hK hw hown ok0_ rfl (by decide) (by decide) (x_wd hK k_79 rfl) (fun _ h => h) fk_3_2 (hY.r ok0_ rfl) d_Tab_find_6 ?_
    have ok2 := hY.ok 2 ok0_ (t' := 7) (i' := 0) rfl
    refine lv_iload_n hx hb d_Tab_find_9 rfl (lv_at hl 2 rfl) ?_
    refine x_bald (t := 7) (i := 0) hx hb hK hw ok2 rfl (hY.n ok2 rfl) h.1 d_Tab_find_10 ?_
    replace h := h.2
    refine lv_if_eq (tgt := 48) hx hb d_Tab_find_11 (by decide) (fun c3 => ?_) (fun c3 => ?_)
    · replace h := h.1 c3
      refine lv_iconst (v := (-1)) hx hb d_Tab_find_48 (by decide) ?_
      exact x_iret hx hb hr hlk hw ⟨rfl, Or.inl ⟨_, rfl, ⟨rfl, rfl, rfl, rfl, h⟩⟩⟩ hbd d_Tab_find_49
    · replace h := h.2 c3
      refine lv_aload_n hx hb d_Tab_find_14 rfl (lv_at hl 0 rfl) ?_
      refine x_getR (t := 4) (i := 0) (j := 2) hx hb hK hw hown ok0_ rfl (by decide) (by decide) (x_wd hK k_79 rfl) (fun _ h => h) fk_3_2 (hY.r ok0_ rfl) d_Tab_find_15 ?_
      refine lv_iload_n hx hb d_Tab_find_18 rfl (lv_at hl 2 rfl) ?_
      refine x_bald (t := 7) (i := 0) hx hb hK hw ok2 rfl (hY.n ok2 rfl) h.1 d_Tab_find_19 ?_
      replace h := h.2
      refine lv_iconst (v := 1) hx hb d_Tab_find_20 (by decide) ?_
      refine lv_icmp_ne (tgt := 37) hx hb d_Tab_find_21 (by decide) (fun c4 => ?_) (fun c4 => ?_)
      · replace h := h.1 c4
        refine lv_iload_n hx hb d_Tab_find_37 rfl (lv_at hl 2 rfl) ?_
        refine lv_iconst (v := 1) hx hb d_Tab_find_38 (by decide) ?_
        refine lv_iadd hx hb d_Tab_find_39 ?_
        refine lv_sipush (v := 4095) hx hb d_Tab_find_40 (by decide) ?_
        refine lv_iand hx hb d_Tab_find_43 ?_
        refine lv_topi (fun x5 e_x5 => ?_)
        replace h := h x5 e_x5
        refine lv_istore_n (lv' := [(3, .int x5), (0, .ref (x_ad Y 4 0)), (1, .long v1)]) hx hb d_Tab_find_44 rfl hl (by decide) rfl (fun ls hl => ?_)
        refine lv_goto (tgt := 5) hx hb d_Tab_find_45 (by decide) ?_
        exact ih v1 x5 H locs ls h hw hbd (lv_sub hl [1, 2, 0] rfl)
      · replace h := h.2 c4
        refine lv_aload_n hx hb d_Tab_find_24 rfl (lv_at hl 0 rfl) ?_
        refine x_getR (t := 4) (i := 0) (j := 0) hx hb hK hw hown ok0_ rfl (by decide) (by decide) (x_wd hK k_77 rfl) (fun _ h => h) fk_3_0 (hY.r ok0_ rfl) d_Tab_find_25 ?_
        have ok6 := hY.ok 0 ok0_ (t' := 5) (i' := 0) rfl
        refine lv_iload_n hx hb d_Tab_find_28 rfl (lv_at hl 2 rfl) ?_
        refine x_lald (t := 5) (i := 0) hx hb hK hw ok6 rfl (hY.n ok6 rfl) h.1 d_Tab_find_29 ?_
        replace h := h.2
        refine lv_lload_n hx hb d_Tab_find_30 rfl (lv_at hl 1 rfl) ?_
        refine W.lcmp hx hb d_Tab_find_31 ?_
        refine lv_if_ne (tgt := 37) hx hb d_Tab_find_32 (by decide) (fun c7 => ?_) (fun c7 => ?_)
        · replace h := h.1 c7
          refine lv_iload_n hx hb d_Tab_find_37 rfl (lv_at hl 2 rfl) ?_
          refine lv_iconst (v := 1) hx hb d_Tab_find_38 (by decide) ?_
          refine lv_iadd hx hb d_Tab_find_39 ?_
          refine lv_sipush (v := 4095) hx hb d_Tab_find_40 (by decide) ?_
          refine lv_iand hx hb d_Tab_find_43 ?_
          refine lv_topi (fun x8 e_x8 => ?_)
          replace h := h x8 e_x8
          refine lv_istore_n (lv' := [(3, .int x8), (0, .ref (x_ad Y 4 0)), (1, .long v1)]) hx hb d_Tab_find_44 rfl hl (by decide) rfl (fun ls hl => ?_)
          refine lv_goto (tgt := 5) hx hb d_Tab_find_45 (by decide) ?_
          exact ih v1 x8 H locs ls h hw hbd (lv_sub hl [1, 2, 0] rfl)
        · replace h := h.2 c7
          refine lv_iload_n hx hb d_Tab_find_35 rfl (lv_at hl 2 rfl) ?_
          exact x_iret hx hb hr hlk hw ⟨rfl, Or.inl ⟨_, rfl, ⟨rfl, rfl, rfl, rfl, h⟩⟩⟩ hbd d_Tab_find_36
set_option maxRecDepth 100000 in
set_option maxHeartbeats 4000000 in
theorem c_Tab_find {l : Launch} {g : x_G} {Y : x_Y} (hY : x_Y0 g Y) {p1 : Int64} (ok0_ : x_ok Y 4 0) {Q : Int32 → Prop} {L : x_L} {I : x_I} {k n : Nat} (h : w_Tab_find Q p1 L I) : x_C l y_Tab_find 1 g [.ref (x_ad Y 4 0), .long p1] Y L I k n (x_pI Y (fun v L' I' k' n' => L' = L ∧ I' = I ∧ k' = k ∧ n' = n ∧ Q v) x_nx) := by
  refine x_mth k_687 ?_
  intro p e R s m below meth c hE hnm hexn hw hk1 hn1
  obtain ⟨hx, hb, hml, hr, hlk, hown, hK, htr, hF, hLo, hRc, hRs⟩ := id hE
  have hbd : x_bd k n k n := ⟨Nat.le_refl _, hk1, Nat.le_refl _, hn1⟩
  have hl := lv_entry ([.ref (x_ad Y 4 0), .long p1]) (n := 4) (Nat.le_of_ble_eq_true rfl)
  generalize (lg_sl [.ref (x_ad Y 4 0), .long p1] ++ List.replicate (4 - (lg_sl [.ref (x_ad Y 4 0), .long p1]).length) Slot.unset).toArray = ls at hl ⊢
  have hl : lv_has ls 4 [(0, .ref (x_ad Y 4 0)), (1, .long p1)] := hl
  generalize s.heap = H at hw ⊢
  generalize ([] : List Loc) = locs at hw ⊢
  unfold w_Tab_find at h
  refine lv_lload_n hx hb d_Tab_find_0 rfl (lv_at hl 1 rfl) ?_
  refine x_goI (ls := ls) (rest := []) hE hw (c_Tab_place hY h) (x_cd hK k_690) q_Tab_place (by decide) (by decide) hl.1 (Nat.le_of_ble_eq_true rfl) hbd d_Tab_find_1 (x_toS (As := [.long p1]) hx hb hown hK k_688 k_689 k_6 ⟨_, x_cd hK k_690⟩ q_Tab_place rfl rfl d_Tab_find_1) (fun r1 L9 I9 k9 n9 H locs h hw hb9 => ?_) (fun _ _ _ _ _ _ _ h9 => h9.elim)
  obtain ⟨e1, e2, e3, e4, h⟩ := h
  rw [e1, e2] at hw
  rw [e3, e4]
  refine lv_istore_n (lv' := [(3, .int r1), (0, .ref (x_ad Y 4 0)), (1, .long p1)]) hx hb d_Tab_find_4 rfl hl (by decide) rfl (fun ls hl => ?_)
  obtain ⟨fu, h⟩ := h
  exact c_Tab_find_5 hE hexn hY ok0_ fu p1 r1 H locs ls h hw hbd (lv_sub hl [1, 2, 0] rfl)
def w_Tab_get (Q : Int32 → Prop) (p1 : Int64) (L : x_L) (I : x_I) : Prop :=
  w_Tab_find (fun r1 =>
    ((¬ r1 = (-1 : Int32) →
      vp_in r1 4096 ∧
      Q (I 6 0 r1.toNatClampNeg)) ∧
    (r1 = (-1 : Int32) →
      Q (0 : Int32)))) p1 L I
set_option maxRecDepth 100000 in
set_option maxHeartbeats 4000000 in
theorem c_Tab_get {l : Launch} {g : x_G} {Y : x_Y} (hY : x_Y0 g Y) {p1 : Int64} (ok0_ : x_ok Y 4 0) {Q : Int32 → Prop} {L : x_L} {I : x_I} {k n : Nat} (h : w_Tab_get Q p1 L I) : x_C l y_Tab_get 2 g [.ref (x_ad Y 4 0), .long p1] Y L I k n (x_pI Y (fun v L' I' k' n' => L' = L ∧ I' = I ∧ k' = k ∧ n' = n ∧ Q v) x_nx) := by
  refine x_mth k_683 ?_
  intro p e R s m below meth c hE hnm hexn hw hk1 hn1
  obtain ⟨hx, hb, hml, hr, hlk, hown, hK, htr, hF, hLo, hRc, hRs⟩ := id hE
  have hbd : x_bd k n k n := ⟨Nat.le_refl _, hk1, Nat.le_refl _, hn1⟩
  have hl := lv_entry ([.ref (x_ad Y 4 0), .long p1]) (n := 4) (Nat.le_of_ble_eq_true rfl)
  generalize (lg_sl [.ref (x_ad Y 4 0), .long p1] ++ List.replicate (4 - (lg_sl [.ref (x_ad Y 4 0), .long p1]).length) Slot.unset).toArray = ls at hl ⊢
  have hl : lv_has ls 4 [(0, .ref (x_ad Y 4 0)), (1, .long p1)] := hl
  generalize s.heap = H at hw ⊢
  generalize ([] : List Loc) = locs at hw ⊢
  unfold w_Tab_get at h
  refine lv_aload_n hx hb d_Tab_get_0 rfl (lv_at hl 0 rfl) ?_
  refine lv_lload_n hx hb d_Tab_get_1 rfl (lv_at hl 1 rfl) ?_
  refine x_goI (ls := ls) (rest := []) hE hw (c_Tab_find hY ok0_ h) (x_cd hK k_687) q_Tab_find (by decide) (by decide) hl.1 (Nat.le_of_ble_eq_true rfl) hbd d_Tab_get_2 (x_toV (As := [.long p1]) (b := (x_ad Y 4 0)) hx hb hown hK (x_recv hK hw ok0_ rfl (by decide)) k_684 k_686 ks_10 ⟨_, x_cd hK k_687⟩ q_Tab_find rfl rfl d_Tab_get_2) (fun r1 L9 I9 k9 n9 H locs h hw hb9 => ?_) (fun _ _ _ _ _ _ _ h9 => h9.elim)
  obtain ⟨e1, e2, e3, e4, h⟩ := h
  rw [e1, e2] at hw
  rw [e3, e4]
  refine lv_istore_n (lv' := [(3, .int r1), (0, .ref (x_ad Y 4 0)), (1, .long p1)]) hx hb d_Tab_get_5 rfl hl (by decide) rfl (fun ls hl => ?_)
  refine lv_iload_n hx hb d_Tab_get_6 rfl (lv_at hl 0 rfl) ?_
  refine lv_iconst (v := (-1)) hx hb d_Tab_get_7 (by decide) ?_
  refine lv_icmp_ne (tgt := 15) hx hb d_Tab_get_8 (by decide) (fun c2 => ?_) (fun c2 => ?_)
  · replace h := h.1 c2
    refine lv_aload_n hx hb d_Tab_get_15 rfl (lv_at hl 1 rfl) ?_
    refine x_getR (t := 4) (i := 0) (j := 1) hx hb hK hw hown ok0_ rfl (by decide) (by decide) (x_wd hK k_78 rfl) (fun _ h => h) fk_3_1 (hY.r ok0_ rfl) d_Tab_get_16 ?_
    have ok3 := hY.ok 1 ok0_ (t' := 6) (i' := 0) rfl
    refine lv_iload_n hx hb d_Tab_get_19 rfl (lv_at hl 0 rfl) ?_
    refine x_iald (t := 6) (i := 0) hx hb hK hw ok3 rfl (hY.n ok3 rfl) h.1 d_Tab_get_20 ?_
    replace h := h.2
    exact x_iret hx hb hr hlk hw ⟨rfl, Or.inl ⟨_, rfl, ⟨rfl, rfl, rfl, rfl, h⟩⟩⟩ hbd d_Tab_get_21
  · replace h := h.2 c2
    refine lv_iconst (v := 0) hx hb d_Tab_get_11 (by decide) ?_
    refine lv_goto (tgt := 21) hx hb d_Tab_get_12 (by decide) ?_
    exact x_iret hx hb hr hlk hw ⟨rfl, Or.inl ⟨_, rfl, ⟨rfl, rfl, rfl, rfl, h⟩⟩⟩ hbd d_Tab_get_21
def w_Tab_add_6 (Q : x_L → x_I → Prop) : Nat → Int64 → Int32 → Int32 → x_L → x_I → Prop
  | 0, _, _, _, _, _ => False
  | fu + 1, v1, v3, v4, L, I =>
    vp_in v4 4096 ∧
    ((¬ (I 7 0 v4.toNatClampNeg) = (1 : Int32) →
      vp_in v4 4096 ∧
      ((¬ (I 7 0 v4.toNatClampNeg) = 0 →
        ∀ I5 : x_I, I5 = x_u I 4 0 4 ((I 4 0 4) + (0 : Int32)) →
        vp_in v4 4096 ∧
        ∀ I6 : x_I, I6 = x_u I5 7 0 v4.toNatClampNeg (vp_nar .byte (1 : Int32)) →
        vp_in v4 4096 ∧
        ∀ L8 : x_L, L8 = x_ul L 5 0 v4.toNatClampNeg v1 →
        vp_in v4 4096 ∧
        ∀ I10 : x_I, I10 = x_u I6 6 0 v4.toNatClampNeg v3 →
        ∀ I11 : x_I, I11 = x_u I10 4 0 3 ((I10 4 0 3) + (1 : Int32)) →
        Q L8 I11) ∧
      ((I 7 0 v4.toNatClampNeg) = 0 →
        ∀ I12 : x_I, I12 = x_u I 4 0 4 ((I 4 0 4) + (1 : Int32)) →
        vp_in v4 4096 ∧
        ∀ I13 : x_I, I13 = x_u I12 7 0 v4.toNatClampNeg (vp_nar .byte (1 : Int32)) →
        vp_in v4 4096 ∧
        ∀ L15 : x_L, L15 = x_ul L 5 0 v4.toNatClampNeg v1 →
        vp_in v4 4096 ∧
        ∀ I17 : x_I, I17 = x_u I13 6 0 v4.toNatClampNeg v3 →
        ∀ I18 : x_I, I18 = x_u I17 4 0 3 ((I17 4 0 3) + (1 : Int32)) →
        Q L15 I18))) ∧
    ((I 7 0 v4.toNatClampNeg) = (1 : Int32) →
      ∀ x19 : Int32, x19 = ((v4 + (1 : Int32)) &&& (4095 : Int32)) →
      w_Tab_add_6 Q fu v1 v3 x19 L I))
def w_Tab_add (Q : x_L → x_I → Prop) (p1 : Int64) (p2 : Int32) (L : x_L) (I : x_I) : Prop :=
  w_Tab_place (fun r1 =>
    ∃ fu : Nat, w_Tab_add_6 Q fu p1 p2 r1 L I) p1
set_option maxRecDepth 100000 in
set_option maxHeartbeats 4000000 in
theorem c_Tab_add_6 {l : Launch} {g : x_G} {Y : x_Y} {p : Program} {e : Env} {R : Room} {s : State} {m : MethodId} {args : Array Value} {below : List Frame} {meth : Method} {c : Code} {k n : Nat} (hE : x_E l g p e R s m meth c "CallLedger$Table" prog_7_method_5_code 5 none 1 k n) (hexn : c.exceptionTable.toList = []) (hY : x_Y0 g Y) (ok0_ : x_ok Y 4 0) {Q : x_L → x_I → Prop} :
    ∀ (fu : Nat) (v1 : Int64) (v3 : Int32) (v4 : Int32) (L : x_L) (I : x_I) (H : Heap) (locs : List Loc) (ls : Array Slot), w_Tab_add_6 Q fu v1 v3 v4 L I → x_WL g Y L I H locs → x_bd k n k n → lv_has ls 5 [(0, .ref (x_ad Y 4 0)), (1, .long v1), (3, .int v3), (4, .int v4)] → W p l e R s m args below meth c H locs (k - k) (n - n) (x_Q g below s k n (x_pV Y (fun L' I' k' n' => k' = k ∧ n' = n ∧ Q L' I') x_nx)) (F0 m 6 ls []) := by
  obtain ⟨hx, hb, hml, hr, hlk, hown, hK, htr, hF, hLo, hRc, hRs⟩ := id hE
  intro fu
  induction fu with
  | zero =>
    intro v1 v3 v4 L I H locs ls h
    exact h.elim
  | succ fu ih =>
    intro v1 v3 v4 L I H locs ls h hw hbd hl
    unfold w_Tab_add_6 at h
    refine lv_aload_n hx hb d_Tab_add_6 rfl (lv_at hl 0 rfl) ?_
    refine x_getR (t := 4) (i := 0) (j := 2) hx hb hK hw hown ok0_ rfl (by decide) (by decide) (x_wd hK k_79 rfl) (fun _ h => h) fk_3_2 (hY.r ok0_ rfl) d_Tab_add_7 ?_
    have ok2 := hY.ok 2 ok0_ (t' := 7) (i' := 0) rfl
    refine lv_iload hx hb d_Tab_add_10 (lv_at hl 3 rfl) ?_
    refine x_bald (t := 7) (i := 0) hx hb hK hw ok2 rfl (hY.n ok2 rfl) h.1 d_Tab_add_12 ?_
    replace h := h.2
    refine lv_iconst (v := 1) hx hb d_Tab_add_13 (by decide) ?_
    refine lv_icmp_ne (tgt := 30) hx hb d_Tab_add_14 (by decide) (fun c3 => ?_) (fun c3 => ?_)
    · replace h := h.1 c3
      refine lv_aload_n hx hb d_Tab_add_30 rfl (lv_at hl 0 rfl) ?_
      refine lv_dup hx hb d_Tab_add_31 rfl ?_
      refine x_getI (t := 4) (i := 0) (j := 4) hx hb hK hw hown ok0_ rfl (by decide) (by decide) (x_wd hK k_83 rfl) (fun _ h => h) fk_3_4 d_Tab_add_32 ?_
      refine lv_aload_n hx hb d_Tab_add_35 rfl (lv_at hl 0 rfl) ?_
      refine x_getR (t := 4) (i := 0) (j := 2) hx hb hK hw hown ok0_ rfl (by decide) (by decide) (x_wd hK k_79 rfl) (fun _ h => h) fk_3_2 (hY.r ok0_ rfl) d_Tab_add_36 ?_
      refine lv_iload hx hb d_Tab_add_39 (lv_at hl 3 rfl) ?_
      refine x_bald (t := 7) (i := 0) hx hb hK hw ok2 rfl (hY.n ok2 rfl) h.1 d_Tab_add_41 ?_
      replace h := h.2
      refine lv_if_ne (tgt := 49) hx hb d_Tab_add_42 (by decide) (fun c4 => ?_) (fun c4 => ?_)
      · replace h := h.1 c4
        refine lv_iconst (v := 0) hx hb d_Tab_add_49 (by decide) ?_
        refine lv_iadd hx hb d_Tab_add_50 ?_
        refine x_putI (t := 4) (i := 0) (j := 4) hx hb hK hw hown ok0_ rfl (by decide) (by decide) (x_wd hK k_83 rfl) (fun _ h => h) rfl rfl d_Tab_add_51 (fun I5 H locs e_I5 hw => ?_)
        replace h := h I5 e_I5
        refine lv_aload_n hx hb d_Tab_add_54 rfl (lv_at hl 0 rfl) ?_
        refine x_getR (t := 4) (i := 0) (j := 2) hx hb hK hw hown ok0_ rfl (by decide) (by decide) (x_wd hK k_79 rfl) (fun _ h => h) fk_3_2 (hY.r ok0_ rfl) d_Tab_add_55 ?_
        refine lv_iload hx hb d_Tab_add_58 (lv_at hl 3 rfl) ?_
        refine lv_iconst (v := 1) hx hb d_Tab_add_60 (by decide) ?_
        refine x_bast (t := 7) (i := 0) hx hb hK hw ok2 rfl (hY.n ok2 rfl) h.1 d_Tab_add_61 (fun I6 H locs e_I6 hw => ?_)
        replace h := h.2 I6 e_I6
        refine lv_aload_n hx hb d_Tab_add_62 rfl (lv_at hl 0 rfl) ?_
        refine x_getR (t := 4) (i := 0) (j := 0) hx hb hK hw hown ok0_ rfl (by decide) (by decide) (x_wd hK k_77 rfl) (fun _ h => h) fk_3_0 (hY.r ok0_ rfl) d_Tab_add_63 ?_
        have ok7 := hY.ok 0 ok0_ (t' := 5) (i' := 0) rfl
        refine lv_iload hx hb d_Tab_add_66 (lv_at hl 3 rfl) ?_
        refine lv_lload_n hx hb d_Tab_add_68 rfl (lv_at hl 1 rfl) ?_
        refine x_last (t := 5) (i := 0) hx hb hK hw ok7 rfl (hY.n ok7 rfl) h.1 d_Tab_add_69 (fun L8 H locs e_L8 hw => ?_)
        replace h := h.2 L8 e_L8
        refine lv_aload_n hx hb d_Tab_add_70 rfl (lv_at hl 0 rfl) ?_
        refine x_getR (t := 4) (i := 0) (j := 1) hx hb hK hw hown ok0_ rfl (by decide) (by decide) (x_wd hK k_78 rfl) (fun _ h => h) fk_3_1 (hY.r ok0_ rfl) d_Tab_add_71 ?_
        have ok9 := hY.ok 1 ok0_ (t' := 6) (i' := 0) rfl
        refine lv_iload hx hb d_Tab_add_74 (lv_at hl 3 rfl) ?_
        refine lv_iload_n hx hb d_Tab_add_76 rfl (lv_at hl 2 rfl) ?_
        refine x_iast (t := 6) (i := 0) hx hb hK hw ok9 rfl (hY.n ok9 rfl) h.1 d_Tab_add_77 (fun I10 H locs e_I10 hw => ?_)
        replace h := h.2 I10 e_I10
        refine lv_aload_n hx hb d_Tab_add_78 rfl (lv_at hl 0 rfl) ?_
        refine lv_dup hx hb d_Tab_add_79 rfl ?_
        refine x_getI (t := 4) (i := 0) (j := 3) hx hb hK hw hown ok0_ rfl (by decide) (by decide) (x_wd hK k_80 rfl) (fun _ h => h) fk_3_3 d_Tab_add_80 ?_
        refine lv_iconst (v := 1) hx hb d_Tab_add_83 (by decide) ?_
        refine lv_iadd hx hb d_Tab_add_84 ?_
        refine x_putI (t := 4) (i := 0) (j := 3) hx hb hK hw hown ok0_ rfl (by decide) (by decide) (x_wd hK k_80 rfl) (fun _ h => h) rfl rfl d_Tab_add_85 (fun I11 H locs e_I11 hw => ?_)
        replace h := h I11 e_I11
        exact x_vret hx hb hr hlk hw ⟨rfl, Or.inl ⟨rfl, ⟨rfl, rfl, h⟩⟩⟩ hbd d_Tab_add_88
      · replace h := h.2 c4
        refine lv_iconst (v := 1) hx hb d_Tab_add_45 (by decide) ?_
        refine lv_goto (tgt := 50) hx hb d_Tab_add_46 (by decide) ?_
        refine lv_iadd hx hb d_Tab_add_50 ?_
        refine x_putI (t := 4) (i := 0) (j := 4) hx hb hK hw hown ok0_ rfl (by decide) (by decide) (x_wd hK k_83 rfl) (fun _ h => h) rfl rfl d_Tab_add_51 (fun I12 H locs e_I12 hw => ?_)
        replace h := h I12 e_I12
        refine lv_aload_n hx hb d_Tab_add_54 rfl (lv_at hl 0 rfl) ?_
        refine x_getR (t := 4) (i := 0) (j := 2) hx hb hK hw hown ok0_ rfl (by decide) (by decide) (x_wd hK k_79 rfl) (fun _ h => h) fk_3_2 (hY.r ok0_ rfl) d_Tab_add_55 ?_
        refine lv_iload hx hb d_Tab_add_58 (lv_at hl 3 rfl) ?_
        refine lv_iconst (v := 1) hx hb d_Tab_add_60 (by decide) ?_
        refine x_bast (t := 7) (i := 0) hx hb hK hw ok2 rfl (hY.n ok2 rfl) h.1 d_Tab_add_61 (fun I13 H locs e_I13 hw => ?_)
        replace h := h.2 I13 e_I13
        refine lv_aload_n hx hb d_Tab_add_62 rfl (lv_at hl 0 rfl) ?_
        refine x_getR (t := 4) (i := 0) (j := 0) hx hb hK hw hown ok0_ rfl (by decide) (by decide) (x_wd hK k_77 rfl) (fun _ h => h) fk_3_0 (hY.r ok0_ rfl) d_Tab_add_63 ?_
        have ok14 := hY.ok 0 ok0_ (t' := 5) (i' := 0) rfl
        refine lv_iload hx hb d_Tab_add_66 (lv_at hl 3 rfl) ?_
        refine lv_lload_n hx hb d_Tab_add_68 rfl (lv_at hl 1 rfl) ?_
        refine x_last (t := 5) (i := 0) hx hb hK hw ok14 rfl (hY.n ok14 rfl) h.1 d_Tab_add_69 (fun L15 H locs e_L15 hw => ?_)
        replace h := h.2 L15 e_L15
        refine lv_aload_n hx hb d_Tab_add_70 rfl (lv_at hl 0 rfl) ?_
        refine x_getR (t := 4) (i := 0) (j := 1) hx hb hK hw hown ok0_ rfl (by decide) (by decide) (x_wd hK k_78 rfl) (fun _ h => h) fk_3_1 (hY.r ok0_ rfl) d_Tab_add_71 ?_
        have ok16 := hY.ok 1 ok0_ (t' := 6) (i' := 0) rfl
        refine lv_iload hx hb d_Tab_add_74 (lv_at hl 3 rfl) ?_
        refine lv_iload_n hx hb d_Tab_add_76 rfl (lv_at hl 2 rfl) ?_
        refine x_iast (t := 6) (i := 0) hx hb hK hw ok16 rfl (hY.n ok16 rfl) h.1 d_Tab_add_77 (fun I17 H locs e_I17 hw => ?_)
        replace h := h.2 I17 e_I17
        refine lv_aload_n hx hb d_Tab_add_78 rfl (lv_at hl 0 rfl) ?_
        refine lv_dup hx hb d_Tab_add_79 rfl ?_
        refine x_getI (t := 4) (i := 0) (j := 3) hx hb hK hw hown ok0_ rfl (by decide) (by decide) (x_wd hK k_80 rfl) (fun _ h => h) fk_3_3 d_Tab_add_80 ?_
        refine lv_iconst (v := 1) hx hb d_Tab_add_83 (by decide) ?_
        refine lv_iadd hx hb d_Tab_add_84 ?_
        refine x_putI (t := 4) (i := 0) (j := 3) hx hb hK hw hown ok0_ rfl (by decide) (by decide) (x_wd hK k_80 rfl) (fun _ h => h) rfl rfl d_Tab_add_85 (fun I18 H locs e_I18 hw => ?_)
        replace h := h I18 e_I18
        exact x_vret hx hb hr hlk hw ⟨rfl, Or.inl ⟨rfl, ⟨rfl, rfl, h⟩⟩⟩ hbd d_Tab_add_88
    · replace h := h.2 c3
      refine lv_iload hx hb d_Tab_add_17 (lv_at hl 3 rfl) ?_
      refine lv_iconst (v := 1) hx hb d_Tab_add_19 (by decide) ?_
      refine lv_iadd hx hb d_Tab_add_20 ?_
      refine lv_sipush (v := 4095) hx hb d_Tab_add_21 (by decide) ?_
      refine lv_iand hx hb d_Tab_add_24 ?_
      refine lv_topi (fun x19 e_x19 => ?_)
      replace h := h x19 e_x19
      refine lv_istore (lv' := [(4, .int x19), (0, .ref (x_ad Y 4 0)), (1, .long v1), (3, .int v3)]) hx hb d_Tab_add_25 hl (by decide) rfl (fun ls hl => ?_)
      refine lv_goto (tgt := 6) hx hb d_Tab_add_27 (by decide) ?_
      exact ih v1 v3 x19 L I H locs ls h hw hbd (lv_sub hl [1, 2, 3, 0] rfl)
set_option maxRecDepth 100000 in
set_option maxHeartbeats 4000000 in
theorem c_Tab_add {l : Launch} {g : x_G} {Y : x_Y} (hY : x_Y0 g Y) {p1 : Int64} {p2 : Int32} (ok0_ : x_ok Y 4 0) {Q : x_L → x_I → Prop} {L : x_L} {I : x_I} {k n : Nat} (h : w_Tab_add Q p1 p2 L I) : x_C l y_Tab_add 1 g [.ref (x_ad Y 4 0), .long p1, .int p2] Y L I k n (x_pV Y (fun L' I' k' n' => k' = k ∧ n' = n ∧ Q L' I') x_nx) := by
  refine x_mth k_743 ?_
  intro p e R s m below meth c hE hnm hexn hw hk1 hn1
  obtain ⟨hx, hb, hml, hr, hlk, hown, hK, htr, hF, hLo, hRc, hRs⟩ := id hE
  have hbd : x_bd k n k n := ⟨Nat.le_refl _, hk1, Nat.le_refl _, hn1⟩
  have hl := lv_entry ([.ref (x_ad Y 4 0), .long p1, .int p2]) (n := 5) (Nat.le_of_ble_eq_true rfl)
  generalize (lg_sl [.ref (x_ad Y 4 0), .long p1, .int p2] ++ List.replicate (5 - (lg_sl [.ref (x_ad Y 4 0), .long p1, .int p2]).length) Slot.unset).toArray = ls at hl ⊢
  have hl : lv_has ls 5 [(0, .ref (x_ad Y 4 0)), (1, .long p1), (3, .int p2)] := hl
  generalize s.heap = H at hw ⊢
  generalize ([] : List Loc) = locs at hw ⊢
  unfold w_Tab_add at h
  refine lv_lload_n hx hb d_Tab_add_0 rfl (lv_at hl 1 rfl) ?_
  refine x_goI (ls := ls) (rest := []) hE hw (c_Tab_place hY h) (x_cd hK k_690) q_Tab_place (by decide) (by decide) hl.1 (Nat.le_of_ble_eq_true rfl) hbd d_Tab_add_1 (x_toS (As := [.long p1]) hx hb hown hK k_688 k_689 k_6 ⟨_, x_cd hK k_690⟩ q_Tab_place rfl rfl d_Tab_add_1) (fun r1 L9 I9 k9 n9 H locs h hw hb9 => ?_) (fun _ _ _ _ _ _ _ h9 => h9.elim)
  obtain ⟨e1, e2, e3, e4, h⟩ := h
  rw [e1, e2] at hw
  rw [e3, e4]
  refine lv_istore (lv' := [(4, .int r1), (0, .ref (x_ad Y 4 0)), (1, .long p1), (3, .int p2)]) hx hb d_Tab_add_4 hl (by decide) rfl (fun ls hl => ?_)
  obtain ⟨fu, h⟩ := h
  exact c_Tab_add_6 hE hexn hY ok0_ fu p1 p2 r1 L I H locs ls h hw hbd (lv_sub hl [1, 2, 3, 0] rfl)
def w_Tab_sweep_88 (Q : x_L → x_I → Nat → Nat → Prop) (N1 : Nat) (N5 : Nat) : Nat → Int32 → Int32 → x_L → x_I → Nat → Nat → Prop
  | 0, _, _, _, _, _, _ => False
  | fu + 1, v3, v4, L, I, ka, na =>
    ((v3 ≤ v4 →
      Q L I ka na) ∧
    (¬ v3 ≤ v4 →
      vp_in v4 N1 ∧
      vp_in v4 N5 ∧
      w_Tab_add (fun L16 I17 =>
        ∀ x18 : Int32, x18 = v4 + (1 : Int32) →
        w_Tab_sweep_88 Q N1 N5 fu v3 x18 L16 I17 ka na) (L 18 0 v4.toNatClampNeg) (I 19 0 v4.toNatClampNeg) L I))
def w_Tab_sweep_19 (Q : x_L → x_I → Nat → Nat → Prop) (N1 : Nat) (N5 : Nat) : Nat → Int32 → Int32 → x_L → x_I → Nat → Nat → Prop
  | 0, _, _, _, _, _, _ => False
  | fu + 1, v3, v4, L, I, ka, na =>
    (((4096 : Int32) ≤ v4 →
      ∀ I12 : x_I, I12 = x_u I 4 0 3 (0 : Int32) →
      ∀ I13 : x_I, I13 = x_u I12 4 0 4 (0 : Int32) →
      ∀ x14 : Int32, x14 = (0 : Int32) →
      ∃ fu : Nat, w_Tab_sweep_88 Q N1 N5 fu v3 x14 L I13 ka na) ∧
    (¬ (4096 : Int32) ≤ v4 →
      vp_in v4 4096 ∧
      ((¬ (I 7 0 v4.toNatClampNeg) = (1 : Int32) →
        vp_in v4 4096 ∧
        ∀ I21 : x_I, I21 = x_u I 7 0 v4.toNatClampNeg (vp_nar .byte (0 : Int32)) →
        ∀ x22 : Int32, x22 = v4 + (1 : Int32) →
        w_Tab_sweep_19 Q N1 N5 fu v3 x22 L I21 ka na) ∧
      ((I 7 0 v4.toNatClampNeg) = (1 : Int32) →
        vp_in v4 4096 ∧
        vp_in v3 N1 ∧
        ∀ L24 : x_L, L24 = x_ul L 18 0 v3.toNatClampNeg (L 5 0 v4.toNatClampNeg) →
        vp_in v4 4096 ∧
        vp_in v3 N5 ∧
        ∀ I26 : x_I, I26 = x_u I 19 0 v3.toNatClampNeg (I 6 0 v4.toNatClampNeg) →
        ∀ x27 : Int32, x27 = v3 + (1 : Int32) →
        vp_in v4 4096 ∧
        ∀ I28 : x_I, I28 = x_u I26 7 0 v4.toNatClampNeg (vp_nar .byte (0 : Int32)) →
        ∀ x29 : Int32, x29 = v4 + (1 : Int32) →
        w_Tab_sweep_19 Q N1 N5 fu x27 x29 L24 I28 ka na))))
def w_Tab_sweep (Q : x_L → x_I → Nat → Nat → Prop) (L : x_L) (I : x_I) (k n : Nat) : Prop :=
  ¬ (I 4 0 3) < 0 ∧ k + 1 ≤ 600288 ∧ n + (I 4 0 3).toNatClampNeg ≤ 7292554 ∧
  ∀ (N1 k4 n4 : Nat) (L2 : x_L) (I3 : x_I), N1 = (I 4 0 3).toNatClampNeg → k4 = k + 1 → n4 = n + N1 → L2 = x_zl L 18 0 → I3 = x_zi I 18 0 →
  ¬ (I3 4 0 3) < 0 ∧ k4 + 1 ≤ 600288 ∧ n4 + (I3 4 0 3).toNatClampNeg ≤ 7292554 ∧
  ∀ (N5 k8 n8 : Nat) (L6 : x_L) (I7 : x_I), N5 = (I3 4 0 3).toNatClampNeg → k8 = k4 + 1 → n8 = n4 + N5 → L6 = x_zl L2 19 0 → I7 = x_zi I3 19 0 →
  ∀ x9 : Int32, x9 = (0 : Int32) →
  ∀ x10 : Int32, x10 = (0 : Int32) →
  ∃ fu : Nat, w_Tab_sweep_19 Q N1 N5 fu x9 x10 L6 I7 k8 n8
set_option maxRecDepth 100000 in
set_option maxHeartbeats 4000000 in
theorem c_Tab_sweep_88 {l : Launch} {g : x_G} {Y : x_Y} {p : Program} {e : Env} {R : Room} {s : State} {m : MethodId} {args : Array Value} {below : List Frame} {meth : Method} {c : Code} {k n : Nat} (hE : x_E l g p e R s m meth c "CallLedger$Table" prog_7_method_6_code 5 none 2 k n) (hexn : c.exceptionTable.toList = []) (hY : x_Y0 g Y) (ok0_ : x_ok Y 4 0) {N1 : Nat} {N5 : Nat} (okx_18_0 : x_ok Y 18 0) (okx_19_0 : x_ok Y 19 0) (hn18 : x_n Y 18 0 = N1) (hn19 : x_n Y 19 0 = N5) {Y0 : x_Y} (hdr : ∀ L I H locs, x_WL g Y L I H locs → x_WL g Y0 L I H locs) {Q : x_L → x_I → Nat → Nat → Prop} :
    ∀ (fu : Nat) (v3 : Int32) (v4 : Int32) (L : x_L) (I : x_I) (ka na : Nat) (H : Heap) (locs : List Loc) (ls : Array Slot), w_Tab_sweep_88 Q N1 N5 fu v3 v4 L I ka na → x_WL g Y L I H locs → x_bd k n ka na → lv_has ls 5 [(0, .ref (x_ad Y 4 0)), (1, .ref (x_ad Y 18 0)), (2, .ref (x_ad Y 19 0)), (3, .int v3), (4, .int v4)] → W p l e R s m args below meth c H locs (ka - k) (na - n) (x_Q g below s k n (x_pV Y0 (fun L' I' k' n' => Q L' I' k' n') x_nx)) (F0 m 88 ls []) := by
  obtain ⟨hx, hb, hml, hr, hlk, hown, hK, htr, hF, hLo, hRc, hRs⟩ := id hE
  intro fu
  induction fu with
  | zero =>
    intro v3 v4 L I ka na H locs ls h
    exact h.elim
  | succ fu ih =>
    intro v3 v4 L I ka na H locs ls h hw hbd hl
    unfold w_Tab_sweep_88 at h
    refine lv_iload hx hb d_Tab_sweep_88 (lv_at hl 4 rfl) ?_
    refine lv_iload_n hx hb d_Tab_sweep_90 rfl (lv_at hl 3 rfl) ?_
    refine lv_icmp_ge (tgt := 112) hx hb d_Tab_sweep_91 (by decide) (fun c15 => ?_) (fun c15 => ?_)
    · replace h := h.1 c15
      exact x_vret hx hb hr hlk (hdr _ _ _ _ hw) ⟨rfl, Or.inl ⟨rfl, h⟩⟩ hbd d_Tab_sweep_112
    · replace h := h.2 c15
      refine lv_aload_n hx hb d_Tab_sweep_94 rfl (lv_at hl 0 rfl) ?_
      refine lv_aload_n hx hb d_Tab_sweep_95 rfl (lv_at hl 1 rfl) ?_
      refine lv_iload hx hb d_Tab_sweep_96 (lv_at hl 4 rfl) ?_
      refine x_lald (t := 18) (i := 0) hx hb hK hw okx_18_0 rfl hn18 h.1 d_Tab_sweep_98 ?_
      replace h := h.2
      refine lv_aload_n hx hb d_Tab_sweep_99 rfl (lv_at hl 2 rfl) ?_
      refine lv_iload hx hb d_Tab_sweep_100 (lv_at hl 4 rfl) ?_
      refine x_iald (t := 19) (i := 0) hx hb hK hw okx_19_0 rfl hn19 h.1 d_Tab_sweep_102 ?_
      replace h := h.2
      refine x_goV (ls := ls) (rest := []) hE hw (c_Tab_add hY ok0_ h) (x_cd hK k_743) q_Tab_add (by decide) (by decide) hl.1 (Nat.le_of_ble_eq_true rfl) hbd d_Tab_sweep_103 (x_toV (As := [.long (L 18 0 v4.toNatClampNeg), .int (I 19 0 v4.toNatClampNeg)]) (b := (x_ad Y 4 0)) hx hb hown hK (x_recv hK hw ok0_ rfl (by decide)) k_740 k_742 ks_19 ⟨_, x_cd hK k_743⟩ q_Tab_add rfl rfl d_Tab_sweep_103) (fun L16 I17 k9 n9 H locs h hw hb9 => ?_) (fun _ _ _ _ _ _ _ h9 => h9.elim)
      obtain ⟨e3, e4, h⟩ := h
      rw [e3, e4]
      obtain ⟨x18, e_x18⟩ : ∃ z : Int32, z = v4 + (1 : Int32) := ⟨_, rfl⟩
      replace h := h x18 e_x18
      refine lv_iinc (v := x18) (lv' := [(4, .int x18), (0, .ref (x_ad Y 4 0)), (1, .ref (x_ad Y 18 0)), (2, .ref (x_ad Y 19 0)), (3, .int v3)]) hx hb d_Tab_sweep_106 hl (k := 4) rfl (by rw [e_x18]; rfl) (by decide) rfl (fun ls hl => ?_)
      refine lv_goto (tgt := 88) hx hb d_Tab_sweep_109 (by decide) ?_
      exact ih v3 x18 L16 I17 ka na H locs ls h hw hbd (lv_sub hl [1, 2, 3, 4, 0] rfl)
set_option maxRecDepth 100000 in
set_option maxHeartbeats 4000000 in
theorem c_Tab_sweep_19 {l : Launch} {g : x_G} {Y : x_Y} {p : Program} {e : Env} {R : Room} {s : State} {m : MethodId} {args : Array Value} {below : List Frame} {meth : Method} {c : Code} {k n : Nat} (hE : x_E l g p e R s m meth c "CallLedger$Table" prog_7_method_6_code 5 none 2 k n) (hexn : c.exceptionTable.toList = []) (hY : x_Y0 g Y) (ok0_ : x_ok Y 4 0) {N1 : Nat} {N5 : Nat} (okx_18_0 : x_ok Y 18 0) (okx_19_0 : x_ok Y 19 0) (hn18 : x_n Y 18 0 = N1) (hn19 : x_n Y 19 0 = N5) {Y0 : x_Y} (hdr : ∀ L I H locs, x_WL g Y L I H locs → x_WL g Y0 L I H locs) {Q : x_L → x_I → Nat → Nat → Prop} :
    ∀ (fu : Nat) (v3 : Int32) (v4 : Int32) (L : x_L) (I : x_I) (ka na : Nat) (H : Heap) (locs : List Loc) (ls : Array Slot), w_Tab_sweep_19 Q N1 N5 fu v3 v4 L I ka na → x_WL g Y L I H locs → x_bd k n ka na → lv_has ls 5 [(0, .ref (x_ad Y 4 0)), (1, .ref (x_ad Y 18 0)), (2, .ref (x_ad Y 19 0)), (3, .int v3), (4, .int v4)] → W p l e R s m args below meth c H locs (ka - k) (na - n) (x_Q g below s k n (x_pV Y0 (fun L' I' k' n' => Q L' I' k' n') x_nx)) (F0 m 19 ls []) := by
  obtain ⟨hx, hb, hml, hr, hlk, hown, hK, htr, hF, hLo, hRc, hRs⟩ := id hE
  intro fu
  induction fu with
  | zero =>
    intro v3 v4 L I ka na H locs ls h
    exact h.elim
  | succ fu ih =>
    intro v3 v4 L I ka na H locs ls h hw hbd hl
    unfold w_Tab_sweep_19 at h
    refine lv_iload hx hb d_Tab_sweep_19 (lv_at hl 4 rfl) ?_
    refine lv_sipush (v := 4096) hx hb d_Tab_sweep_21 (by decide) ?_
    refine lv_icmp_ge (tgt := 75) hx hb d_Tab_sweep_24 (by decide) (fun c11 => ?_) (fun c11 => ?_)
    · replace h := h.1 c11
      refine lv_aload_n hx hb d_Tab_sweep_75 rfl (lv_at hl 0 rfl) ?_
      refine lv_iconst (v := 0) hx hb d_Tab_sweep_76 (by decide) ?_
      refine x_putI (t := 4) (i := 0) (j := 3) hx hb hK hw hown ok0_ rfl (by decide) (by decide) (x_wd hK k_80 rfl) (fun _ h => h) rfl rfl d_Tab_sweep_77 (fun I12 H locs e_I12 hw => ?_)
      replace h := h I12 e_I12
      refine lv_aload_n hx hb d_Tab_sweep_80 rfl (lv_at hl 0 rfl) ?_
      refine lv_iconst (v := 0) hx hb d_Tab_sweep_81 (by decide) ?_
      refine x_putI (t := 4) (i := 0) (j := 4) hx hb hK hw hown ok0_ rfl (by decide) (by decide) (x_wd hK k_83 rfl) (fun _ h => h) rfl rfl d_Tab_sweep_82 (fun I13 H locs e_I13 hw => ?_)
      replace h := h I13 e_I13
      refine lv_iconst (v := 0) hx hb d_Tab_sweep_85 (by decide) ?_
      refine lv_topi (fun x14 e_x14 => ?_)
      replace h := h x14 e_x14
      refine lv_istore (lv' := [(4, .int x14), (0, .ref (x_ad Y 4 0)), (1, .ref (x_ad Y 18 0)), (2, .ref (x_ad Y 19 0)), (3, .int v3)]) hx hb d_Tab_sweep_86 hl (by decide) rfl (fun ls hl => ?_)
      obtain ⟨fu, h⟩ := h
      exact c_Tab_sweep_88 hE hexn hY ok0_ okx_18_0 okx_19_0 hn18 hn19 hdr fu v3 x14 L I13 ka na H locs ls h hw hbd (lv_sub hl [1, 2, 3, 4, 0] rfl)
    · replace h := h.2 c11
      refine lv_aload_n hx hb d_Tab_sweep_27 rfl (lv_at hl 0 rfl) ?_
      refine x_getR (t := 4) (i := 0) (j := 2) hx hb hK hw hown ok0_ rfl (by decide) (by decide) (x_wd hK k_79 rfl) (fun _ h => h) fk_3_2 (hY.r ok0_ rfl) d_Tab_sweep_28 ?_
      have ok19 := hY.ok 2 ok0_ (t' := 7) (i' := 0) rfl
      refine lv_iload hx hb d_Tab_sweep_31 (lv_at hl 4 rfl) ?_
      refine x_bald (t := 7) (i := 0) hx hb hK hw ok19 rfl (hY.n ok19 rfl) h.1 d_Tab_sweep_33 ?_
      replace h := h.2
      refine lv_iconst (v := 1) hx hb d_Tab_sweep_34 (by decide) ?_
      refine lv_icmp_ne (tgt := 61) hx hb d_Tab_sweep_35 (by decide) (fun c20 => ?_) (fun c20 => ?_)
      · replace h := h.1 c20
        refine lv_aload_n hx hb d_Tab_sweep_61 rfl (lv_at hl 0 rfl) ?_
        refine x_getR (t := 4) (i := 0) (j := 2) hx hb hK hw hown ok0_ rfl (by decide) (by decide) (x_wd hK k_79 rfl) (fun _ h => h) fk_3_2 (hY.r ok0_ rfl) d_Tab_sweep_62 ?_
        refine lv_iload hx hb d_Tab_sweep_65 (lv_at hl 4 rfl) ?_
        refine lv_iconst (v := 0) hx hb d_Tab_sweep_67 (by decide) ?_
        refine x_bast (t := 7) (i := 0) hx hb hK hw ok19 rfl (hY.n ok19 rfl) h.1 d_Tab_sweep_68 (fun I21 H locs e_I21 hw => ?_)
        replace h := h.2 I21 e_I21
        obtain ⟨x22, e_x22⟩ : ∃ z : Int32, z = v4 + (1 : Int32) := ⟨_, rfl⟩
        replace h := h x22 e_x22
        refine lv_iinc (v := x22) (lv' := [(4, .int x22), (0, .ref (x_ad Y 4 0)), (1, .ref (x_ad Y 18 0)), (2, .ref (x_ad Y 19 0)), (3, .int v3)]) hx hb d_Tab_sweep_69 hl (k := 4) rfl (by rw [e_x22]; rfl) (by decide) rfl (fun ls hl => ?_)
        refine lv_goto (tgt := 19) hx hb d_Tab_sweep_72 (by decide) ?_
        exact ih v3 x22 L I21 ka na H locs ls h hw hbd (lv_sub hl [1, 2, 3, 4, 0] rfl)
      · replace h := h.2 c20
        refine lv_aload_n hx hb d_Tab_sweep_38 rfl (lv_at hl 1 rfl) ?_
        refine lv_iload_n hx hb d_Tab_sweep_39 rfl (lv_at hl 3 rfl) ?_
        refine lv_aload_n hx hb d_Tab_sweep_40 rfl (lv_at hl 0 rfl) ?_
        refine x_getR (t := 4) (i := 0) (j := 0) hx hb hK hw hown ok0_ rfl (by decide) (by decide) (x_wd hK k_77 rfl) (fun _ h => h) fk_3_0 (hY.r ok0_ rfl) d_Tab_sweep_41 ?_
        have ok23 := hY.ok 0 ok0_ (t' := 5) (i' := 0) rfl
        refine lv_iload hx hb d_Tab_sweep_44 (lv_at hl 4 rfl) ?_
        refine x_lald (t := 5) (i := 0) hx hb hK hw ok23 rfl (hY.n ok23 rfl) h.1 d_Tab_sweep_46 ?_
        replace h := h.2
        refine x_last (t := 18) (i := 0) hx hb hK hw okx_18_0 rfl hn18 h.1 d_Tab_sweep_47 (fun L24 H locs e_L24 hw => ?_)
        replace h := h.2 L24 e_L24
        refine lv_aload_n hx hb d_Tab_sweep_48 rfl (lv_at hl 2 rfl) ?_
        refine lv_iload_n hx hb d_Tab_sweep_49 rfl (lv_at hl 3 rfl) ?_
        refine lv_aload_n hx hb d_Tab_sweep_50 rfl (lv_at hl 0 rfl) ?_
        refine x_getR (t := 4) (i := 0) (j := 1) hx hb hK hw hown ok0_ rfl (by decide) (by decide) (x_wd hK k_78 rfl) (fun _ h => h) fk_3_1 (hY.r ok0_ rfl) d_Tab_sweep_51 ?_
        have ok25 := hY.ok 1 ok0_ (t' := 6) (i' := 0) rfl
        refine lv_iload hx hb d_Tab_sweep_54 (lv_at hl 4 rfl) ?_
        refine x_iald (t := 6) (i := 0) hx hb hK hw ok25 rfl (hY.n ok25 rfl) h.1 d_Tab_sweep_56 ?_
        replace h := h.2
        refine x_iast (t := 19) (i := 0) hx hb hK hw okx_19_0 rfl hn19 h.1 d_Tab_sweep_57 (fun I26 H locs e_I26 hw => ?_)
        replace h := h.2 I26 e_I26
        obtain ⟨x27, e_x27⟩ : ∃ z : Int32, z = v3 + (1 : Int32) := ⟨_, rfl⟩
        replace h := h x27 e_x27
        refine lv_iinc (v := x27) (lv' := [(3, .int x27), (0, .ref (x_ad Y 4 0)), (1, .ref (x_ad Y 18 0)), (2, .ref (x_ad Y 19 0)), (4, .int v4)]) hx hb d_Tab_sweep_58 hl (k := 3) rfl (by rw [e_x27]; rfl) (by decide) rfl (fun ls hl => ?_)
        refine lv_aload_n hx hb d_Tab_sweep_61 rfl (lv_at hl 1 rfl) ?_
        refine x_getR (t := 4) (i := 0) (j := 2) hx hb hK hw hown ok0_ rfl (by decide) (by decide) (x_wd hK k_79 rfl) (fun _ h => h) fk_3_2 (hY.r ok0_ rfl) d_Tab_sweep_62 ?_
        refine lv_iload hx hb d_Tab_sweep_65 (lv_at hl 4 rfl) ?_
        refine lv_iconst (v := 0) hx hb d_Tab_sweep_67 (by decide) ?_
        refine x_bast (t := 7) (i := 0) hx hb hK hw ok19 rfl (hY.n ok19 rfl) h.1 d_Tab_sweep_68 (fun I28 H locs e_I28 hw => ?_)
        replace h := h.2 I28 e_I28
        obtain ⟨x29, e_x29⟩ : ∃ z : Int32, z = v4 + (1 : Int32) := ⟨_, rfl⟩
        replace h := h x29 e_x29
        refine lv_iinc (v := x29) (lv' := [(4, .int x29), (3, .int x27), (0, .ref (x_ad Y 4 0)), (1, .ref (x_ad Y 18 0)), (2, .ref (x_ad Y 19 0))]) hx hb d_Tab_sweep_69 hl (k := 4) rfl (by rw [e_x29]; rfl) (by decide) rfl (fun ls hl => ?_)
        refine lv_goto (tgt := 19) hx hb d_Tab_sweep_72 (by decide) ?_
        exact ih x27 x29 L24 I28 ka na H locs ls h hw hbd (lv_sub hl [2, 3, 4, 1, 0] rfl)
set_option maxRecDepth 100000 in
set_option maxHeartbeats 4000000 in
theorem c_Tab_sweep {l : Launch} {g : x_G} {Y : x_Y} (hY : x_Y0 g Y) (hT18 : ¬ x_ok Y 18 0) (hT19 : ¬ x_ok Y 19 0) (ok0_ : x_ok Y 4 0) {Q : x_L → x_I → Nat → Nat → Prop} {L : x_L} {I : x_I} {k n : Nat} (h : w_Tab_sweep Q L I k n) : x_C l y_Tab_sweep 2 g [.ref (x_ad Y 4 0)] Y L I k n (x_pV Y (fun L' I' k' n' => Q L' I' k' n') x_nx) := by
  refine x_mth k_739 ?_
  intro p e R s m below meth c hE hnm hexn hw hk1 hn1
  obtain ⟨hx, hb, hml, hr, hlk, hown, hK, htr, hF, hLo, hRc, hRs⟩ := id hE
  have hbd : x_bd k n k n := ⟨Nat.le_refl _, hk1, Nat.le_refl _, hn1⟩
  have hl := lv_entry ([.ref (x_ad Y 4 0)]) (n := 5) (Nat.le_of_ble_eq_true rfl)
  generalize (lg_sl [.ref (x_ad Y 4 0)] ++ List.replicate (5 - (lg_sl [.ref (x_ad Y 4 0)]).length) Slot.unset).toArray = ls at hl ⊢
  have hl : lv_has ls 5 [(0, .ref (x_ad Y 4 0))] := hl
  generalize s.heap = H at hw ⊢
  generalize ([] : List Loc) = locs at hw ⊢
  unfold w_Tab_sweep at h
  refine lv_aload_n hx hb d_Tab_sweep_0 rfl (lv_at hl 0 rfl) ?_
  refine x_getI (t := 4) (i := 0) (j := 3) hx hb hK hw hown ok0_ rfl (by decide) (by decide) (x_wd hK k_80 rfl) (fun _ h => h) fk_3_3 d_Tab_sweep_1 ?_
  refine x_newT (t := 18) hx hb hK hw hY (Or.inl rfl) hT18 rfl (by decide) (at0 := .long) rfl k_95 h.1 hRc hRs hbd h.2.1 h.2.2.1 d_Tab_sweep_4 (fun Y N1 k4 n4 L2 I3 H eN ek en eL eI hY okt18 hn18 hsm hok9 hdr18 hw hbd => ?_)
  replace h := h.2.2.2 N1 k4 n4 L2 I3 eN ek en eL eI
  replace ok0_ := hok9 _ _ ok0_
  rw [show x_ad _ 4 0 = x_ad Y 4 0 by unfold x_ad; rw [hsm 4 0 (by decide)]] at hl
  have hdr := hdr18
  replace hT19 : ¬ x_ok Y 19 0 := by unfold x_ok; rw [hsm 19 0 (by decide)]; exact hT19
  refine lv_astore_n (lv' := [(1, .ref (x_ad Y 18 0)), (0, .ref (x_ad Y 4 0))]) hx hb d_Tab_sweep_6 rfl hl (by decide) rfl (fun ls hl => ?_)
  refine lv_aload_n hx hb d_Tab_sweep_7 rfl (lv_at hl 1 rfl) ?_
  refine x_getI (t := 4) (i := 0) (j := 3) hx hb hK hw hown ok0_ rfl (by decide) (by decide) (x_wd hK k_80 rfl) (fun _ h => h) fk_3_3 d_Tab_sweep_8 ?_
  refine x_newT (t := 19) hx hb hK hw hY (Or.inr rfl) hT19 rfl (by decide) (at0 := .int) rfl k_96 h.1 hRc hRs hbd h.2.1 h.2.2.1 d_Tab_sweep_11 (fun Y N5 k8 n8 L6 I7 H eN ek en eL eI hY okt19 hn19 hsm hok9 hdr19 hw hbd => ?_)
  replace h := h.2.2.2 N5 k8 n8 L6 I7 eN ek en eL eI
  replace ok0_ := hok9 _ _ ok0_
  replace okt18 := hok9 _ _ okt18
  rw [show x_ad _ 18 0 = x_ad Y 18 0 by unfold x_ad; rw [hsm 18 0 (by decide)]] at hl
  rw [show x_ad _ 4 0 = x_ad Y 4 0 by unfold x_ad; rw [hsm 4 0 (by decide)]] at hl
  replace hdr := fun L I H locs h => hdr L I H locs (hdr19 L I H locs h)
  replace hn18 : x_n Y 18 0 = N1 := by unfold x_n; rw [hsm 18 0 (by decide)]; exact hn18
  refine lv_astore_n (lv' := [(2, .ref (x_ad Y 19 0)), (1, .ref (x_ad Y 18 0)), (0, .ref (x_ad Y 4 0))]) hx hb d_Tab_sweep_13 rfl hl (by decide) rfl (fun ls hl => ?_)
  refine lv_iconst (v := 0) hx hb d_Tab_sweep_14 (by decide) ?_
  refine lv_topi (fun x9 e_x9 => ?_)
  replace h := h x9 e_x9
  refine lv_istore_n (lv' := [(3, .int x9), (2, .ref (x_ad Y 19 0)), (1, .ref (x_ad Y 18 0)), (0, .ref (x_ad Y 4 0))]) hx hb d_Tab_sweep_15 rfl hl (by decide) rfl (fun ls hl => ?_)
  refine lv_iconst (v := 0) hx hb d_Tab_sweep_16 (by decide) ?_
  refine lv_topi (fun x10 e_x10 => ?_)
  replace h := h x10 e_x10
  refine lv_istore (lv' := [(4, .int x10), (3, .int x9), (2, .ref (x_ad Y 19 0)), (1, .ref (x_ad Y 18 0)), (0, .ref (x_ad Y 4 0))]) hx hb d_Tab_sweep_17 hl (by decide) rfl (fun ls hl => ?_)
  obtain ⟨fu, h⟩ := h
  exact c_Tab_sweep_19 hE hexn hY ok0_ okt18 okt19 hn18 hn19 hdr fu x9 x10 L6 I7 k8 n8 H locs ls h hw hbd (lv_sub hl [4, 3, 2, 1, 0] rfl)
def w_Tab_set (Q : x_L → x_I → Nat → Nat → Prop) (p1 : Int64) (p2 : Int32) (L : x_L) (I : x_I) (k n : Nat) : Prop :=
  w_Tab_find (fun r1 =>
    ((r1 = (-1 : Int32) →
      ((r1 = (-1 : Int32) →
        ((p2 = 0 →
          Q L I k n) ∧
        (¬ p2 = 0 →
          (((I 4 0 4) ≤ (2048 : Int32) →
            w_Tab_add (fun L6 I7 =>
              Q L6 I7 k n) p1 p2 L I) ∧
          (¬ (I 4 0 4) ≤ (2048 : Int32) →
            w_Tab_sweep (fun L8 I9 k10 n10 =>
              w_Tab_add (fun L11 I12 =>
                Q L11 I12 k10 n10) p1 p2 L8 I9) L I k n))))) ∧
      (¬ r1 = (-1 : Int32) →
        vp_in r1 4096 ∧
        ∀ I14 : x_I, I14 = x_u I 7 0 r1.toNatClampNeg (vp_nar .byte (2 : Int32)) →
        ∀ I15 : x_I, I15 = x_u I14 4 0 3 ((I14 4 0 3) - (1 : Int32)) →
        Q L I15 k n))) ∧
    (¬ r1 = (-1 : Int32) →
      ((p2 = 0 →
        ((r1 = (-1 : Int32) →
          ((p2 = 0 →
            Q L I k n) ∧
          (¬ p2 = 0 →
            (((I 4 0 4) ≤ (2048 : Int32) →
              w_Tab_add (fun L20 I21 =>
                Q L20 I21 k n) p1 p2 L I) ∧
            (¬ (I 4 0 4) ≤ (2048 : Int32) →
              w_Tab_sweep (fun L22 I23 k24 n24 =>
                w_Tab_add (fun L25 I26 =>
                  Q L25 I26 k24 n24) p1 p2 L22 I23) L I k n))))) ∧
        (¬ r1 = (-1 : Int32) →
          vp_in r1 4096 ∧
          ∀ I28 : x_I, I28 = x_u I 7 0 r1.toNatClampNeg (vp_nar .byte (2 : Int32)) →
          ∀ I29 : x_I, I29 = x_u I28 4 0 3 ((I28 4 0 3) - (1 : Int32)) →
          Q L I29 k n))) ∧
      (¬ p2 = 0 →
        vp_in r1 4096 ∧
        ∀ I31 : x_I, I31 = x_u I 6 0 r1.toNatClampNeg p2 →
        Q L I31 k n))))) p1 L I
set_option maxRecDepth 100000 in
set_option maxHeartbeats 4000000 in
theorem c_Tab_set {l : Launch} {g : x_G} {Y : x_Y} (hY : x_Y0 g Y) (hT18 : ¬ x_ok Y 18 0) (hT19 : ¬ x_ok Y 19 0) {p1 : Int64} {p2 : Int32} (ok0_ : x_ok Y 4 0) {Q : x_L → x_I → Nat → Nat → Prop} {L : x_L} {I : x_I} {k n : Nat} (h : w_Tab_set Q p1 p2 L I k n) : x_C l y_Tab_set 3 g [.ref (x_ad Y 4 0), .long p1, .int p2] Y L I k n (x_pV Y (fun L' I' k' n' => Q L' I' k' n') x_nx) := by
  refine x_mth k_735 ?_
  intro p e R s m below meth c hE hnm hexn hw hk1 hn1
  obtain ⟨hx, hb, hml, hr, hlk, hown, hK, htr, hF, hLo, hRc, hRs⟩ := id hE
  have hbd : x_bd k n k n := ⟨Nat.le_refl _, hk1, Nat.le_refl _, hn1⟩
  have hl := lv_entry ([.ref (x_ad Y 4 0), .long p1, .int p2]) (n := 5) (Nat.le_of_ble_eq_true rfl)
  generalize (lg_sl [.ref (x_ad Y 4 0), .long p1, .int p2] ++ List.replicate (5 - (lg_sl [.ref (x_ad Y 4 0), .long p1, .int p2]).length) Slot.unset).toArray = ls at hl ⊢
  have hl : lv_has ls 5 [(0, .ref (x_ad Y 4 0)), (1, .long p1), (3, .int p2)] := hl
  generalize s.heap = H at hw ⊢
  generalize ([] : List Loc) = locs at hw ⊢
  unfold w_Tab_set at h
  refine lv_aload_n hx hb d_Tab_set_0 rfl (lv_at hl 0 rfl) ?_
  refine lv_lload_n hx hb d_Tab_set_1 rfl (lv_at hl 1 rfl) ?_
  refine x_goI (ls := ls) (rest := []) hE hw (c_Tab_find hY ok0_ h) (x_cd hK k_687) q_Tab_find (by decide) (by decide) hl.1 (Nat.le_of_ble_eq_true rfl) hbd d_Tab_set_2 (x_toV (As := [.long p1]) (b := (x_ad Y 4 0)) hx hb hown hK (x_recv hK hw ok0_ rfl (by decide)) k_684 k_686 ks_10 ⟨_, x_cd hK k_687⟩ q_Tab_find rfl rfl d_Tab_set_2) (fun r1 L9 I9 k9 n9 H locs h hw hb9 => ?_) (fun _ _ _ _ _ _ _ h9 => h9.elim)
  obtain ⟨e1, e2, e3, e4, h⟩ := h
  rw [e1, e2] at hw
  rw [e3, e4]
  refine lv_istore (lv' := [(4, .int r1), (0, .ref (x_ad Y 4 0)), (1, .long p1), (3, .int p2)]) hx hb d_Tab_set_5 hl (by decide) rfl (fun ls hl => ?_)
  refine lv_iload hx hb d_Tab_set_7 (lv_at hl 0 rfl) ?_
  refine lv_iconst (v := (-1)) hx hb d_Tab_set_9 (by decide) ?_
  refine lv_icmp_eq (tgt := 28) hx hb d_Tab_set_10 (by decide) (fun c2 => ?_) (fun c2 => ?_)
  · replace h := h.1 c2
    refine lv_iload hx hb d_Tab_set_28 (lv_at hl 0 rfl) ?_
    refine lv_iconst (v := (-1)) hx hb d_Tab_set_30 (by decide) ?_
    refine lv_icmp_eq (tgt := 55) hx hb d_Tab_set_31 (by decide) (fun c3 => ?_) (fun c3 => ?_)
    · replace h := h.1 c3
      refine lv_iload_n hx hb d_Tab_set_55 rfl (lv_at hl 3 rfl) ?_
      refine lv_if_eq (tgt := 79) hx hb d_Tab_set_56 (by decide) (fun c4 => ?_) (fun c4 => ?_)
      · replace h := h.1 c4
        exact x_vret hx hb hr hlk hw ⟨rfl, Or.inl ⟨rfl, h⟩⟩ hbd d_Tab_set_79
      · replace h := h.2 c4
        refine lv_aload_n hx hb d_Tab_set_59 rfl (lv_at hl 1 rfl) ?_
        refine x_getI (t := 4) (i := 0) (j := 4) hx hb hK hw hown ok0_ rfl (by decide) (by decide) (x_wd hK k_83 rfl) (fun _ h => h) fk_3_4 d_Tab_set_60 ?_
        refine lv_sipush (v := 2048) hx hb d_Tab_set_63 (by decide) ?_
        refine lv_icmp_le (tgt := 73) hx hb d_Tab_set_66 (by decide) (fun c5 => ?_) (fun c5 => ?_)
        · replace h := h.1 c5
          refine lv_aload_n hx hb d_Tab_set_73 rfl (lv_at hl 1 rfl) ?_
          refine lv_lload_n hx hb d_Tab_set_74 rfl (lv_at hl 2 rfl) ?_
          refine lv_iload_n hx hb d_Tab_set_75 rfl (lv_at hl 3 rfl) ?_
          refine x_goV (ls := ls) (rest := []) hE hw (c_Tab_add hY ok0_ h) (x_cd hK k_743) q_Tab_add (by decide) (by decide) hl.1 (Nat.le_of_ble_eq_true rfl) hbd d_Tab_set_76 (x_toV (As := [.long p1, .int p2]) (b := (x_ad Y 4 0)) hx hb hown hK (x_recv hK hw ok0_ rfl (by decide)) k_740 k_742 ks_19 ⟨_, x_cd hK k_743⟩ q_Tab_add rfl rfl d_Tab_set_76) (fun L6 I7 k9 n9 H locs h hw hb9 => ?_) (fun _ _ _ _ _ _ _ h9 => h9.elim)
          obtain ⟨e3, e4, h⟩ := h
          rw [e3, e4]
          exact x_vret hx hb hr hlk hw ⟨rfl, Or.inl ⟨rfl, h⟩⟩ hbd d_Tab_set_79
        · replace h := h.2 c5
          refine lv_aload_n hx hb d_Tab_set_69 rfl (lv_at hl 1 rfl) ?_
          refine x_goV (ls := ls) (rest := []) hE hw (c_Tab_sweep hY hT18 hT19 ok0_ h) (x_cd hK k_739) q_Tab_sweep (by decide) (by decide) hl.1 (Nat.le_of_ble_eq_true rfl) hbd d_Tab_set_70 (x_toV (As := []) (b := (x_ad Y 4 0)) hx hb hown hK (x_recv hK hw ok0_ rfl (by decide)) k_736 k_738 ks_18 ⟨_, x_cd hK k_739⟩ q_Tab_sweep rfl rfl d_Tab_set_70) (fun L8 I9 k10 n10 H locs h hw hb9 => ?_) (fun _ _ _ _ _ _ _ h9 => h9.elim)
          replace hbd := hbd.tr hb9
          try dsimp only at h
          refine lv_aload_n hx hb d_Tab_set_73 rfl (lv_at hl 1 rfl) ?_
          refine lv_lload_n hx hb d_Tab_set_74 rfl (lv_at hl 2 rfl) ?_
          refine lv_iload_n hx hb d_Tab_set_75 rfl (lv_at hl 3 rfl) ?_
          refine x_goV (ls := ls) (rest := []) hE hw (c_Tab_add hY ok0_ h) (x_cd hK k_743) q_Tab_add (by decide) (by decide) hl.1 (Nat.le_of_ble_eq_true rfl) hbd d_Tab_set_76 (x_toV (As := [.long p1, .int p2]) (b := (x_ad Y 4 0)) hx hb hown hK (x_recv hK hw ok0_ rfl (by decide)) k_740 k_742 ks_19 ⟨_, x_cd hK k_743⟩ q_Tab_add rfl rfl d_Tab_set_76) (fun L11 I12 k9 n9 H locs h hw hb9 => ?_) (fun _ _ _ _ _ _ _ h9 => h9.elim)
          obtain ⟨e3, e4, h⟩ := h
          rw [e3, e4]
          exact x_vret hx hb hr hlk hw ⟨rfl, Or.inl ⟨rfl, h⟩⟩ hbd d_Tab_set_79
    · replace h := h.2 c3
      refine lv_aload_n hx hb d_Tab_set_34 rfl (lv_at hl 1 rfl) ?_
      refine x_getR (t := 4) (i := 0) (j := 2) hx hb hK hw hown ok0_ rfl (by decide) (by decide) (x_wd hK k_79 rfl) (fun _ h => h) fk_3_2 (hY.r ok0_ rfl) d_Tab_set_35 ?_
      have ok13 := hY.ok 2 ok0_ (t' := 7) (i' := 0) rfl
      refine lv_iload hx hb d_Tab_set_38 (lv_at hl 0 rfl) ?_
      refine lv_iconst (v := 2) hx hb d_Tab_set_40 (by decide) ?_
      refine x_bast (t := 7) (i := 0) hx hb hK hw ok13 rfl (hY.n ok13 rfl) h.1 d_Tab_set_41 (fun I14 H locs e_I14 hw => ?_)
      replace h := h.2 I14 e_I14
      refine lv_aload_n hx hb d_Tab_set_42 rfl (lv_at hl 1 rfl) ?_
      refine lv_dup hx hb d_Tab_set_43 rfl ?_
      refine x_getI (t := 4) (i := 0) (j := 3) hx hb hK hw hown ok0_ rfl (by decide) (by decide) (x_wd hK k_80 rfl) (fun _ h => h) fk_3_3 d_Tab_set_44 ?_
      refine lv_iconst (v := 1) hx hb d_Tab_set_47 (by decide) ?_
      refine lv_isub hx hb d_Tab_set_48 ?_
      refine x_putI (t := 4) (i := 0) (j := 3) hx hb hK hw hown ok0_ rfl (by decide) (by decide) (x_wd hK k_80 rfl) (fun _ h => h) rfl rfl d_Tab_set_49 (fun I15 H locs e_I15 hw => ?_)
      replace h := h I15 e_I15
      refine lv_goto (tgt := 79) hx hb d_Tab_set_52 (by decide) ?_
      exact x_vret hx hb hr hlk hw ⟨rfl, Or.inl ⟨rfl, h⟩⟩ hbd d_Tab_set_79
  · replace h := h.2 c2
    refine lv_iload_n hx hb d_Tab_set_13 rfl (lv_at hl 3 rfl) ?_
    refine lv_if_eq (tgt := 28) hx hb d_Tab_set_14 (by decide) (fun c16 => ?_) (fun c16 => ?_)
    · replace h := h.1 c16
      refine lv_iload hx hb d_Tab_set_28 (lv_at hl 0 rfl) ?_
      refine lv_iconst (v := (-1)) hx hb d_Tab_set_30 (by decide) ?_
      refine lv_icmp_eq (tgt := 55) hx hb d_Tab_set_31 (by decide) (fun c17 => ?_) (fun c17 => ?_)
      · replace h := h.1 c17
        refine lv_iload_n hx hb d_Tab_set_55 rfl (lv_at hl 3 rfl) ?_
        refine lv_if_eq (tgt := 79) hx hb d_Tab_set_56 (by decide) (fun c18 => ?_) (fun c18 => ?_)
        · replace h := h.1 c18
          exact x_vret hx hb hr hlk hw ⟨rfl, Or.inl ⟨rfl, h⟩⟩ hbd d_Tab_set_79
        · replace h := h.2 c18
          refine lv_aload_n hx hb d_Tab_set_59 rfl (lv_at hl 1 rfl) ?_
          refine x_getI (t := 4) (i := 0) (j := 4) hx hb hK hw hown ok0_ rfl (by decide) (by decide) (x_wd hK k_83 rfl) (fun _ h => h) fk_3_4 d_Tab_set_60 ?_
          refine lv_sipush (v := 2048) hx hb d_Tab_set_63 (by decide) ?_
          refine lv_icmp_le (tgt := 73) hx hb d_Tab_set_66 (by decide) (fun c19 => ?_) (fun c19 => ?_)
          · replace h := h.1 c19
            refine lv_aload_n hx hb d_Tab_set_73 rfl (lv_at hl 1 rfl) ?_
            refine lv_lload_n hx hb d_Tab_set_74 rfl (lv_at hl 2 rfl) ?_
            refine lv_iload_n hx hb d_Tab_set_75 rfl (lv_at hl 3 rfl) ?_
            refine x_goV (ls := ls) (rest := []) hE hw (c_Tab_add hY ok0_ h) (x_cd hK k_743) q_Tab_add (by decide) (by decide) hl.1 (Nat.le_of_ble_eq_true rfl) hbd d_Tab_set_76 (x_toV (As := [.long p1, .int p2]) (b := (x_ad Y 4 0)) hx hb hown hK (x_recv hK hw ok0_ rfl (by decide)) k_740 k_742 ks_19 ⟨_, x_cd hK k_743⟩ q_Tab_add rfl rfl d_Tab_set_76) (fun L20 I21 k9 n9 H locs h hw hb9 => ?_) (fun _ _ _ _ _ _ _ h9 => h9.elim)
            obtain ⟨e3, e4, h⟩ := h
            rw [e3, e4]
            exact x_vret hx hb hr hlk hw ⟨rfl, Or.inl ⟨rfl, h⟩⟩ hbd d_Tab_set_79
          · replace h := h.2 c19
            refine lv_aload_n hx hb d_Tab_set_69 rfl (lv_at hl 1 rfl) ?_
            refine x_goV (ls := ls) (rest := []) hE hw (c_Tab_sweep hY hT18 hT19 ok0_ h) (x_cd hK k_739) q_Tab_sweep (by decide) (by decide) hl.1 (Nat.le_of_ble_eq_true rfl) hbd d_Tab_set_70 (x_toV (As := []) (b := (x_ad Y 4 0)) hx hb hown hK (x_recv hK hw ok0_ rfl (by decide)) k_736 k_738 ks_18 ⟨_, x_cd hK k_739⟩ q_Tab_sweep rfl rfl d_Tab_set_70) (fun L22 I23 k24 n24 H locs h hw hb9 => ?_) (fun _ _ _ _ _ _ _ h9 => h9.elim)
            replace hbd := hbd.tr hb9
            try dsimp only at h
            refine lv_aload_n hx hb d_Tab_set_73 rfl (lv_at hl 1 rfl) ?_
            refine lv_lload_n hx hb d_Tab_set_74 rfl (lv_at hl 2 rfl) ?_
            refine lv_iload_n hx hb d_Tab_set_75 rfl (lv_at hl 3 rfl) ?_
            refine x_goV (ls := ls) (rest := []) hE hw (c_Tab_add hY ok0_ h) (x_cd hK k_743) q_Tab_add (by decide) (by decide) hl.1 (Nat.le_of_ble_eq_true rfl) hbd d_Tab_set_76 (x_toV (As := [.long p1, .int p2]) (b := (x_ad Y 4 0)) hx hb hown hK (x_recv hK hw ok0_ rfl (by decide)) k_740 k_742 ks_19 ⟨_, x_cd hK k_743⟩ q_Tab_add rfl rfl d_Tab_set_76) (fun L25 I26 k9 n9 H locs h hw hb9 => ?_) (fun _ _ _ _ _ _ _ h9 => h9.elim)
            obtain ⟨e3, e4, h⟩ := h
            rw [e3, e4]
            exact x_vret hx hb hr hlk hw ⟨rfl, Or.inl ⟨rfl, h⟩⟩ hbd d_Tab_set_79
      · replace h := h.2 c17
        refine lv_aload_n hx hb d_Tab_set_34 rfl (lv_at hl 1 rfl) ?_
        refine x_getR (t := 4) (i := 0) (j := 2) hx hb hK hw hown ok0_ rfl (by decide) (by decide) (x_wd hK k_79 rfl) (fun _ h => h) fk_3_2 (hY.r ok0_ rfl) d_Tab_set_35 ?_
        have ok27 := hY.ok 2 ok0_ (t' := 7) (i' := 0) rfl
        refine lv_iload hx hb d_Tab_set_38 (lv_at hl 0 rfl) ?_
        refine lv_iconst (v := 2) hx hb d_Tab_set_40 (by decide) ?_
        refine x_bast (t := 7) (i := 0) hx hb hK hw ok27 rfl (hY.n ok27 rfl) h.1 d_Tab_set_41 (fun I28 H locs e_I28 hw => ?_)
        replace h := h.2 I28 e_I28
        refine lv_aload_n hx hb d_Tab_set_42 rfl (lv_at hl 1 rfl) ?_
        refine lv_dup hx hb d_Tab_set_43 rfl ?_
        refine x_getI (t := 4) (i := 0) (j := 3) hx hb hK hw hown ok0_ rfl (by decide) (by decide) (x_wd hK k_80 rfl) (fun _ h => h) fk_3_3 d_Tab_set_44 ?_
        refine lv_iconst (v := 1) hx hb d_Tab_set_47 (by decide) ?_
        refine lv_isub hx hb d_Tab_set_48 ?_
        refine x_putI (t := 4) (i := 0) (j := 3) hx hb hK hw hown ok0_ rfl (by decide) (by decide) (x_wd hK k_80 rfl) (fun _ h => h) rfl rfl d_Tab_set_49 (fun I29 H locs e_I29 hw => ?_)
        replace h := h I29 e_I29
        refine lv_goto (tgt := 79) hx hb d_Tab_set_52 (by decide) ?_
        exact x_vret hx hb hr hlk hw ⟨rfl, Or.inl ⟨rfl, h⟩⟩ hbd d_Tab_set_79
    · replace h := h.2 c16
      refine lv_aload_n hx hb d_Tab_set_17 rfl (lv_at hl 1 rfl) ?_
      refine x_getR (t := 4) (i := 0) (j := 1) hx hb hK hw hown ok0_ rfl (by decide) (by decide) (x_wd hK k_78 rfl) (fun _ h => h) fk_3_1 (hY.r ok0_ rfl) d_Tab_set_18 ?_
      have ok30 := hY.ok 1 ok0_ (t' := 6) (i' := 0) rfl
      refine lv_iload hx hb d_Tab_set_21 (lv_at hl 0 rfl) ?_
      refine lv_iload_n hx hb d_Tab_set_23 rfl (lv_at hl 3 rfl) ?_
      refine x_iast (t := 6) (i := 0) hx hb hK hw ok30 rfl (hY.n ok30 rfl) h.1 d_Tab_set_24 (fun I31 H locs e_I31 hw => ?_)
      replace h := h.2 I31 e_I31
      refine lv_goto (tgt := 79) hx hb d_Tab_set_25 (by decide) ?_
      exact x_vret hx hb hr hlk hw ⟨rfl, Or.inl ⟨rfl, h⟩⟩ hbd d_Tab_set_79
def w_Ins_takes (Q : Int32 → Prop) (i : Nat) (p1 : Int32) (p2 : Int32) : Prop :=
  ∀ x1 : Int32, x1 = (nI i) →
  (x1 = 3 →
    ((p1 < 0 →
      Q (0 : Int32)) ∧
    (¬ p1 < 0 →
      (((15 : Int32) < p1 →
        Q (0 : Int32)) ∧
      (¬ (15 : Int32) < p1 →
        Q (1 : Int32)))))) ∧
  (x1 = 4 →
    ((p1 < (1 : Int32) →
      Q (0 : Int32)) ∧
    (¬ p1 < (1 : Int32) →
      (((15 : Int32) < p1 →
        Q (0 : Int32)) ∧
      (¬ (15 : Int32) < p1 →
        Q (1 : Int32)))))) ∧
  (x1 = 16 →
    ((p1 < 0 →
      Q (0 : Int32)) ∧
    (¬ p1 < 0 →
      ((p2 < p1 →
        Q (0 : Int32)) ∧
      (¬ p2 < p1 →
        Q (1 : Int32)))))) ∧
  (x1 = 17 →
    ((p1 < 0 →
      Q (0 : Int32)) ∧
    (¬ p1 < 0 →
      ((p2 < p1 →
        Q (0 : Int32)) ∧
      (¬ p2 < p1 →
        Q (1 : Int32)))))) ∧
  (x1 = 27 →
    ((p1 < 0 →
      Q (0 : Int32)) ∧
    (¬ p1 < 0 →
      (((8 : Int32) < p1 →
        Q (0 : Int32)) ∧
      (¬ (8 : Int32) < p1 →
        Q (1 : Int32)))))) ∧
  (¬ x1 = 3 → ¬ x1 = 4 → ¬ x1 = 16 → ¬ x1 = 17 → ¬ x1 = 27 → 
    Q (1 : Int32))
set_option maxRecDepth 100000 in
set_option maxHeartbeats 4000000 in
theorem c_Ins_takes {l : Launch} {g : x_G} {Y : x_Y} (hY : x_Y0 g Y) {i : Nat} {p1 : Int32} {p2 : Int32} (e_i : i < 30) {Q : Int32 → Prop} {L : x_L} {I : x_I} {k n : Nat} (h : w_Ins_takes Q i p1 p2) : x_C l y_Ins_takes 2 g [.ref (g.2.2.2.2 i), .int p1, .int p2] Y L I k n (x_pI Y (fun v L' I' k' n' => L' = L ∧ I' = I ∧ k' = k ∧ n' = n ∧ Q v) x_nx) := by
  refine x_mth k_602 ?_
  intro p e R s m below meth c hE hnm hexn hw hk1 hn1
  obtain ⟨hx, hb, hml, hr, hlk, hown, hK, htr, hF, hLo, hRc, hRs⟩ := id hE
  have hbd : x_bd k n k n := ⟨Nat.le_refl _, hk1, Nat.le_refl _, hn1⟩
  have hl := lv_entry ([.ref (g.2.2.2.2 i), .int p1, .int p2]) (n := 3) (Nat.le_of_ble_eq_true rfl)
  generalize (lg_sl [.ref (g.2.2.2.2 i), .int p1, .int p2] ++ List.replicate (3 - (lg_sl [.ref (g.2.2.2.2 i), .int p1, .int p2]).length) Slot.unset).toArray = ls at hl ⊢
  have hl : lv_has ls 3 [(0, .ref (g.2.2.2.2 i)), (1, .int p1), (2, .int p2)] := hl
  generalize s.heap = H at hw ⊢
  generalize ([] : List Loc) = locs at hw ⊢
  unfold w_Ins_takes at h
  refine lv_aload_n hx hb d_Ins_takes_0 rfl (lv_at hl 0 rfl) ?_
  refine x_ord (i := i) (rest := []) hE hw e_i k_603 (by decide) hl.1 (Nat.le_of_ble_eq_true rfl) hbd d_Ins_takes_1 (fun H locs hw => ?_)
  refine lv_topi (fun x1 e_x1 => ?_)
  replace h := h x1 e_x1
  by_cases c2 : x1 = 3
  · replace h := h.1 c2
    refine lv_lookup (off := 52) (tgt := 56) hx hb d_Ins_takes_4 (by decide) (by rw [c2]; rfl) (by decide) ?_
    refine lv_iload_n hx hb d_Ins_takes_56 rfl (lv_at hl 1 rfl) ?_
    refine lv_if_lt (tgt := 70) hx hb d_Ins_takes_57 (by decide) (fun c3 => ?_) (fun c3 => ?_)
    · replace h := h.1 c3
      refine lv_iconst (v := 0) hx hb d_Ins_takes_70 (by decide) ?_
      refine lv_goto (tgt := 129) hx hb d_Ins_takes_71 (by decide) ?_
      exact x_zret hx hb hr hlk hw (Or.inl rfl) ⟨rfl, Or.inl ⟨_, rfl, ⟨rfl, rfl, rfl, rfl, h⟩⟩⟩ hbd d_Ins_takes_129
    · replace h := h.2 c3
      refine lv_iload_n hx hb d_Ins_takes_60 rfl (lv_at hl 1 rfl) ?_
      refine lv_bipush (v := 15) hx hb d_Ins_takes_61 (by decide) ?_
      refine lv_icmp_gt (tgt := 70) hx hb d_Ins_takes_63 (by decide) (fun c4 => ?_) (fun c4 => ?_)
      · replace h := h.1 c4
        refine lv_iconst (v := 0) hx hb d_Ins_takes_70 (by decide) ?_
        refine lv_goto (tgt := 129) hx hb d_Ins_takes_71 (by decide) ?_
        exact x_zret hx hb hr hlk hw (Or.inl rfl) ⟨rfl, Or.inl ⟨_, rfl, ⟨rfl, rfl, rfl, rfl, h⟩⟩⟩ hbd d_Ins_takes_129
      · replace h := h.2 c4
        refine lv_iconst (v := 1) hx hb d_Ins_takes_66 (by decide) ?_
        refine lv_goto (tgt := 129) hx hb d_Ins_takes_67 (by decide) ?_
        exact x_zret hx hb hr hlk hw (Or.inr rfl) ⟨rfl, Or.inl ⟨_, rfl, ⟨rfl, rfl, rfl, rfl, h⟩⟩⟩ hbd d_Ins_takes_129
  · replace h := h.2
    by_cases c5 : x1 = 4
    · replace h := h.1 c5
      refine lv_lookup (off := 70) (tgt := 74) hx hb d_Ins_takes_4 (by decide) (by rw [c5]; rfl) (by decide) ?_
      refine lv_iload_n hx hb d_Ins_takes_74 rfl (lv_at hl 1 rfl) ?_
      refine lv_iconst (v := 1) hx hb d_Ins_takes_75 (by decide) ?_
      refine lv_icmp_lt (tgt := 89) hx hb d_Ins_takes_76 (by decide) (fun c6 => ?_) (fun c6 => ?_)
      · replace h := h.1 c6
        refine lv_iconst (v := 0) hx hb d_Ins_takes_89 (by decide) ?_
        refine lv_goto (tgt := 129) hx hb d_Ins_takes_90 (by decide) ?_
        exact x_zret hx hb hr hlk hw (Or.inl rfl) ⟨rfl, Or.inl ⟨_, rfl, ⟨rfl, rfl, rfl, rfl, h⟩⟩⟩ hbd d_Ins_takes_129
      · replace h := h.2 c6
        refine lv_iload_n hx hb d_Ins_takes_79 rfl (lv_at hl 1 rfl) ?_
        refine lv_bipush (v := 15) hx hb d_Ins_takes_80 (by decide) ?_
        refine lv_icmp_gt (tgt := 89) hx hb d_Ins_takes_82 (by decide) (fun c7 => ?_) (fun c7 => ?_)
        · replace h := h.1 c7
          refine lv_iconst (v := 0) hx hb d_Ins_takes_89 (by decide) ?_
          refine lv_goto (tgt := 129) hx hb d_Ins_takes_90 (by decide) ?_
          exact x_zret hx hb hr hlk hw (Or.inl rfl) ⟨rfl, Or.inl ⟨_, rfl, ⟨rfl, rfl, rfl, rfl, h⟩⟩⟩ hbd d_Ins_takes_129
        · replace h := h.2 c7
          refine lv_iconst (v := 1) hx hb d_Ins_takes_85 (by decide) ?_
          refine lv_goto (tgt := 129) hx hb d_Ins_takes_86 (by decide) ?_
          exact x_zret hx hb hr hlk hw (Or.inr rfl) ⟨rfl, Or.inl ⟨_, rfl, ⟨rfl, rfl, rfl, rfl, h⟩⟩⟩ hbd d_Ins_takes_129
    · replace h := h.2
      by_cases c8 : x1 = 16
      · replace h := h.1 c8
        refine lv_lookup (off := 89) (tgt := 93) hx hb d_Ins_takes_4 (by decide) (by rw [c8]; rfl) (by decide) ?_
        refine lv_iload_n hx hb d_Ins_takes_93 rfl (lv_at hl 1 rfl) ?_
        refine lv_if_lt (tgt := 106) hx hb d_Ins_takes_94 (by decide) (fun c9 => ?_) (fun c9 => ?_)
        · replace h := h.1 c9
          refine lv_iconst (v := 0) hx hb d_Ins_takes_106 (by decide) ?_
          refine lv_goto (tgt := 129) hx hb d_Ins_takes_107 (by decide) ?_
          exact x_zret hx hb hr hlk hw (Or.inl rfl) ⟨rfl, Or.inl ⟨_, rfl, ⟨rfl, rfl, rfl, rfl, h⟩⟩⟩ hbd d_Ins_takes_129
        · replace h := h.2 c9
          refine lv_iload_n hx hb d_Ins_takes_97 rfl (lv_at hl 1 rfl) ?_
          refine lv_iload_n hx hb d_Ins_takes_98 rfl (lv_at hl 2 rfl) ?_
          refine lv_icmp_gt (tgt := 106) hx hb d_Ins_takes_99 (by decide) (fun c10 => ?_) (fun c10 => ?_)
          · replace h := h.1 c10
            refine lv_iconst (v := 0) hx hb d_Ins_takes_106 (by decide) ?_
            refine lv_goto (tgt := 129) hx hb d_Ins_takes_107 (by decide) ?_
            exact x_zret hx hb hr hlk hw (Or.inl rfl) ⟨rfl, Or.inl ⟨_, rfl, ⟨rfl, rfl, rfl, rfl, h⟩⟩⟩ hbd d_Ins_takes_129
          · replace h := h.2 c10
            refine lv_iconst (v := 1) hx hb d_Ins_takes_102 (by decide) ?_
            refine lv_goto (tgt := 129) hx hb d_Ins_takes_103 (by decide) ?_
            exact x_zret hx hb hr hlk hw (Or.inr rfl) ⟨rfl, Or.inl ⟨_, rfl, ⟨rfl, rfl, rfl, rfl, h⟩⟩⟩ hbd d_Ins_takes_129
      · replace h := h.2
        by_cases c11 : x1 = 17
        · replace h := h.1 c11
          refine lv_lookup (off := 89) (tgt := 93) hx hb d_Ins_takes_4 (by decide) (by rw [c11]; rfl) (by decide) ?_
          refine lv_iload_n hx hb d_Ins_takes_93 rfl (lv_at hl 1 rfl) ?_
          refine lv_if_lt (tgt := 106) hx hb d_Ins_takes_94 (by decide) (fun c12 => ?_) (fun c12 => ?_)
          · replace h := h.1 c12
            refine lv_iconst (v := 0) hx hb d_Ins_takes_106 (by decide) ?_
            refine lv_goto (tgt := 129) hx hb d_Ins_takes_107 (by decide) ?_
            exact x_zret hx hb hr hlk hw (Or.inl rfl) ⟨rfl, Or.inl ⟨_, rfl, ⟨rfl, rfl, rfl, rfl, h⟩⟩⟩ hbd d_Ins_takes_129
          · replace h := h.2 c12
            refine lv_iload_n hx hb d_Ins_takes_97 rfl (lv_at hl 1 rfl) ?_
            refine lv_iload_n hx hb d_Ins_takes_98 rfl (lv_at hl 2 rfl) ?_
            refine lv_icmp_gt (tgt := 106) hx hb d_Ins_takes_99 (by decide) (fun c13 => ?_) (fun c13 => ?_)
            · replace h := h.1 c13
              refine lv_iconst (v := 0) hx hb d_Ins_takes_106 (by decide) ?_
              refine lv_goto (tgt := 129) hx hb d_Ins_takes_107 (by decide) ?_
              exact x_zret hx hb hr hlk hw (Or.inl rfl) ⟨rfl, Or.inl ⟨_, rfl, ⟨rfl, rfl, rfl, rfl, h⟩⟩⟩ hbd d_Ins_takes_129
            · replace h := h.2 c13
              refine lv_iconst (v := 1) hx hb d_Ins_takes_102 (by decide) ?_
              refine lv_goto (tgt := 129) hx hb d_Ins_takes_103 (by decide) ?_
              exact x_zret hx hb hr hlk hw (Or.inr rfl) ⟨rfl, Or.inl ⟨_, rfl, ⟨rfl, rfl, rfl, rfl, h⟩⟩⟩ hbd d_Ins_takes_129
        · replace h := h.2
          by_cases c14 : x1 = 27
          · replace h := h.1 c14
            refine lv_lookup (off := 106) (tgt := 110) hx hb d_Ins_takes_4 (by decide) (by rw [c14]; rfl) (by decide) ?_
            refine lv_iload_n hx hb d_Ins_takes_110 rfl (lv_at hl 1 rfl) ?_
            refine lv_if_lt (tgt := 124) hx hb d_Ins_takes_111 (by decide) (fun c15 => ?_) (fun c15 => ?_)
            · replace h := h.1 c15
              refine lv_iconst (v := 0) hx hb d_Ins_takes_124 (by decide) ?_
              refine lv_goto (tgt := 129) hx hb d_Ins_takes_125 (by decide) ?_
              exact x_zret hx hb hr hlk hw (Or.inl rfl) ⟨rfl, Or.inl ⟨_, rfl, ⟨rfl, rfl, rfl, rfl, h⟩⟩⟩ hbd d_Ins_takes_129
            · replace h := h.2 c15
              refine lv_iload_n hx hb d_Ins_takes_114 rfl (lv_at hl 1 rfl) ?_
              refine lv_bipush (v := 8) hx hb d_Ins_takes_115 (by decide) ?_
              refine lv_icmp_gt (tgt := 124) hx hb d_Ins_takes_117 (by decide) (fun c16 => ?_) (fun c16 => ?_)
              · replace h := h.1 c16
                refine lv_iconst (v := 0) hx hb d_Ins_takes_124 (by decide) ?_
                refine lv_goto (tgt := 129) hx hb d_Ins_takes_125 (by decide) ?_
                exact x_zret hx hb hr hlk hw (Or.inl rfl) ⟨rfl, Or.inl ⟨_, rfl, ⟨rfl, rfl, rfl, rfl, h⟩⟩⟩ hbd d_Ins_takes_129
              · replace h := h.2 c16
                refine lv_iconst (v := 1) hx hb d_Ins_takes_120 (by decide) ?_
                refine lv_goto (tgt := 129) hx hb d_Ins_takes_121 (by decide) ?_
                exact x_zret hx hb hr hlk hw (Or.inr rfl) ⟨rfl, Or.inl ⟨_, rfl, ⟨rfl, rfl, rfl, rfl, h⟩⟩⟩ hbd d_Ins_takes_129
          · replace h := h.2
            replace h := h c2 c5 c8 c11 c14
            refine lv_lookup (off := 124) (tgt := 128) hx hb d_Ins_takes_4 (by decide) (by rw [lv_osw c2 (by decide), lv_osw c5 (by decide), lv_osw c8 (by decide), lv_osw c11 (by decide), lv_osw c14 (by decide)]; rfl) (by decide) ?_
            refine lv_iconst (v := 1) hx hb d_Ins_takes_128 (by decide) ?_
            exact x_zret hx hb hr hlk hw (Or.inr rfl) ⟨rfl, Or.inl ⟨_, rfl, ⟨rfl, rfl, rfl, rfl, h⟩⟩⟩ hbd d_Ins_takes_129
def w_Ins_needed (Q : Int32 → Prop) (i : Nat) (p1 : Int32) : Prop :=
  ∀ x1 : Int32, x1 = (nI i) →
  (x1 = 3 →
    Q (p1 + (1 : Int32))) ∧
  (x1 = 4 →
    Q (p1 + (1 : Int32))) ∧
  (x1 = 27 →
    Q (p1 + (3 : Int32))) ∧
  (¬ x1 = 3 → ¬ x1 = 4 → ¬ x1 = 27 → 
    Q (x_efv 1 i))
set_option maxRecDepth 100000 in
set_option maxHeartbeats 4000000 in
theorem c_Ins_needed {l : Launch} {g : x_G} {Y : x_Y} (hY : x_Y0 g Y) {i : Nat} {p1 : Int32} (e_i : i < 30) {Q : Int32 → Prop} {L : x_L} {I : x_I} {k n : Nat} (h : w_Ins_needed Q i p1) : x_C l y_Ins_needed 2 g [.ref (g.2.2.2.2 i), .int p1] Y L I k n (x_pI Y (fun v L' I' k' n' => L' = L ∧ I' = I ∧ k' = k ∧ n' = n ∧ Q v) x_nx) := by
  refine x_mth k_701 ?_
  intro p e R s m below meth c hE hnm hexn hw hk1 hn1
  obtain ⟨hx, hb, hml, hr, hlk, hown, hK, htr, hF, hLo, hRc, hRs⟩ := id hE
  have hbd : x_bd k n k n := ⟨Nat.le_refl _, hk1, Nat.le_refl _, hn1⟩
  have hl := lv_entry ([.ref (g.2.2.2.2 i), .int p1]) (n := 2) (Nat.le_of_ble_eq_true rfl)
  generalize (lg_sl [.ref (g.2.2.2.2 i), .int p1] ++ List.replicate (2 - (lg_sl [.ref (g.2.2.2.2 i), .int p1]).length) Slot.unset).toArray = ls at hl ⊢
  have hl : lv_has ls 2 [(0, .ref (g.2.2.2.2 i)), (1, .int p1)] := hl
  generalize s.heap = H at hw ⊢
  generalize ([] : List Loc) = locs at hw ⊢
  unfold w_Ins_needed at h
  refine lv_aload_n hx hb d_Ins_needed_0 rfl (lv_at hl 0 rfl) ?_
  refine x_ord (i := i) (rest := []) hE hw e_i k_603 (by decide) hl.1 (Nat.le_of_ble_eq_true rfl) hbd d_Ins_needed_1 (fun H locs hw => ?_)
  refine lv_topi (fun x1 e_x1 => ?_)
  replace h := h x1 e_x1
  by_cases c2 : x1 = 3
  · replace h := h.1 c2
    refine lv_lookup (off := 36) (tgt := 40) hx hb d_Ins_needed_4 (by decide) (by rw [c2]; rfl) (by decide) ?_
    refine lv_iload_n hx hb d_Ins_needed_40 rfl (lv_at hl 1 rfl) ?_
    refine lv_iconst (v := 1) hx hb d_Ins_needed_41 (by decide) ?_
    refine lv_iadd hx hb d_Ins_needed_42 ?_
    refine lv_goto (tgt := 56) hx hb d_Ins_needed_43 (by decide) ?_
    exact x_iret hx hb hr hlk hw ⟨rfl, Or.inl ⟨_, rfl, ⟨rfl, rfl, rfl, rfl, h⟩⟩⟩ hbd d_Ins_needed_56
  · replace h := h.2
    by_cases c3 : x1 = 4
    · replace h := h.1 c3
      refine lv_lookup (off := 36) (tgt := 40) hx hb d_Ins_needed_4 (by decide) (by rw [c3]; rfl) (by decide) ?_
      refine lv_iload_n hx hb d_Ins_needed_40 rfl (lv_at hl 1 rfl) ?_
      refine lv_iconst (v := 1) hx hb d_Ins_needed_41 (by decide) ?_
      refine lv_iadd hx hb d_Ins_needed_42 ?_
      refine lv_goto (tgt := 56) hx hb d_Ins_needed_43 (by decide) ?_
      exact x_iret hx hb hr hlk hw ⟨rfl, Or.inl ⟨_, rfl, ⟨rfl, rfl, rfl, rfl, h⟩⟩⟩ hbd d_Ins_needed_56
    · replace h := h.2
      by_cases c4 : x1 = 27
      · replace h := h.1 c4
        refine lv_lookup (off := 42) (tgt := 46) hx hb d_Ins_needed_4 (by decide) (by rw [c4]; rfl) (by decide) ?_
        refine lv_iload_n hx hb d_Ins_needed_46 rfl (lv_at hl 1 rfl) ?_
        refine lv_iconst (v := 3) hx hb d_Ins_needed_47 (by decide) ?_
        refine lv_iadd hx hb d_Ins_needed_48 ?_
        refine lv_goto (tgt := 56) hx hb d_Ins_needed_49 (by decide) ?_
        exact x_iret hx hb hr hlk hw ⟨rfl, Or.inl ⟨_, rfl, ⟨rfl, rfl, rfl, rfl, h⟩⟩⟩ hbd d_Ins_needed_56
      · replace h := h.2
        replace h := h c2 c3 c4
        refine lv_lookup (off := 48) (tgt := 52) hx hb d_Ins_needed_4 (by decide) (by rw [lv_osw c2 (by decide), lv_osw c3 (by decide), lv_osw c4 (by decide)]; rfl) (by decide) ?_
        refine lv_aload_n hx hb d_Ins_needed_52 rfl (lv_at hl 0 rfl) ?_
        refine x_egf0 (i := i) 1 hx hb hK hw hown e_i (x_wd hK k_1055 rfl) d_Ins_needed_53 ?_
        exact x_iret hx hb hr hlk hw ⟨rfl, Or.inl ⟨_, rfl, ⟨rfl, rfl, rfl, rfl, h⟩⟩⟩ hbd d_Ins_needed_56
def w_Ins_of (Q : Int32 → Prop) (i : Nat) (p1 : Int32) (p2 : Int32) : Prop :=
  ∀ x1 : Int32, x1 = (nI i) →
  (x1 = 5 →
    Q (p1 + p2)) ∧
  (x1 = 6 →
    Q (p1 - p2)) ∧
  (x1 = 7 →
    Q (p1 * p2)) ∧
  (x1 = 8 →
    ((¬ p2 = 0 →
      ¬ p2 = 0 ∧
      Q (p1 / p2)) ∧
    (p2 = 0 →
      Q (0 : Int32)))) ∧
  (x1 = 9 →
    ((¬ p2 = 0 →
      ¬ p2 = 0 ∧
      Q (p1 - p1 / p2 * p2)) ∧
    (p2 = 0 →
      Q p1))) ∧
  (x1 = 10 →
    ((p2 ≤ p1 →
      Q (0 : Int32)) ∧
    (¬ p2 ≤ p1 →
      Q (1 : Int32)))) ∧
  (x1 = 11 →
    ((¬ p1 = p2 →
      Q (0 : Int32)) ∧
    (p1 = p2 →
      Q (1 : Int32)))) ∧
  (x1 = 13 →
    Q (p1 &&& p2)) ∧
  (x1 = 14 →
    Q (p1 ||| p2)) ∧
  (¬ x1 = 5 → ¬ x1 = 6 → ¬ x1 = 7 → ¬ x1 = 8 → ¬ x1 = 9 → ¬ x1 = 10 → ¬ x1 = 11 → ¬ x1 = 13 → ¬ x1 = 14 → 
    Q (p1 ^^^ p2))
set_option maxRecDepth 100000 in
set_option maxHeartbeats 4000000 in
theorem c_Ins_of {l : Launch} {g : x_G} {Y : x_Y} (hY : x_Y0 g Y) {i : Nat} {p1 : Int32} {p2 : Int32} (e_i : i < 30) {Q : Int32 → Prop} {L : x_L} {I : x_I} {k n : Nat} (h : w_Ins_of Q i p1 p2) : x_C l y_Ins_of 2 g [.ref (g.2.2.2.2 i), .int p1, .int p2] Y L I k n (x_pI Y (fun v L' I' k' n' => L' = L ∧ I' = I ∧ k' = k ∧ n' = n ∧ Q v) x_nx) := by
  refine x_mth k_764 ?_
  intro p e R s m below meth c hE hnm hexn hw hk1 hn1
  obtain ⟨hx, hb, hml, hr, hlk, hown, hK, htr, hF, hLo, hRc, hRs⟩ := id hE
  have hbd : x_bd k n k n := ⟨Nat.le_refl _, hk1, Nat.le_refl _, hn1⟩
  have hl := lv_entry ([.ref (g.2.2.2.2 i), .int p1, .int p2]) (n := 3) (Nat.le_of_ble_eq_true rfl)
  generalize (lg_sl [.ref (g.2.2.2.2 i), .int p1, .int p2] ++ List.replicate (3 - (lg_sl [.ref (g.2.2.2.2 i), .int p1, .int p2]).length) Slot.unset).toArray = ls at hl ⊢
  have hl : lv_has ls 3 [(0, .ref (g.2.2.2.2 i)), (1, .int p1), (2, .int p2)] := hl
  generalize s.heap = H at hw ⊢
  generalize ([] : List Loc) = locs at hw ⊢
  unfold w_Ins_of at h
  refine lv_aload_n hx hb d_Ins_of_0 rfl (lv_at hl 0 rfl) ?_
  refine x_ord (i := i) (rest := []) hE hw e_i k_603 (by decide) hl.1 (Nat.le_of_ble_eq_true rfl) hbd d_Ins_of_1 (fun H locs hw => ?_)
  refine lv_topi (fun x1 e_x1 => ?_)
  replace h := h x1 e_x1
  by_cases c2 : x1 = 5
  · replace h := h.1 c2
    refine lv_tableIn (off := 56) (tgt := 60) hx hb d_Ins_of_4 (by rw [c2]; decide) (by rw [c2]; decide) (by rw [c2]; rfl) (by decide) ?_
    refine lv_iload_n hx hb d_Ins_of_60 rfl (lv_at hl 1 rfl) ?_
    refine lv_iload_n hx hb d_Ins_of_61 rfl (lv_at hl 2 rfl) ?_
    refine lv_iadd hx hb d_Ins_of_62 ?_
    refine lv_goto (tgt := 147) hx hb d_Ins_of_63 (by decide) ?_
    exact x_iret hx hb hr hlk hw ⟨rfl, Or.inl ⟨_, rfl, ⟨rfl, rfl, rfl, rfl, h⟩⟩⟩ hbd d_Ins_of_147
  · replace h := h.2
    by_cases c3 : x1 = 6
    · replace h := h.1 c3
      refine lv_tableIn (off := 62) (tgt := 66) hx hb d_Ins_of_4 (by rw [c3]; decide) (by rw [c3]; decide) (by rw [c3]; rfl) (by decide) ?_
      refine lv_iload_n hx hb d_Ins_of_66 rfl (lv_at hl 1 rfl) ?_
      refine lv_iload_n hx hb d_Ins_of_67 rfl (lv_at hl 2 rfl) ?_
      refine lv_isub hx hb d_Ins_of_68 ?_
      refine lv_goto (tgt := 147) hx hb d_Ins_of_69 (by decide) ?_
      exact x_iret hx hb hr hlk hw ⟨rfl, Or.inl ⟨_, rfl, ⟨rfl, rfl, rfl, rfl, h⟩⟩⟩ hbd d_Ins_of_147
    · replace h := h.2
      by_cases c4 : x1 = 7
      · replace h := h.1 c4
        refine lv_tableIn (off := 68) (tgt := 72) hx hb d_Ins_of_4 (by rw [c4]; decide) (by rw [c4]; decide) (by rw [c4]; rfl) (by decide) ?_
        refine lv_iload_n hx hb d_Ins_of_72 rfl (lv_at hl 1 rfl) ?_
        refine lv_iload_n hx hb d_Ins_of_73 rfl (lv_at hl 2 rfl) ?_
        refine lv_imul hx hb d_Ins_of_74 ?_
        refine lv_goto (tgt := 147) hx hb d_Ins_of_75 (by decide) ?_
        exact x_iret hx hb hr hlk hw ⟨rfl, Or.inl ⟨_, rfl, ⟨rfl, rfl, rfl, rfl, h⟩⟩⟩ hbd d_Ins_of_147
      · replace h := h.2
        by_cases c5 : x1 = 8
        · replace h := h.1 c5
          refine lv_tableIn (off := 74) (tgt := 78) hx hb d_Ins_of_4 (by rw [c5]; decide) (by rw [c5]; decide) (by rw [c5]; rfl) (by decide) ?_
          refine lv_iload_n hx hb d_Ins_of_78 rfl (lv_at hl 2 rfl) ?_
          refine lv_if_ne (tgt := 86) hx hb d_Ins_of_79 (by decide) (fun c6 => ?_) (fun c6 => ?_)
          · replace h := h.1 c6
            refine lv_iload_n hx hb d_Ins_of_86 rfl (lv_at hl 1 rfl) ?_
            refine lv_iload_n hx hb d_Ins_of_87 rfl (lv_at hl 2 rfl) ?_
            refine lv_idiv hx hb d_Ins_of_88 h.1 ?_
            replace h := h.2
            refine lv_goto (tgt := 147) hx hb d_Ins_of_89 (by decide) ?_
            exact x_iret hx hb hr hlk hw ⟨rfl, Or.inl ⟨_, rfl, ⟨rfl, rfl, rfl, rfl, h⟩⟩⟩ hbd d_Ins_of_147
          · replace h := h.2 c6
            refine lv_iconst (v := 0) hx hb d_Ins_of_82 (by decide) ?_
            refine lv_goto (tgt := 147) hx hb d_Ins_of_83 (by decide) ?_
            exact x_iret hx hb hr hlk hw ⟨rfl, Or.inl ⟨_, rfl, ⟨rfl, rfl, rfl, rfl, h⟩⟩⟩ hbd d_Ins_of_147
        · replace h := h.2
          by_cases c7 : x1 = 9
          · replace h := h.1 c7
            refine lv_tableIn (off := 88) (tgt := 92) hx hb d_Ins_of_4 (by rw [c7]; decide) (by rw [c7]; decide) (by rw [c7]; rfl) (by decide) ?_
            refine lv_iload_n hx hb d_Ins_of_92 rfl (lv_at hl 2 rfl) ?_
            refine lv_if_ne (tgt := 100) hx hb d_Ins_of_93 (by decide) (fun c8 => ?_) (fun c8 => ?_)
            · replace h := h.1 c8
              refine lv_iload_n hx hb d_Ins_of_100 rfl (lv_at hl 1 rfl) ?_
              refine lv_iload_n hx hb d_Ins_of_101 rfl (lv_at hl 2 rfl) ?_
              refine lv_irem hx hb d_Ins_of_102 h.1 ?_
              replace h := h.2
              refine lv_goto (tgt := 147) hx hb d_Ins_of_103 (by decide) ?_
              exact x_iret hx hb hr hlk hw ⟨rfl, Or.inl ⟨_, rfl, ⟨rfl, rfl, rfl, rfl, h⟩⟩⟩ hbd d_Ins_of_147
            · replace h := h.2 c8
              refine lv_iload_n hx hb d_Ins_of_96 rfl (lv_at hl 1 rfl) ?_
              refine lv_goto (tgt := 147) hx hb d_Ins_of_97 (by decide) ?_
              exact x_iret hx hb hr hlk hw ⟨rfl, Or.inl ⟨_, rfl, ⟨rfl, rfl, rfl, rfl, h⟩⟩⟩ hbd d_Ins_of_147
          · replace h := h.2
            by_cases c9 : x1 = 10
            · replace h := h.1 c9
              refine lv_tableIn (off := 102) (tgt := 106) hx hb d_Ins_of_4 (by rw [c9]; decide) (by rw [c9]; decide) (by rw [c9]; rfl) (by decide) ?_
              refine lv_iload_n hx hb d_Ins_of_106 rfl (lv_at hl 1 rfl) ?_
              refine lv_iload_n hx hb d_Ins_of_107 rfl (lv_at hl 2 rfl) ?_
              refine lv_icmp_ge (tgt := 115) hx hb d_Ins_of_108 (by decide) (fun c10 => ?_) (fun c10 => ?_)
              · replace h := h.1 c10
                refine lv_iconst (v := 0) hx hb d_Ins_of_115 (by decide) ?_
                refine lv_goto (tgt := 147) hx hb d_Ins_of_116 (by decide) ?_
                exact x_iret hx hb hr hlk hw ⟨rfl, Or.inl ⟨_, rfl, ⟨rfl, rfl, rfl, rfl, h⟩⟩⟩ hbd d_Ins_of_147
              · replace h := h.2 c10
                refine lv_iconst (v := 1) hx hb d_Ins_of_111 (by decide) ?_
                refine lv_goto (tgt := 147) hx hb d_Ins_of_112 (by decide) ?_
                exact x_iret hx hb hr hlk hw ⟨rfl, Or.inl ⟨_, rfl, ⟨rfl, rfl, rfl, rfl, h⟩⟩⟩ hbd d_Ins_of_147
            · replace h := h.2
              by_cases c11 : x1 = 11
              · replace h := h.1 c11
                refine lv_tableIn (off := 115) (tgt := 119) hx hb d_Ins_of_4 (by rw [c11]; decide) (by rw [c11]; decide) (by rw [c11]; rfl) (by decide) ?_
                refine lv_iload_n hx hb d_Ins_of_119 rfl (lv_at hl 1 rfl) ?_
                refine lv_iload_n hx hb d_Ins_of_120 rfl (lv_at hl 2 rfl) ?_
                refine lv_icmp_ne (tgt := 128) hx hb d_Ins_of_121 (by decide) (fun c12 => ?_) (fun c12 => ?_)
                · replace h := h.1 c12
                  refine lv_iconst (v := 0) hx hb d_Ins_of_128 (by decide) ?_
                  refine lv_goto (tgt := 147) hx hb d_Ins_of_129 (by decide) ?_
                  exact x_iret hx hb hr hlk hw ⟨rfl, Or.inl ⟨_, rfl, ⟨rfl, rfl, rfl, rfl, h⟩⟩⟩ hbd d_Ins_of_147
                · replace h := h.2 c12
                  refine lv_iconst (v := 1) hx hb d_Ins_of_124 (by decide) ?_
                  refine lv_goto (tgt := 147) hx hb d_Ins_of_125 (by decide) ?_
                  exact x_iret hx hb hr hlk hw ⟨rfl, Or.inl ⟨_, rfl, ⟨rfl, rfl, rfl, rfl, h⟩⟩⟩ hbd d_Ins_of_147
              · replace h := h.2
                by_cases c13 : x1 = 13
                · replace h := h.1 c13
                  refine lv_tableIn (off := 128) (tgt := 132) hx hb d_Ins_of_4 (by rw [c13]; decide) (by rw [c13]; decide) (by rw [c13]; rfl) (by decide) ?_
                  refine lv_iload_n hx hb d_Ins_of_132 rfl (lv_at hl 1 rfl) ?_
                  refine lv_iload_n hx hb d_Ins_of_133 rfl (lv_at hl 2 rfl) ?_
                  refine lv_iand hx hb d_Ins_of_134 ?_
                  refine lv_goto (tgt := 147) hx hb d_Ins_of_135 (by decide) ?_
                  exact x_iret hx hb hr hlk hw ⟨rfl, Or.inl ⟨_, rfl, ⟨rfl, rfl, rfl, rfl, h⟩⟩⟩ hbd d_Ins_of_147
                · replace h := h.2
                  by_cases c14 : x1 = 14
                  · replace h := h.1 c14
                    refine lv_tableIn (off := 134) (tgt := 138) hx hb d_Ins_of_4 (by rw [c14]; decide) (by rw [c14]; decide) (by rw [c14]; rfl) (by decide) ?_
                    refine lv_iload_n hx hb d_Ins_of_138 rfl (lv_at hl 1 rfl) ?_
                    refine lv_iload_n hx hb d_Ins_of_139 rfl (lv_at hl 2 rfl) ?_
                    refine lv_ior hx hb d_Ins_of_140 ?_
                    refine lv_goto (tgt := 147) hx hb d_Ins_of_141 (by decide) ?_
                    exact x_iret hx hb hr hlk hw ⟨rfl, Or.inl ⟨_, rfl, ⟨rfl, rfl, rfl, rfl, h⟩⟩⟩ hbd d_Ins_of_147
                  · replace h := h.2
                    replace h := h c2 c3 c4 c5 c7 c9 c11 c13 c14
                    by_cases hlo : x1.toInt < 5
                    · refine lv_tableOut (tgt := 144) hx hb d_Ins_of_4 (Or.inl hlo) (by decide) ?_
                      refine lv_iload_n hx hb d_Ins_of_144 rfl (lv_at hl 1 rfl) ?_
                      refine lv_iload_n hx hb d_Ins_of_145 rfl (lv_at hl 2 rfl) ?_
                      refine lv_ixor hx hb d_Ins_of_146 ?_
                      exact x_iret hx hb hr hlk hw ⟨rfl, Or.inl ⟨_, rfl, ⟨rfl, rfl, rfl, rfl, h⟩⟩⟩ hbd d_Ins_of_147
                    · by_cases hhi : 14 < x1.toInt
                      · refine lv_tableOut (tgt := 144) hx hb d_Ins_of_4 (Or.inr hhi) (by decide) ?_
                        refine lv_iload_n hx hb d_Ins_of_144 rfl (lv_at hl 1 rfl) ?_
                        refine lv_iload_n hx hb d_Ins_of_145 rfl (lv_at hl 2 rfl) ?_
                        refine lv_ixor hx hb d_Ins_of_146 ?_
                        exact x_iret hx hb hr hlk hw ⟨rfl, Or.inl ⟨_, rfl, ⟨rfl, rfl, rfl, rfl, h⟩⟩⟩ hbd d_Ins_of_147
                      · have hof : (#[56, 62, 68, 74, 88, 102, 115, 140, 128, 134] : Array Int)[(x1.toInt - 5).toNat]? = some 140 := by
                          have hz : x1.toInt = 12 := by
                            have z5 := lv_neT (a := 5) c2 (by decide)
                            have z6 := lv_neT (a := 6) c3 (by decide)
                            have z7 := lv_neT (a := 7) c4 (by decide)
                            have z8 := lv_neT (a := 8) c5 (by decide)
                            have z9 := lv_neT (a := 9) c7 (by decide)
                            have z10 := lv_neT (a := 10) c9 (by decide)
                            have z11 := lv_neT (a := 11) c11 (by decide)
                            have z13 := lv_neT (a := 13) c13 (by decide)
                            have z14 := lv_neT (a := 14) c14 (by decide)
                            omega
                          rcases hz with hz <;> (rw [hz]; rfl)
                        refine lv_tableIn (off := 140) (tgt := 144) hx hb d_Ins_of_4 hlo hhi hof (by decide) ?_
                        refine lv_iload_n hx hb d_Ins_of_144 rfl (lv_at hl 1 rfl) ?_
                        refine lv_iload_n hx hb d_Ins_of_145 rfl (lv_at hl 2 rfl) ?_
                        refine lv_ixor hx hb d_Ins_of_146 ?_
                        exact x_iret hx hb hr hlk hw ⟨rfl, Or.inl ⟨_, rfl, ⟨rfl, rfl, rfl, rfl, h⟩⟩⟩ hbd d_Ins_of_147
