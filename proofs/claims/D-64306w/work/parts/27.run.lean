def w_Run_call_140 (Q : x_L → x_I → Nat → Nat → Prop) (PL : (Int32 → x_L → x_I → Nat → Nat → Prop) → Nat → Nat → Int32 → x_L → x_I → Nat → Nat → Prop) (nA : Nat) (d : Nat) (d27 : Nat) : Nat → Int32 → Int32 → Int32 → x_L → x_I → Nat → Nat → Prop
  | 0, _, _, _, _, _, _, _ => False
  | fu + 1, v1, v5, v7, L, I, ka, na =>
    ((v1 ≤ v7 →
      PL (fun r32 L33 I34 k35 n35 =>
        ∀ I36 : x_I, I36 = x_u I34 20 d 11 ((I34 20 d 11) + (I34 20 d27 11)) →
        w_Run_push (fun I37 =>
          ((r32 = 0 →
            w_Run_push (fun I39 =>
              Q L33 I39 k35 n35) d (0 : Int32) I37) ∧
          (¬ r32 = 0 →
            w_Run_push (fun I40 =>
              Q L33 I40 k35 n35) d (1 : Int32) I37))) d (I36 20 d27 12) I36) nA d27 v5 L I ka na) ∧
    (¬ v1 ≤ v7 →
      vp_in (((((I 20 d 9) + v1) - (1 : Int32)) - v7)) 32 ∧
      vp_in v7 8 ∧
      ∀ I43 : x_I, I43 = x_u I 21 d27 v7.toNatClampNeg ((I 22 d (((((I 20 d 9) + v1) - (1 : Int32)) - v7)).toNatClampNeg)) →
      ∀ x44 : Int32, x44 = v7 + (1 : Int32) →
      w_Run_call_140 Q PL nA d d27 fu v1 v5 x44 L I43 ka na))
def w_Run_call (Q : x_L → x_I → Nat → Nat → Prop) (PL : (Int32 → x_L → x_I → Nat → Nat → Prop) → Nat → Nat → Int32 → x_L → x_I → Nat → Nat → Prop) (nA : Nat) (d : Nat) (p1 : Int32) (L : x_L) (I : x_I) (k n : Nat) : Prop :=
  w_Run_pop (fun r1 I2 =>
    w_Run_pop (fun r3 I4 =>
      w_Run_pop (fun r5 I6 =>
        ∀ I7 : x_I, I7 = x_u I6 20 d 9 ((I6 20 d 9) - p1) →
        w_Book_has (fun r9 =>
          ((r9 = 0 →
            w_Run_push (fun I11 =>
              w_Run_push (fun I12 =>
                Q L I12 k n) d (0 : Int32) I11) d (0 : Int32) I7) ∧
          (¬ r9 = 0 →
            ((r3 < 0 →
              w_Run_push (fun I14 =>
                w_Run_push (fun I15 =>
                  Q L I15 k n) d (0 : Int32) I14) d (0 : Int32) I7) ∧
            (¬ r3 < 0 →
              w_Book_balance (fun r16 =>
                ((r16 < r3 →
                  w_Run_push (fun I18 =>
                    w_Run_push (fun I19 =>
                      Q L I19 k n) d (0 : Int32) I18) d (0 : Int32) I7) ∧
                (¬ r16 < r3 →
                  ((r5 < 0 →
                    w_Run_push (fun I21 =>
                      w_Run_push (fun I22 =>
                        Q L I22 k n) d (0 : Int32) I21) d (0 : Int32) I7) ∧
                  (¬ r5 < 0 →
                    ((¬ ((I7 20 d 3) + (1 : Int32)) = (8 : Int32) →
                      w_Math_min (fun r24 =>
                        ∀ I25 : x_I, I25 = x_u I7 20 d 11 ((I7 20 d 11) - r24) →
                        vp_in ((I25 20 d 3) + (1 : Int32)) 8 ∧
                        ∀ d27 : Nat, d27 = ((I25 20 d 3) + (1 : Int32)).toNatClampNeg →
                        w_Run_begin (fun I29 =>
                          ∀ x30 : Int32, x30 = (0 : Int32) →
                          ∃ fu : Nat, w_Run_call_140 Q PL nA d d27 fu p1 r24 x30 L I29 k n) d27 r1 (I25 20 d 4) r3 I25) r5 (((I7 20 d 11) - ((I7 20 d 11) / (8 : Int32))))) ∧
                    (((I7 20 d 3) + (1 : Int32)) = (8 : Int32) →
                      w_Run_push (fun I45 =>
                        w_Run_push (fun I46 =>
                          Q L I46 k n) d (0 : Int32) I45) d (0 : Int32) I7))))))) nA (I7 20 d 4) I7))))) r1 I7) d I4) d I2) d I
set_option maxRecDepth 100000 in
set_option maxHeartbeats 4000000 in
theorem c_Run_call_140 {l : Launch} {g : x_G} {Y : x_Y} {p : Program} {e : Env} {R : Room} {s : State} {m : MethodId} {args : Array Value} {below : List Frame} {meth : Method} {c : Code} {k n Fp : Nat} (hE : x_E l g p e R s m meth c "CallLedger$Run" prog_6_method_11_code 8 none (Fp + 7) k n) (hexn : c.exceptionTable.toList = []) (hY : x_Y0 g Y) {nA : Nat} (hLs : x_Ls Y nA) (hT18 : ¬ x_ok Y 18 0) (hT19 : ¬ x_ok Y 19 0) {PL : (Int32 → x_L → x_I → Nat → Nat → Prop) → Nat → Nat → Int32 → x_L → x_I → Nat → Nat → Prop} (hPL : ∀ {Q' : Int32 → x_L → x_I → Nat → Nat → Prop} {d' : Nat} {q1 : Int32} {L' : x_L} {I' : x_I} {k' n' : Nat}, x_ok Y 20 d' → PL Q' nA d' q1 L' I' k' n' → x_C l y_Run_plays Fp g [.ref (x_ad Y 20 d'), .int q1] Y L' I' k' n' (x_pI Y Q' x_nx)) {d : Nat} (ok0_ : x_ok Y 20 d) {d27 : Nat} (okx_20_d27 : x_ok Y 20 d27) {Q : x_L → x_I → Nat → Nat → Prop} :
    ∀ (fu : Nat) (v1 : Int32) (v5 : Int32) (v7 : Int32) (L : x_L) (I : x_I) (ka na : Nat) (H : Heap) (locs : List Loc) (ls : Array Slot), w_Run_call_140 Q PL nA d d27 fu v1 v5 v7 L I ka na → x_WL g Y L I H locs → x_bd k n ka na → lv_has ls 8 [(0, .ref (x_ad Y 20 d)), (1, .int v1), (5, .int v5), (6, .ref (x_ad Y 20 d27)), (7, .int v7)] → W p l e R s m args below meth c H locs (ka - k) (na - n) (x_Q g below s k n (x_pV Y (fun L' I' k' n' => Q L' I' k' n') x_nx)) (F0 m 140 ls []) := by
  obtain ⟨hx, hb, hml, hr, hlk, hown, hK, htr, hF, hLo, hRc, hRs⟩ := id hE
  intro fu
  induction fu with
  | zero =>
    intro v1 v5 v7 L I ka na H locs ls h
    exact h.elim
  | succ fu ih =>
    intro v1 v5 v7 L I ka na H locs ls h hw hbd hl
    unfold w_Run_call_140 at h
    refine lv_iload hx hb d_Run_call_140 (lv_at hl 4 rfl) ?_
    refine lv_iload_n hx hb d_Run_call_142 rfl (lv_at hl 1 rfl) ?_
    refine lv_icmp_ge (tgt := 176) hx hb d_Run_call_143 (by decide) (fun c31 => ?_) (fun c31 => ?_)
    · replace h := h.1 c31
      refine lv_aload hx hb d_Run_call_176 (lv_at hl 3 rfl) ?_
      refine lv_iload hx hb d_Run_call_178 (lv_at hl 2 rfl) ?_
      refine x_goI (ls := ls) (rest := []) hE hw (hPL okx_20_d27 h) (x_cdW hK k_624) q_Run_plays (by omega) (by omega) hl.1 (Nat.le_of_ble_eq_true rfl) hbd d_Run_call_180 (x_toV (As := [.int v5]) (b := (x_ad Y 20 d27)) hx hb hown hK (x_recv hK hw okx_20_d27 rfl (by decide)) k_760 k_622 k_623 ⟨_, x_cdW hK k_624⟩ q_Run_plays rfl rfl d_Run_call_180) (fun r32 L33 I34 k35 n35 H locs h hw hb9 => ?_) (fun _ _ _ _ _ _ _ h9 => h9.elim)
      replace hbd := hbd.tr hb9
      try dsimp only at h
      refine lv_istore (lv' := [(7, .int r32), (0, .ref (x_ad Y 20 d)), (1, .int v1), (5, .int v5), (6, .ref (x_ad Y 20 d27))]) hx hb d_Run_call_183 hl (by decide) rfl (fun ls hl => ?_)
      refine lv_aload_n hx hb d_Run_call_185 rfl (lv_at hl 1 rfl) ?_
      refine lv_dup hx hb d_Run_call_186 rfl ?_
      refine x_getI (t := 20) (i := d) (j := 11) hx hb hK hw hown ok0_ rfl (by decide) (by decide) (x_wd hK k_185 rfl) (fun _ h => h) fk_5_11 d_Run_call_187 ?_
      refine lv_aload hx hb d_Run_call_190 (lv_at hl 4 rfl) ?_
      refine x_getI (t := 20) (i := d27) (j := 11) hx hb hK hw hown okx_20_d27 rfl (by decide) (by decide) (x_wd hK k_185 rfl) (fun _ h => h) fk_5_11 d_Run_call_192 ?_
      refine lv_iadd hx hb d_Run_call_195 ?_
      refine x_putI (t := 20) (i := d) (j := 11) hx hb hK hw hown ok0_ rfl (by decide) (by decide) (x_wd hK k_185 rfl) (fun _ h => h) rfl rfl d_Run_call_196 (fun I36 H locs e_I36 hw => ?_)
      replace h := h I36 e_I36
      refine lv_aload_n hx hb d_Run_call_199 rfl (lv_at hl 1 rfl) ?_
      refine lv_aload hx hb d_Run_call_200 (lv_at hl 4 rfl) ?_
      refine x_getI (t := 20) (i := d27) (j := 12) hx hb hK hw hown okx_20_d27 rfl (by decide) (by decide) (x_wd hK k_187 rfl) (fun _ h => h) fk_5_12 d_Run_call_202 ?_
      refine x_goV (ls := ls) (rest := []) hE hw (c_Run_push hY ok0_ h) (x_cd hK k_710) q_Run_push (by omega) (by omega) hl.1 (Nat.le_of_ble_eq_true rfl) hbd d_Run_call_205 (x_toV (As := [.int (I36 20 d27 12)]) (b := (x_ad Y 20 d)) hx hb hown hK (x_recv hK hw ok0_ rfl (by decide)) k_707 k_709 ks_13 ⟨_, x_cd hK k_710⟩ q_Run_push rfl rfl d_Run_call_205) (fun L9 I37 k9 n9 H locs h hw hb9 => ?_) (fun _ _ _ _ _ _ _ h9 => h9.elim)
      obtain ⟨e1, e3, e4, h⟩ := h
      rw [e1] at hw
      rw [e3, e4]
      refine lv_aload_n hx hb d_Run_call_208 rfl (lv_at hl 1 rfl) ?_
      refine lv_iload hx hb d_Run_call_209 (lv_at hl 0 rfl) ?_
      refine lv_if_eq (tgt := 218) hx hb d_Run_call_211 (by decide) (fun c38 => ?_) (fun c38 => ?_)
      · replace h := h.1 c38
        refine lv_iconst (v := 0) hx hb d_Run_call_218 (by decide) ?_
        refine x_goV (ls := ls) (rest := []) hE hw (c_Run_push hY ok0_ h) (x_cd hK k_710) q_Run_push (by omega) (by omega) hl.1 (Nat.le_of_ble_eq_true rfl) hbd d_Run_call_219 (x_toV (As := [.int (0 : Int32)]) (b := (x_ad Y 20 d)) hx hb hown hK (x_recv hK hw ok0_ rfl (by decide)) k_707 k_709 ks_13 ⟨_, x_cd hK k_710⟩ q_Run_push rfl rfl d_Run_call_219) (fun L9 I39 k9 n9 H locs h hw hb9 => ?_) (fun _ _ _ _ _ _ _ h9 => h9.elim)
        obtain ⟨e1, e3, e4, h⟩ := h
        rw [e1] at hw
        rw [e3, e4]
        exact x_vret hx hb hr hlk hw ⟨rfl, Or.inl ⟨rfl, h⟩⟩ hbd d_Run_call_222
      · replace h := h.2 c38
        refine lv_iconst (v := 1) hx hb d_Run_call_214 (by decide) ?_
        refine lv_goto (tgt := 219) hx hb d_Run_call_215 (by decide) ?_
        refine x_goV (ls := ls) (rest := []) hE hw (c_Run_push hY ok0_ h) (x_cd hK k_710) q_Run_push (by omega) (by omega) hl.1 (Nat.le_of_ble_eq_true rfl) hbd d_Run_call_219 (x_toV (As := [.int (1 : Int32)]) (b := (x_ad Y 20 d)) hx hb hown hK (x_recv hK hw ok0_ rfl (by decide)) k_707 k_709 ks_13 ⟨_, x_cd hK k_710⟩ q_Run_push rfl rfl d_Run_call_219) (fun L9 I40 k9 n9 H locs h hw hb9 => ?_) (fun _ _ _ _ _ _ _ h9 => h9.elim)
        obtain ⟨e1, e3, e4, h⟩ := h
        rw [e1] at hw
        rw [e3, e4]
        exact x_vret hx hb hr hlk hw ⟨rfl, Or.inl ⟨rfl, h⟩⟩ hbd d_Run_call_222
    · replace h := h.2 c31
      refine lv_aload hx hb d_Run_call_146 (lv_at hl 3 rfl) ?_
      refine x_getR (t := 20) (i := d27) (j := 7) hx hb hK hw hown okx_20_d27 rfl (by decide) (by decide) (x_wd hK k_180 rfl) (fun _ h => h) fk_5_7 (hY.r okx_20_d27 rfl) d_Run_call_148 ?_
      have ok41 := hY.ok 7 okx_20_d27 (t' := 21) (i' := d27) rfl
      refine lv_iload hx hb d_Run_call_151 (lv_at hl 4 rfl) ?_
      refine lv_aload_n hx hb d_Run_call_153 rfl (lv_at hl 0 rfl) ?_
      refine x_getR (t := 20) (i := d) (j := 8) hx hb hK hw hown ok0_ rfl (by decide) (by decide) (x_wd hK k_182 rfl) (fun _ h => h) fk_5_8 (hY.r ok0_ rfl) d_Run_call_154 ?_
      have ok42 := hY.ok 8 ok0_ (t' := 22) (i' := d) rfl
      refine lv_aload_n hx hb d_Run_call_157 rfl (lv_at hl 0 rfl) ?_
      refine x_getI (t := 20) (i := d) (j := 9) hx hb hK hw hown ok0_ rfl (by decide) (by decide) (x_wd hK k_183 rfl) (fun _ h => h) fk_5_9 d_Run_call_158 ?_
      refine lv_iload_n hx hb d_Run_call_161 rfl (lv_at hl 1 rfl) ?_
      refine lv_iadd hx hb d_Run_call_162 ?_
      refine lv_iconst (v := 1) hx hb d_Run_call_163 (by decide) ?_
      refine lv_isub hx hb d_Run_call_164 ?_
      refine lv_iload hx hb d_Run_call_165 (lv_at hl 4 rfl) ?_
      refine lv_isub hx hb d_Run_call_167 ?_
      refine x_iald (t := 22) (i := d) hx hb hK hw ok42 rfl (hY.n ok42 rfl) h.1 d_Run_call_168 ?_
      replace h := h.2
      refine x_iast (t := 21) (i := d27) hx hb hK hw ok41 rfl (hY.n ok41 rfl) h.1 d_Run_call_169 (fun I43 H locs e_I43 hw => ?_)
      replace h := h.2 I43 e_I43
      obtain ⟨x44, e_x44⟩ : ∃ z : Int32, z = v7 + (1 : Int32) := ⟨_, rfl⟩
      replace h := h x44 e_x44
      refine lv_iinc (v := x44) (lv' := [(7, .int x44), (0, .ref (x_ad Y 20 d)), (1, .int v1), (5, .int v5), (6, .ref (x_ad Y 20 d27))]) hx hb d_Run_call_170 hl (k := 4) rfl (by rw [e_x44]; rfl) (by decide) rfl (fun ls hl => ?_)
      refine lv_goto (tgt := 140) hx hb d_Run_call_173 (by decide) ?_
      exact ih v1 v5 x44 L I43 ka na H locs ls h hw hbd (lv_sub hl [1, 2, 3, 4, 0] rfl)
set_option maxRecDepth 100000 in
set_option maxHeartbeats 4000000 in
theorem c_Run_call {l : Launch} {g : x_G} {Y : x_Y} (hY : x_Y0 g Y) {nA : Nat} (hLs : x_Ls Y nA) (hT18 : ¬ x_ok Y 18 0) (hT19 : ¬ x_ok Y 19 0) {Fp : Nat} {PL : (Int32 → x_L → x_I → Nat → Nat → Prop) → Nat → Nat → Int32 → x_L → x_I → Nat → Nat → Prop} (hPL : ∀ {Q' : Int32 → x_L → x_I → Nat → Nat → Prop} {d' : Nat} {q1 : Int32} {L' : x_L} {I' : x_I} {k' n' : Nat}, x_ok Y 20 d' → PL Q' nA d' q1 L' I' k' n' → x_C l y_Run_plays Fp g [.ref (x_ad Y 20 d'), .int q1] Y L' I' k' n' (x_pI Y Q' x_nx)) {d : Nat} {p1 : Int32} (ok0_ : x_ok Y 20 d) {Q : x_L → x_I → Nat → Nat → Prop} {L : x_L} {I : x_I} {k n : Nat} (h : w_Run_call Q PL nA d p1 L I k n) : x_C l y_Run_call (Fp + 7) g [.ref (x_ad Y 20 d), .int p1] Y L I k n (x_pV Y (fun L' I' k' n' => Q L' I' k' n') x_nx) := by
  refine x_mth k_756 ?_
  intro p e R s m below meth c hE hnm hexn hw hk1 hn1
  obtain ⟨hx, hb, hml, hr, hlk, hown, hK, htr, hF, hLo, hRc, hRs⟩ := id hE
  have hbd : x_bd k n k n := ⟨Nat.le_refl _, hk1, Nat.le_refl _, hn1⟩
  have hl := lv_entry ([.ref (x_ad Y 20 d), .int p1]) (n := 8) (Nat.le_of_ble_eq_true rfl)
  generalize (lg_sl [.ref (x_ad Y 20 d), .int p1] ++ List.replicate (8 - (lg_sl [.ref (x_ad Y 20 d), .int p1]).length) Slot.unset).toArray = ls at hl ⊢
  have hl : lv_has ls 8 [(0, .ref (x_ad Y 20 d)), (1, .int p1)] := hl
  generalize s.heap = H at hw ⊢
  generalize ([] : List Loc) = locs at hw ⊢
  unfold w_Run_call at h
  refine lv_aload_n hx hb d_Run_call_0 rfl (lv_at hl 0 rfl) ?_
  refine x_goI (ls := ls) (rest := []) hE hw (c_Run_pop hY ok0_ h) (x_cd hK k_718) q_Run_pop (by omega) (by omega) hl.1 (Nat.le_of_ble_eq_true rfl) hbd d_Run_call_1 (x_toV (As := []) (b := (x_ad Y 20 d)) hx hb hown hK (x_recv hK hw ok0_ rfl (by decide)) k_715 k_717 ks_15 ⟨_, x_cd hK k_718⟩ q_Run_pop rfl rfl d_Run_call_1) (fun r1 L9 I2 k9 n9 H locs h hw hb9 => ?_) (fun _ _ _ _ _ _ _ h9 => h9.elim)
  obtain ⟨e1, e3, e4, h⟩ := h
  rw [e1] at hw
  rw [e3, e4]
  refine lv_istore_n (lv' := [(2, .int r1), (0, .ref (x_ad Y 20 d)), (1, .int p1)]) hx hb d_Run_call_4 rfl hl (by decide) rfl (fun ls hl => ?_)
  refine lv_aload_n hx hb d_Run_call_5 rfl (lv_at hl 1 rfl) ?_
  refine x_goI (ls := ls) (rest := []) hE hw (c_Run_pop hY ok0_ h) (x_cd hK k_718) q_Run_pop (by omega) (by omega) hl.1 (Nat.le_of_ble_eq_true rfl) hbd d_Run_call_6 (x_toV (As := []) (b := (x_ad Y 20 d)) hx hb hown hK (x_recv hK hw ok0_ rfl (by decide)) k_715 k_717 ks_15 ⟨_, x_cd hK k_718⟩ q_Run_pop rfl rfl d_Run_call_6) (fun r3 L9 I4 k9 n9 H locs h hw hb9 => ?_) (fun _ _ _ _ _ _ _ h9 => h9.elim)
  obtain ⟨e1, e3, e4, h⟩ := h
  rw [e1] at hw
  rw [e3, e4]
  refine lv_istore_n (lv' := [(3, .int r3), (2, .int r1), (0, .ref (x_ad Y 20 d)), (1, .int p1)]) hx hb d_Run_call_9 rfl hl (by decide) rfl (fun ls hl => ?_)
  refine lv_aload_n hx hb d_Run_call_10 rfl (lv_at hl 2 rfl) ?_
  refine x_goI (ls := ls) (rest := []) hE hw (c_Run_pop hY ok0_ h) (x_cd hK k_718) q_Run_pop (by omega) (by omega) hl.1 (Nat.le_of_ble_eq_true rfl) hbd d_Run_call_11 (x_toV (As := []) (b := (x_ad Y 20 d)) hx hb hown hK (x_recv hK hw ok0_ rfl (by decide)) k_715 k_717 ks_15 ⟨_, x_cd hK k_718⟩ q_Run_pop rfl rfl d_Run_call_11) (fun r5 L9 I6 k9 n9 H locs h hw hb9 => ?_) (fun _ _ _ _ _ _ _ h9 => h9.elim)
  obtain ⟨e1, e3, e4, h⟩ := h
  rw [e1] at hw
  rw [e3, e4]
  refine lv_istore (lv' := [(4, .int r5), (3, .int r3), (2, .int r1), (0, .ref (x_ad Y 20 d)), (1, .int p1)]) hx hb d_Run_call_14 hl (by decide) rfl (fun ls hl => ?_)
  refine lv_aload_n hx hb d_Run_call_16 rfl (lv_at hl 3 rfl) ?_
  refine lv_dup hx hb d_Run_call_17 rfl ?_
  refine x_getI (t := 20) (i := d) (j := 9) hx hb hK hw hown ok0_ rfl (by decide) (by decide) (x_wd hK k_183 rfl) (fun _ h => h) fk_5_9 d_Run_call_18 ?_
  refine lv_iload_n hx hb d_Run_call_21 rfl (lv_at hl 4 rfl) ?_
  refine lv_isub hx hb d_Run_call_22 ?_
  refine x_putI (t := 20) (i := d) (j := 9) hx hb hK hw hown ok0_ rfl (by decide) (by decide) (x_wd hK k_183 rfl) (fun _ h => h) rfl rfl d_Run_call_23 (fun I7 H locs e_I7 hw => ?_)
  replace h := h I7 e_I7
  refine lv_aload_n hx hb d_Run_call_26 rfl (lv_at hl 3 rfl) ?_
  refine x_getR (t := 20) (i := d) (j := 0) hx hb hK hw hown ok0_ rfl (by decide) (by decide) (x_wd hK k_173 rfl) (fun _ h => h) fk_5_0 (hY.r ok0_ rfl) d_Run_call_27 ?_
  have ok8 := hY.ok 0 ok0_ (t' := 1) (i' := 0) rfl
  refine lv_iload_n hx hb d_Run_call_30 rfl (lv_at hl 2 rfl) ?_
  refine x_goI (ls := ls) (rest := []) hE hw (c_Book_has hY ok8 h) (x_cd hK k_538) q_Book_has (by omega) (by omega) hl.1 (Nat.le_of_ble_eq_true rfl) hbd d_Run_call_31 (x_toV (As := [.int r1]) (b := (x_ad Y 1 0)) hx hb hown hK (x_recv hK hw ok8 rfl (by decide)) k_757 k_536 k_537 ⟨_, x_cd hK k_538⟩ q_Book_has rfl rfl d_Run_call_31) (fun r9 L9 I9 k9 n9 H locs h hw hb9 => ?_) (fun _ _ _ _ _ _ _ h9 => h9.elim)
  obtain ⟨e1, e2, e3, e4, h⟩ := h
  rw [e1, e2] at hw
  rw [e3, e4]
  refine lv_if_eq (tgt := 72) hx hb d_Run_call_34 (by decide) (fun c10 => ?_) (fun c10 => ?_)
  · replace h := h.1 c10
    refine lv_aload_n hx hb d_Run_call_72 rfl (lv_at hl 3 rfl) ?_
    refine lv_iconst (v := 0) hx hb d_Run_call_73 (by decide) ?_
    refine x_goV (ls := ls) (rest := []) hE hw (c_Run_push hY ok0_ h) (x_cd hK k_710) q_Run_push (by omega) (by omega) hl.1 (Nat.le_of_ble_eq_true rfl) hbd d_Run_call_74 (x_toV (As := [.int (0 : Int32)]) (b := (x_ad Y 20 d)) hx hb hown hK (x_recv hK hw ok0_ rfl (by decide)) k_707 k_709 ks_13 ⟨_, x_cd hK k_710⟩ q_Run_push rfl rfl d_Run_call_74) (fun L9 I11 k9 n9 H locs h hw hb9 => ?_) (fun _ _ _ _ _ _ _ h9 => h9.elim)
    obtain ⟨e1, e3, e4, h⟩ := h
    rw [e1] at hw
    rw [e3, e4]
    refine lv_aload_n hx hb d_Run_call_77 rfl (lv_at hl 3 rfl) ?_
    refine lv_iconst (v := 0) hx hb d_Run_call_78 (by decide) ?_
    refine x_goV (ls := ls) (rest := []) hE hw (c_Run_push hY ok0_ h) (x_cd hK k_710) q_Run_push (by omega) (by omega) hl.1 (Nat.le_of_ble_eq_true rfl) hbd d_Run_call_79 (x_toV (As := [.int (0 : Int32)]) (b := (x_ad Y 20 d)) hx hb hown hK (x_recv hK hw ok0_ rfl (by decide)) k_707 k_709 ks_13 ⟨_, x_cd hK k_710⟩ q_Run_push rfl rfl d_Run_call_79) (fun L9 I12 k9 n9 H locs h hw hb9 => ?_) (fun _ _ _ _ _ _ _ h9 => h9.elim)
    obtain ⟨e1, e3, e4, h⟩ := h
    rw [e1] at hw
    rw [e3, e4]
    exact x_vret hx hb hr hlk hw ⟨rfl, Or.inl ⟨rfl, h⟩⟩ hbd d_Run_call_82
  · replace h := h.2 c10
    refine lv_iload_n hx hb d_Run_call_37 rfl (lv_at hl 1 rfl) ?_
    refine lv_if_lt (tgt := 72) hx hb d_Run_call_38 (by decide) (fun c13 => ?_) (fun c13 => ?_)
    · replace h := h.1 c13
      refine lv_aload_n hx hb d_Run_call_72 rfl (lv_at hl 3 rfl) ?_
      refine lv_iconst (v := 0) hx hb d_Run_call_73 (by decide) ?_
      refine x_goV (ls := ls) (rest := []) hE hw (c_Run_push hY ok0_ h) (x_cd hK k_710) q_Run_push (by omega) (by omega) hl.1 (Nat.le_of_ble_eq_true rfl) hbd d_Run_call_74 (x_toV (As := [.int (0 : Int32)]) (b := (x_ad Y 20 d)) hx hb hown hK (x_recv hK hw ok0_ rfl (by decide)) k_707 k_709 ks_13 ⟨_, x_cd hK k_710⟩ q_Run_push rfl rfl d_Run_call_74) (fun L9 I14 k9 n9 H locs h hw hb9 => ?_) (fun _ _ _ _ _ _ _ h9 => h9.elim)
      obtain ⟨e1, e3, e4, h⟩ := h
      rw [e1] at hw
      rw [e3, e4]
      refine lv_aload_n hx hb d_Run_call_77 rfl (lv_at hl 3 rfl) ?_
      refine lv_iconst (v := 0) hx hb d_Run_call_78 (by decide) ?_
      refine x_goV (ls := ls) (rest := []) hE hw (c_Run_push hY ok0_ h) (x_cd hK k_710) q_Run_push (by omega) (by omega) hl.1 (Nat.le_of_ble_eq_true rfl) hbd d_Run_call_79 (x_toV (As := [.int (0 : Int32)]) (b := (x_ad Y 20 d)) hx hb hown hK (x_recv hK hw ok0_ rfl (by decide)) k_707 k_709 ks_13 ⟨_, x_cd hK k_710⟩ q_Run_push rfl rfl d_Run_call_79) (fun L9 I15 k9 n9 H locs h hw hb9 => ?_) (fun _ _ _ _ _ _ _ h9 => h9.elim)
      obtain ⟨e1, e3, e4, h⟩ := h
      rw [e1] at hw
      rw [e3, e4]
      exact x_vret hx hb hr hlk hw ⟨rfl, Or.inl ⟨rfl, h⟩⟩ hbd d_Run_call_82
    · replace h := h.2 c13
      refine lv_iload_n hx hb d_Run_call_41 rfl (lv_at hl 1 rfl) ?_
      refine lv_aload_n hx hb d_Run_call_42 rfl (lv_at hl 3 rfl) ?_
      refine x_getR (t := 20) (i := d) (j := 0) hx hb hK hw hown ok0_ rfl (by decide) (by decide) (x_wd hK k_173 rfl) (fun _ h => h) fk_5_0 (hY.r ok0_ rfl) d_Run_call_43 ?_
      refine lv_aload_n hx hb d_Run_call_46 rfl (lv_at hl 3 rfl) ?_
      refine x_getI (t := 20) (i := d) (j := 4) hx hb hK hw hown ok0_ rfl (by decide) (by decide) (x_wd hK k_177 rfl) (fun _ h => h) fk_5_4 d_Run_call_47 ?_
      refine x_goI (ls := ls) (rest := [.int r3]) hE hw (c_Book_balance hY hLs ok8 h) (x_cd hK k_747) q_Book_balance (by omega) (by omega) hl.1 (Nat.le_of_ble_eq_true rfl) hbd d_Run_call_50 (x_toV (As := [.int (I7 20 d 4)]) (b := (x_ad Y 1 0)) hx hb hown hK (x_recv hK hw ok8 rfl (by decide)) k_744 k_745 k_746 ⟨_, x_cd hK k_747⟩ q_Book_balance rfl rfl d_Run_call_50) (fun r16 L9 I9 k9 n9 H locs h hw hb9 => ?_) (fun _ _ _ _ _ _ _ h9 => h9.elim)
      obtain ⟨e1, e2, e3, e4, h⟩ := h
      rw [e1, e2] at hw
      rw [e3, e4]
      refine lv_icmp_gt (tgt := 72) hx hb d_Run_call_53 (by decide) (fun c17 => ?_) (fun c17 => ?_)
      · replace h := h.1 c17
        refine lv_aload_n hx hb d_Run_call_72 rfl (lv_at hl 3 rfl) ?_
        refine lv_iconst (v := 0) hx hb d_Run_call_73 (by decide) ?_
        refine x_goV (ls := ls) (rest := []) hE hw (c_Run_push hY ok0_ h) (x_cd hK k_710) q_Run_push (by omega) (by omega) hl.1 (Nat.le_of_ble_eq_true rfl) hbd d_Run_call_74 (x_toV (As := [.int (0 : Int32)]) (b := (x_ad Y 20 d)) hx hb hown hK (x_recv hK hw ok0_ rfl (by decide)) k_707 k_709 ks_13 ⟨_, x_cd hK k_710⟩ q_Run_push rfl rfl d_Run_call_74) (fun L9 I18 k9 n9 H locs h hw hb9 => ?_) (fun _ _ _ _ _ _ _ h9 => h9.elim)
        obtain ⟨e1, e3, e4, h⟩ := h
        rw [e1] at hw
        rw [e3, e4]
        refine lv_aload_n hx hb d_Run_call_77 rfl (lv_at hl 3 rfl) ?_
        refine lv_iconst (v := 0) hx hb d_Run_call_78 (by decide) ?_
        refine x_goV (ls := ls) (rest := []) hE hw (c_Run_push hY ok0_ h) (x_cd hK k_710) q_Run_push (by omega) (by omega) hl.1 (Nat.le_of_ble_eq_true rfl) hbd d_Run_call_79 (x_toV (As := [.int (0 : Int32)]) (b := (x_ad Y 20 d)) hx hb hown hK (x_recv hK hw ok0_ rfl (by decide)) k_707 k_709 ks_13 ⟨_, x_cd hK k_710⟩ q_Run_push rfl rfl d_Run_call_79) (fun L9 I19 k9 n9 H locs h hw hb9 => ?_) (fun _ _ _ _ _ _ _ h9 => h9.elim)
        obtain ⟨e1, e3, e4, h⟩ := h
        rw [e1] at hw
        rw [e3, e4]
        exact x_vret hx hb hr hlk hw ⟨rfl, Or.inl ⟨rfl, h⟩⟩ hbd d_Run_call_82
      · replace h := h.2 c17
        refine lv_iload hx hb d_Run_call_56 (lv_at hl 0 rfl) ?_
        refine lv_if_lt (tgt := 72) hx hb d_Run_call_58 (by decide) (fun c20 => ?_) (fun c20 => ?_)
        · replace h := h.1 c20
          refine lv_aload_n hx hb d_Run_call_72 rfl (lv_at hl 3 rfl) ?_
          refine lv_iconst (v := 0) hx hb d_Run_call_73 (by decide) ?_
          refine x_goV (ls := ls) (rest := []) hE hw (c_Run_push hY ok0_ h) (x_cd hK k_710) q_Run_push (by omega) (by omega) hl.1 (Nat.le_of_ble_eq_true rfl) hbd d_Run_call_74 (x_toV (As := [.int (0 : Int32)]) (b := (x_ad Y 20 d)) hx hb hown hK (x_recv hK hw ok0_ rfl (by decide)) k_707 k_709 ks_13 ⟨_, x_cd hK k_710⟩ q_Run_push rfl rfl d_Run_call_74) (fun L9 I21 k9 n9 H locs h hw hb9 => ?_) (fun _ _ _ _ _ _ _ h9 => h9.elim)
          obtain ⟨e1, e3, e4, h⟩ := h
          rw [e1] at hw
          rw [e3, e4]
          refine lv_aload_n hx hb d_Run_call_77 rfl (lv_at hl 3 rfl) ?_
          refine lv_iconst (v := 0) hx hb d_Run_call_78 (by decide) ?_
          refine x_goV (ls := ls) (rest := []) hE hw (c_Run_push hY ok0_ h) (x_cd hK k_710) q_Run_push (by omega) (by omega) hl.1 (Nat.le_of_ble_eq_true rfl) hbd d_Run_call_79 (x_toV (As := [.int (0 : Int32)]) (b := (x_ad Y 20 d)) hx hb hown hK (x_recv hK hw ok0_ rfl (by decide)) k_707 k_709 ks_13 ⟨_, x_cd hK k_710⟩ q_Run_push rfl rfl d_Run_call_79) (fun L9 I22 k9 n9 H locs h hw hb9 => ?_) (fun _ _ _ _ _ _ _ h9 => h9.elim)
          obtain ⟨e1, e3, e4, h⟩ := h
          rw [e1] at hw
          rw [e3, e4]
          exact x_vret hx hb hr hlk hw ⟨rfl, Or.inl ⟨rfl, h⟩⟩ hbd d_Run_call_82
        · replace h := h.2 c20
          refine lv_aload_n hx hb d_Run_call_61 rfl (lv_at hl 3 rfl) ?_
          refine x_getI (t := 20) (i := d) (j := 3) hx hb hK hw hown ok0_ rfl (by decide) (by decide) (x_wd hK k_176 rfl) (fun _ h => h) fk_5_3 d_Run_call_62 ?_
          refine lv_iconst (v := 1) hx hb d_Run_call_65 (by decide) ?_
          refine lv_iadd hx hb d_Run_call_66 ?_
          refine lv_bipush (v := 8) hx hb d_Run_call_67 (by decide) ?_
          refine lv_icmp_ne (tgt := 83) hx hb d_Run_call_69 (by decide) (fun c23 => ?_) (fun c23 => ?_)
          · replace h := h.1 c23
            refine lv_iload hx hb d_Run_call_83 (lv_at hl 0 rfl) ?_
            refine lv_aload_n hx hb d_Run_call_85 rfl (lv_at hl 3 rfl) ?_
            refine x_getI (t := 20) (i := d) (j := 11) hx hb hK hw hown ok0_ rfl (by decide) (by decide) (x_wd hK k_185 rfl) (fun _ h => h) fk_5_11 d_Run_call_86 ?_
            refine lv_aload_n hx hb d_Run_call_89 rfl (lv_at hl 3 rfl) ?_
            refine x_getI (t := 20) (i := d) (j := 11) hx hb hK hw hown ok0_ rfl (by decide) (by decide) (x_wd hK k_185 rfl) (fun _ h => h) fk_5_11 d_Run_call_90 ?_
            refine lv_bipush (v := 8) hx hb d_Run_call_93 (by decide) ?_
            refine lv_idiv hx hb d_Run_call_95 (by decide) ?_
            refine lv_isub hx hb d_Run_call_96 ?_
            refine x_goI (ls := ls) (rest := []) hE hw (c_Math_min hY h) (x_cd hK k_493) q_Math_min (by omega) (by omega) hl.1 (Nat.le_of_ble_eq_true rfl) hbd d_Run_call_97 (x_toS (As := [.int r5, .int (((I7 20 d 11) - ((I7 20 d 11) / (8 : Int32))))]) hx hb hown hK k_758 k_492 k_19 ⟨_, x_cd hK k_493⟩ q_Math_min rfl rfl d_Run_call_97) (fun r24 L9 I9 k9 n9 H locs h hw hb9 => ?_) (fun _ _ _ _ _ _ _ h9 => h9.elim)
            obtain ⟨e1, e2, e3, e4, h⟩ := h
            rw [e1, e2] at hw
            rw [e3, e4]
            refine lv_istore (lv' := [(5, .int r24), (4, .int r5), (3, .int r3), (2, .int r1), (0, .ref (x_ad Y 20 d)), (1, .int p1)]) hx hb d_Run_call_100 hl (by decide) rfl (fun ls hl => ?_)
            refine lv_aload_n hx hb d_Run_call_102 rfl (lv_at hl 4 rfl) ?_
            refine lv_dup hx hb d_Run_call_103 rfl ?_
            refine x_getI (t := 20) (i := d) (j := 11) hx hb hK hw hown ok0_ rfl (by decide) (by decide) (x_wd hK k_185 rfl) (fun _ h => h) fk_5_11 d_Run_call_104 ?_
            refine lv_iload hx hb d_Run_call_107 (lv_at hl 0 rfl) ?_
            refine lv_isub hx hb d_Run_call_109 ?_
            refine x_putI (t := 20) (i := d) (j := 11) hx hb hK hw hown ok0_ rfl (by decide) (by decide) (x_wd hK k_185 rfl) (fun _ h => h) rfl rfl d_Run_call_110 (fun I25 H locs e_I25 hw => ?_)
            replace h := h I25 e_I25
            refine lv_aload_n hx hb d_Run_call_113 rfl (lv_at hl 4 rfl) ?_
            refine x_getR (t := 20) (i := d) (j := 2) hx hb hK hw hown ok0_ rfl (by decide) (by decide) (x_wd hK k_175 rfl) (fun _ h => h) fk_5_2 (hY.r ok0_ rfl) d_Run_call_114 ?_
            have ok26 := hY.ok 2 ok0_ (t' := 15) (i' := 0) rfl
            refine lv_aload_n hx hb d_Run_call_117 rfl (lv_at hl 4 rfl) ?_
            refine x_getI (t := 20) (i := d) (j := 3) hx hb hK hw hown ok0_ rfl (by decide) (by decide) (x_wd hK k_176 rfl) (fun _ h => h) fk_5_3 d_Run_call_118 ?_
            refine lv_iconst (v := 1) hx hb d_Run_call_121 (by decide) ?_
            refine lv_iadd hx hb d_Run_call_122 ?_
            obtain ⟨d27, e_d27⟩ : ∃ z : Nat, z = ((I25 20 d 3) + (1 : Int32)).toNatClampNeg := ⟨_, rfl⟩
            have l_d27 : d27 < 8 := by rw [e_d27]; exact Nat.not_le.mp fun z => h.1 (Or.inr z)
            refine x_aald (t := 15) (i := 0) (a := x_ad Y 20 d27) hx hb hK hw ok26 rfl (by decide) (by decide) (hY.n ok26 rfl) h.1 (by rw [← e_d27]; exact hY.r ok26 (if_pos l_d27)) d_Run_call_123 ?_
            have ok28 := hY.ok d27 ok26 (t' := 20) (i' := d27) (if_pos l_d27)
            replace h := h.2 d27 e_d27
            refine lv_astore (lv' := [(6, .ref (x_ad Y 20 d27)), (5, .int r24), (4, .int r5), (3, .int r3), (2, .int r1), (0, .ref (x_ad Y 20 d)), (1, .int p1)]) hx hb d_Run_call_124 hl (by decide) rfl (fun ls hl => ?_)
            refine lv_aload hx hb d_Run_call_126 (lv_at hl 0 rfl) ?_
            refine lv_iload_n hx hb d_Run_call_128 rfl (lv_at hl 4 rfl) ?_
            refine lv_aload_n hx hb d_Run_call_129 rfl (lv_at hl 5 rfl) ?_
            refine x_getI (t := 20) (i := d) (j := 4) hx hb hK hw hown ok0_ rfl (by decide) (by decide) (x_wd hK k_177 rfl) (fun _ h => h) fk_5_4 d_Run_call_130 ?_
            refine lv_iload_n hx hb d_Run_call_133 rfl (lv_at hl 3 rfl) ?_
            refine x_goV (ls := ls) (rest := []) hE hw (c_Run_begin hY ok28 h) (x_cd hK k_619) q_Run_begin (by omega) (by omega) hl.1 (Nat.le_of_ble_eq_true rfl) hbd d_Run_call_134 (x_toV (As := [.int r1, .int (I25 20 d 4), .int r3]) (b := (x_ad Y 20 d27)) hx hb hown hK (x_recv hK hw ok28 rfl (by decide)) k_759 k_617 k_618 ⟨_, x_cd hK k_619⟩ q_Run_begin rfl rfl d_Run_call_134) (fun L9 I29 k9 n9 H locs h hw hb9 => ?_) (fun _ _ _ _ _ _ _ h9 => h9.elim)
            obtain ⟨e1, e3, e4, h⟩ := h
            rw [e1] at hw
            rw [e3, e4]
            refine lv_iconst (v := 0) hx hb d_Run_call_137 (by decide) ?_
            refine lv_topi (fun x30 e_x30 => ?_)
            replace h := h x30 e_x30
            refine lv_istore (lv' := [(7, .int x30), (6, .ref (x_ad Y 20 d27)), (5, .int r24), (4, .int r5), (3, .int r3), (2, .int r1), (0, .ref (x_ad Y 20 d)), (1, .int p1)]) hx hb d_Run_call_138 hl (by decide) rfl (fun ls hl => ?_)
            obtain ⟨fu, h⟩ := h
            exact c_Run_call_140 hE hexn hY hLs hT18 hT19 hPL ok0_ ok28 fu p1 r24 x30 L I29 k n H locs ls h hw hbd (lv_sub hl [6, 7, 2, 1, 0] rfl)
          · replace h := h.2 c23
            refine lv_aload_n hx hb d_Run_call_72 rfl (lv_at hl 3 rfl) ?_
            refine lv_iconst (v := 0) hx hb d_Run_call_73 (by decide) ?_
            refine x_goV (ls := ls) (rest := []) hE hw (c_Run_push hY ok0_ h) (x_cd hK k_710) q_Run_push (by omega) (by omega) hl.1 (Nat.le_of_ble_eq_true rfl) hbd d_Run_call_74 (x_toV (As := [.int (0 : Int32)]) (b := (x_ad Y 20 d)) hx hb hown hK (x_recv hK hw ok0_ rfl (by decide)) k_707 k_709 ks_13 ⟨_, x_cd hK k_710⟩ q_Run_push rfl rfl d_Run_call_74) (fun L9 I45 k9 n9 H locs h hw hb9 => ?_) (fun _ _ _ _ _ _ _ h9 => h9.elim)
            obtain ⟨e1, e3, e4, h⟩ := h
            rw [e1] at hw
            rw [e3, e4]
            refine lv_aload_n hx hb d_Run_call_77 rfl (lv_at hl 3 rfl) ?_
            refine lv_iconst (v := 0) hx hb d_Run_call_78 (by decide) ?_
            refine x_goV (ls := ls) (rest := []) hE hw (c_Run_push hY ok0_ h) (x_cd hK k_710) q_Run_push (by omega) (by omega) hl.1 (Nat.le_of_ble_eq_true rfl) hbd d_Run_call_79 (x_toV (As := [.int (0 : Int32)]) (b := (x_ad Y 20 d)) hx hb hown hK (x_recv hK hw ok0_ rfl (by decide)) k_707 k_709 ks_13 ⟨_, x_cd hK k_710⟩ q_Run_push rfl rfl d_Run_call_79) (fun L9 I46 k9 n9 H locs h hw hb9 => ?_) (fun _ _ _ _ _ _ _ h9 => h9.elim)
            obtain ⟨e1, e3, e4, h⟩ := h
            rw [e1] at hw
            rw [e3, e4]
            exact x_vret hx hb hr hlk hw ⟨rfl, Or.inl ⟨rfl, h⟩⟩ hbd d_Run_call_82
def w_Run_act (Q : x_L → x_I → Nat → Nat → Prop) (X : x_XT) (PL : (Int32 → x_L → x_I → Nat → Nat → Prop) → Nat → Nat → Int32 → x_L → x_I → Nat → Nat → Prop) (nA : Nat) (d : Nat) (i : Nat) (p2 : Int32) (L : x_L) (I : x_I) (k n : Nat) : Prop :=
  ∀ I1 : x_I, I1 = x_u I 20 d 10 ((I 20 d 10) + (1 : Int32)) →
  ∀ x2 : Int32, x2 = (nI i) →
  (x2 = 0 →
    w_Run_ends (fun I4 =>
      Q L I4 k n) d (0 : Int32) (0 : Int32) I1) ∧
  (x2 = 1 →
    w_Run_push (fun I6 =>
      Q L I6 k n) d p2 I1) ∧
  (x2 = 2 →
    ∀ I8 : x_I, I8 = x_u I1 20 d 9 ((I1 20 d 9) - (1 : Int32)) →
    Q L I8 k n) ∧
  (x2 = 3 →
    w_Run_peek (fun r10 =>
      w_Run_push (fun I11 =>
        Q L I11 k n) d r10 I1) d p2 I1) ∧
  (x2 = 4 →
    w_Run_swap (fun I13 =>
      Q L I13 k n) d p2 I1) ∧
  (x2 = 12 →
    w_Run_pop (fun r15 I16 =>
      ((¬ r15 = 0 →
        w_Run_push (fun I18 =>
          Q L I18 k n) d (0 : Int32) I16) ∧
      (r15 = 0 →
        w_Run_push (fun I19 =>
          Q L I19 k n) d (1 : Int32) I16))) d I1) ∧
  (x2 = 16 →
    ∀ I21 : x_I, I21 = x_u I1 20 d 10 p2 →
    Q L I21 k n) ∧
  (x2 = 17 →
    w_Run_pop (fun r23 I24 =>
      ((r23 = 0 →
        ∀ I26 : x_I, I26 = x_u I24 20 d 10 (I24 20 d 10) →
        Q L I26 k n) ∧
      (¬ r23 = 0 →
        ∀ I27 : x_I, I27 = x_u I24 20 d 10 p2 →
        Q L I27 k n))) d I1) ∧
  (x2 = 18 →
    w_Run_pop (fun r30 I31 =>
      w_Book_stored (fun r32 =>
        w_Run_push (fun I33 =>
          Q L I33 k n) d r32 I31) (I1 20 d 4) r30 L I31) d I1) ∧
  (x2 = 19 →
    w_Run_store (fun L35 I36 k37 n37 =>
      Q L35 I36 k37 n37) X d L I1 k n) ∧
  (x2 = 20 →
    w_Run_pop (fun r39 I40 =>
      ((r39 < 0 →
        w_Run_push (fun I42 =>
          Q L I42 k n) d (0 : Int32) I40) ∧
      (¬ r39 < 0 →
        (((nI 8) ≤ r39 →
          w_Run_push (fun I45 =>
            Q L I45 k n) d (0 : Int32) I40) ∧
        (¬ (nI 8) ≤ r39 →
          vp_in r39 8 ∧
          w_Run_push (fun I46 =>
            Q L I46 k n) d (I40 21 d r39.toNatClampNeg) I40))))) d I1) ∧
  (x2 = 21 →
    w_Run_push (fun I48 =>
      Q L I48 k n) d (I1 20 d 5) I1) ∧
  (x2 = 22 →
    w_Run_push (fun I50 =>
      Q L I50 k n) d (I1 20 d 6) I1) ∧
  (x2 = 23 →
    w_Run_push (fun I52 =>
      Q L I52 k n) d (I1 20 d 4) I1) ∧
  (x2 = 24 →
    w_Run_pop (fun r55 I56 =>
      w_Book_balance (fun r57 =>
        w_Run_push (fun I58 =>
          Q L I58 k n) d r57 I56) nA r55 I56) d I1) ∧
  (x2 = 25 →
    w_Run_pop (fun r61 I62 =>
      w_Book_write (fun I63 =>
        Q L I63 k n) r61 I62) d I1) ∧
  (x2 = 26 →
    w_Run_pop (fun r65 I66 =>
      w_Run_ends (fun I67 =>
        Q L I67 k n) d (0 : Int32) r65 I66) d I1) ∧
  (x2 = 27 →
    w_Run_call (fun L69 I70 k71 n71 =>
      Q L69 I70 k71 n71) PL nA d p2 L I1 k n) ∧
  (x2 = 28 →
    w_Run_push (fun I73 =>
      Q L I73 k n) d (I1 20 d 11) I1) ∧
  (x2 = 29 →
    w_Run_pop (fun r75 I76 =>
      w_Run_ends (fun I77 =>
        Q L I77 k n) d (1 : Int32) r75 I76) d I1) ∧
  (¬ x2 = 0 → ¬ x2 = 1 → ¬ x2 = 2 → ¬ x2 = 3 → ¬ x2 = 4 → ¬ x2 = 12 → ¬ x2 = 16 → ¬ x2 = 17 → ¬ x2 = 18 → ¬ x2 = 19 → ¬ x2 = 20 → ¬ x2 = 21 → ¬ x2 = 22 → ¬ x2 = 23 → ¬ x2 = 24 → ¬ x2 = 25 → ¬ x2 = 26 → ¬ x2 = 27 → ¬ x2 = 28 → ¬ x2 = 29 → 
    w_Run_pop (fun r78 I79 =>
      w_Run_pop (fun r80 I81 =>
        w_Ins_of (fun r82 =>
          w_Run_push (fun I83 =>
            Q L I83 k n) d r82 I81) i r80 r78) d I79) d I1)
set_option maxRecDepth 100000 in
set_option maxHeartbeats 4000000 in
theorem c_Run_act {l : Launch} {g : x_G} {Y : x_Y} (hY : x_Y0 g Y) {nA : Nat} (hLs : x_Ls Y nA) (hT18 : ¬ x_ok Y 18 0) (hT19 : ¬ x_ok Y 19 0) {Fp : Nat} {PL : (Int32 → x_L → x_I → Nat → Nat → Prop) → Nat → Nat → Int32 → x_L → x_I → Nat → Nat → Prop} (hPL : ∀ {Q' : Int32 → x_L → x_I → Nat → Nat → Prop} {d' : Nat} {q1 : Int32} {L' : x_L} {I' : x_I} {k' n' : Nat}, x_ok Y 20 d' → PL Q' nA d' q1 L' I' k' n' → x_C l y_Run_plays Fp g [.ref (x_ad Y 20 d'), .int q1] Y L' I' k' n' (x_pI Y Q' x_nx)) {d : Nat} {i : Nat} {p2 : Int32} (ok0_ : x_ok Y 20 d) (e_i : i < 30) {Q : x_L → x_I → Nat → Nat → Prop} {X : x_XT} {L : x_L} {I : x_I} {k n : Nat} (h : w_Run_act Q X PL nA d i p2 L I k n) : x_C l y_Run_act (Fp + 8) g [.ref (x_ad Y 20 d), .ref (g.2.2.2.2 i), .int p2] Y L I k n (x_pV Y (fun L' I' k' n' => Q L' I' k' n') X) := by
  refine x_mth k_705 ?_
  intro p e R s m below meth c hE hnm hexn hw hk1 hn1
  obtain ⟨hx, hb, hml, hr, hlk, hown, hK, htr, hF, hLo, hRc, hRs⟩ := id hE
  have hbd : x_bd k n k n := ⟨Nat.le_refl _, hk1, Nat.le_refl _, hn1⟩
  have hl := lv_entry ([.ref (x_ad Y 20 d), .ref (g.2.2.2.2 i), .int p2]) (n := 4) (Nat.le_of_ble_eq_true rfl)
  generalize (lg_sl [.ref (x_ad Y 20 d), .ref (g.2.2.2.2 i), .int p2] ++ List.replicate (4 - (lg_sl [.ref (x_ad Y 20 d), .ref (g.2.2.2.2 i), .int p2]).length) Slot.unset).toArray = ls at hl ⊢
  have hl : lv_has ls 4 [(0, .ref (x_ad Y 20 d)), (1, .ref (g.2.2.2.2 i)), (2, .int p2)] := hl
  generalize s.heap = H at hw ⊢
  generalize ([] : List Loc) = locs at hw ⊢
  unfold w_Run_act at h
  refine lv_aload_n hx hb d_Run_act_0 rfl (lv_at hl 0 rfl) ?_
  refine lv_dup hx hb d_Run_act_1 rfl ?_
  refine x_getI (t := 20) (i := d) (j := 10) hx hb hK hw hown ok0_ rfl (by decide) (by decide) (x_wd hK k_184 rfl) (fun _ h => h) fk_5_10 d_Run_act_2 ?_
  refine lv_iconst (v := 1) hx hb d_Run_act_5 (by decide) ?_
  refine lv_iadd hx hb d_Run_act_6 ?_
  refine x_putI (t := 20) (i := d) (j := 10) hx hb hK hw hown ok0_ rfl (by decide) (by decide) (x_wd hK k_184 rfl) (fun _ h => h) rfl rfl d_Run_act_7 (fun I1 H locs e_I1 hw => ?_)
  replace h := h I1 e_I1
  refine lv_aload_n hx hb d_Run_act_10 rfl (lv_at hl 1 rfl) ?_
  refine x_ord (i := i) (rest := []) hE hw e_i k_706 (by omega) hl.1 (Nat.le_of_ble_eq_true rfl) hbd d_Run_act_11 (fun H locs hw => ?_)
  refine lv_topi (fun x2 e_x2 => ?_)
  replace h := h x2 e_x2
  by_cases c3 : x2 = 0
  · replace h := h.1 c3
    refine lv_tableIn (off := 134) (tgt := 148) hx hb d_Run_act_14 (by rw [c3]; decide) (by rw [c3]; decide) (by rw [c3]; rfl) (by decide) ?_
    refine lv_aload_n hx hb d_Run_act_148 rfl (lv_at hl 0 rfl) ?_
    refine lv_iconst (v := 0) hx hb d_Run_act_149 (by decide) ?_
    refine lv_iconst (v := 0) hx hb d_Run_act_150 (by decide) ?_
    refine x_goV (ls := ls) (rest := []) hE hw (c_Run_ends hY ok0_ h) (x_cd hK k_655) q_Run_ends (by omega) (by omega) hl.1 (Nat.le_of_ble_eq_true rfl) hbd d_Run_act_151 (x_toV (As := [.int (0 : Int32), .int (0 : Int32)]) (b := (x_ad Y 20 d)) hx hb hown hK (x_recv hK hw ok0_ rfl (by decide)) k_652 k_654 ks_6 ⟨_, x_cd hK k_655⟩ q_Run_ends rfl rfl d_Run_act_151) (fun L9 I4 k9 n9 H locs h hw hb9 => ?_) (fun _ _ _ _ _ _ _ h9 => h9.elim)
    obtain ⟨e1, e3, e4, h⟩ := h
    rw [e1] at hw
    rw [e3, e4]
    refine lv_goto (tgt := 437) hx hb d_Run_act_154 (by decide) ?_
    exact x_vret hx hb hr hlk hw ⟨rfl, Or.inl ⟨rfl, h⟩⟩ hbd d_Run_act_437
  · replace h := h.2
    by_cases c5 : x2 = 1
    · replace h := h.1 c5
      refine lv_tableIn (off := 143) (tgt := 157) hx hb d_Run_act_14 (by rw [c5]; decide) (by rw [c5]; decide) (by rw [c5]; rfl) (by decide) ?_
      refine lv_aload_n hx hb d_Run_act_157 rfl (lv_at hl 0 rfl) ?_
      refine lv_iload_n hx hb d_Run_act_158 rfl (lv_at hl 2 rfl) ?_
      refine x_goV (ls := ls) (rest := []) hE hw (c_Run_push hY ok0_ h) (x_cd hK k_710) q_Run_push (by omega) (by omega) hl.1 (Nat.le_of_ble_eq_true rfl) hbd d_Run_act_159 (x_toV (As := [.int p2]) (b := (x_ad Y 20 d)) hx hb hown hK (x_recv hK hw ok0_ rfl (by decide)) k_707 k_709 ks_13 ⟨_, x_cd hK k_710⟩ q_Run_push rfl rfl d_Run_act_159) (fun L9 I6 k9 n9 H locs h hw hb9 => ?_) (fun _ _ _ _ _ _ _ h9 => h9.elim)
      obtain ⟨e1, e3, e4, h⟩ := h
      rw [e1] at hw
      rw [e3, e4]
      refine lv_goto (tgt := 437) hx hb d_Run_act_162 (by decide) ?_
      exact x_vret hx hb hr hlk hw ⟨rfl, Or.inl ⟨rfl, h⟩⟩ hbd d_Run_act_437
    · replace h := h.2
      by_cases c7 : x2 = 2
      · replace h := h.1 c7
        refine lv_tableIn (off := 151) (tgt := 165) hx hb d_Run_act_14 (by rw [c7]; decide) (by rw [c7]; decide) (by rw [c7]; rfl) (by decide) ?_
        refine lv_aload_n hx hb d_Run_act_165 rfl (lv_at hl 0 rfl) ?_
        refine lv_dup hx hb d_Run_act_166 rfl ?_
        refine x_getI (t := 20) (i := d) (j := 9) hx hb hK hw hown ok0_ rfl (by decide) (by decide) (x_wd hK k_183 rfl) (fun _ h => h) fk_5_9 d_Run_act_167 ?_
        refine lv_iconst (v := 1) hx hb d_Run_act_170 (by decide) ?_
        refine lv_isub hx hb d_Run_act_171 ?_
        refine x_putI (t := 20) (i := d) (j := 9) hx hb hK hw hown ok0_ rfl (by decide) (by decide) (x_wd hK k_183 rfl) (fun _ h => h) rfl rfl d_Run_act_172 (fun I8 H locs e_I8 hw => ?_)
        replace h := h I8 e_I8
        refine lv_goto (tgt := 437) hx hb d_Run_act_175 (by decide) ?_
        exact x_vret hx hb hr hlk hw ⟨rfl, Or.inl ⟨rfl, h⟩⟩ hbd d_Run_act_437
      · replace h := h.2
        by_cases c9 : x2 = 3
        · replace h := h.1 c9
          refine lv_tableIn (off := 164) (tgt := 178) hx hb d_Run_act_14 (by rw [c9]; decide) (by rw [c9]; decide) (by rw [c9]; rfl) (by decide) ?_
          refine lv_aload_n hx hb d_Run_act_178 rfl (lv_at hl 0 rfl) ?_
          refine lv_aload_n hx hb d_Run_act_179 rfl (lv_at hl 0 rfl) ?_
          refine lv_iload_n hx hb d_Run_act_180 rfl (lv_at hl 2 rfl) ?_
          refine x_goI (ls := ls) (rest := [.ref (x_ad Y 20 d)]) hE hw (c_Run_peek hY ok0_ h) (x_cd hK k_669) q_Run_peek (by omega) (by omega) hl.1 (Nat.le_of_ble_eq_true rfl) hbd d_Run_act_181 (x_toV (As := [.int p2]) (b := (x_ad Y 20 d)) hx hb hown hK (x_recv hK hw ok0_ rfl (by decide)) k_666 k_668 ks_9 ⟨_, x_cd hK k_669⟩ q_Run_peek rfl rfl d_Run_act_181) (fun r10 L9 I9 k9 n9 H locs h hw hb9 => ?_) (fun _ _ _ _ _ _ _ h9 => h9.elim)
          obtain ⟨e1, e2, e3, e4, h⟩ := h
          rw [e1, e2] at hw
          rw [e3, e4]
          refine x_goV (ls := ls) (rest := []) hE hw (c_Run_push hY ok0_ h) (x_cd hK k_710) q_Run_push (by omega) (by omega) hl.1 (Nat.le_of_ble_eq_true rfl) hbd d_Run_act_184 (x_toV (As := [.int r10]) (b := (x_ad Y 20 d)) hx hb hown hK (x_recv hK hw ok0_ rfl (by decide)) k_707 k_709 ks_13 ⟨_, x_cd hK k_710⟩ q_Run_push rfl rfl d_Run_act_184) (fun L9 I11 k9 n9 H locs h hw hb9 => ?_) (fun _ _ _ _ _ _ _ h9 => h9.elim)
          obtain ⟨e1, e3, e4, h⟩ := h
          rw [e1] at hw
          rw [e3, e4]
          refine lv_goto (tgt := 437) hx hb d_Run_act_187 (by decide) ?_
          exact x_vret hx hb hr hlk hw ⟨rfl, Or.inl ⟨rfl, h⟩⟩ hbd d_Run_act_437
        · replace h := h.2
          by_cases c12 : x2 = 4
          · replace h := h.1 c12
            refine lv_tableIn (off := 176) (tgt := 190) hx hb d_Run_act_14 (by rw [c12]; decide) (by rw [c12]; decide) (by rw [c12]; rfl) (by decide) ?_
            refine lv_aload_n hx hb d_Run_act_190 rfl (lv_at hl 0 rfl) ?_
            refine lv_iload_n hx hb d_Run_act_191 rfl (lv_at hl 2 rfl) ?_
            refine x_goV (ls := ls) (rest := []) hE hw (c_Run_swap hY ok0_ h) (x_cd hK k_714) q_Run_swap (by omega) (by omega) hl.1 (Nat.le_of_ble_eq_true rfl) hbd d_Run_act_192 (x_toV (As := [.int p2]) (b := (x_ad Y 20 d)) hx hb hown hK (x_recv hK hw ok0_ rfl (by decide)) k_711 k_713 ks_14 ⟨_, x_cd hK k_714⟩ q_Run_swap rfl rfl d_Run_act_192) (fun L9 I13 k9 n9 H locs h hw hb9 => ?_) (fun _ _ _ _ _ _ _ h9 => h9.elim)
            obtain ⟨e1, e3, e4, h⟩ := h
            rw [e1] at hw
            rw [e3, e4]
            refine lv_goto (tgt := 437) hx hb d_Run_act_195 (by decide) ?_
            exact x_vret hx hb hr hlk hw ⟨rfl, Or.inl ⟨rfl, h⟩⟩ hbd d_Run_act_437
          · replace h := h.2
            by_cases c14 : x2 = 12
            · replace h := h.1 c14
              refine lv_tableIn (off := 184) (tgt := 198) hx hb d_Run_act_14 (by rw [c14]; decide) (by rw [c14]; decide) (by rw [c14]; rfl) (by decide) ?_
              refine lv_aload_n hx hb d_Run_act_198 rfl (lv_at hl 0 rfl) ?_
              refine lv_aload_n hx hb d_Run_act_199 rfl (lv_at hl 0 rfl) ?_
              refine x_goI (ls := ls) (rest := [.ref (x_ad Y 20 d)]) hE hw (c_Run_pop hY ok0_ h) (x_cd hK k_718) q_Run_pop (by omega) (by omega) hl.1 (Nat.le_of_ble_eq_true rfl) hbd d_Run_act_200 (x_toV (As := []) (b := (x_ad Y 20 d)) hx hb hown hK (x_recv hK hw ok0_ rfl (by decide)) k_715 k_717 ks_15 ⟨_, x_cd hK k_718⟩ q_Run_pop rfl rfl d_Run_act_200) (fun r15 L9 I16 k9 n9 H locs h hw hb9 => ?_) (fun _ _ _ _ _ _ _ h9 => h9.elim)
              obtain ⟨e1, e3, e4, h⟩ := h
              rw [e1] at hw
              rw [e3, e4]
              refine lv_if_ne (tgt := 210) hx hb d_Run_act_203 (by decide) (fun c17 => ?_) (fun c17 => ?_)
              · replace h := h.1 c17
                refine lv_iconst (v := 0) hx hb d_Run_act_210 (by decide) ?_
                refine x_goV (ls := ls) (rest := []) hE hw (c_Run_push hY ok0_ h) (x_cd hK k_710) q_Run_push (by omega) (by omega) hl.1 (Nat.le_of_ble_eq_true rfl) hbd d_Run_act_211 (x_toV (As := [.int (0 : Int32)]) (b := (x_ad Y 20 d)) hx hb hown hK (x_recv hK hw ok0_ rfl (by decide)) k_707 k_709 ks_13 ⟨_, x_cd hK k_710⟩ q_Run_push rfl rfl d_Run_act_211) (fun L9 I18 k9 n9 H locs h hw hb9 => ?_) (fun _ _ _ _ _ _ _ h9 => h9.elim)
                obtain ⟨e1, e3, e4, h⟩ := h
                rw [e1] at hw
                rw [e3, e4]
                refine lv_goto (tgt := 437) hx hb d_Run_act_214 (by decide) ?_
                exact x_vret hx hb hr hlk hw ⟨rfl, Or.inl ⟨rfl, h⟩⟩ hbd d_Run_act_437
              · replace h := h.2 c17
                refine lv_iconst (v := 1) hx hb d_Run_act_206 (by decide) ?_
                refine lv_goto (tgt := 211) hx hb d_Run_act_207 (by decide) ?_
                refine x_goV (ls := ls) (rest := []) hE hw (c_Run_push hY ok0_ h) (x_cd hK k_710) q_Run_push (by omega) (by omega) hl.1 (Nat.le_of_ble_eq_true rfl) hbd d_Run_act_211 (x_toV (As := [.int (1 : Int32)]) (b := (x_ad Y 20 d)) hx hb hown hK (x_recv hK hw ok0_ rfl (by decide)) k_707 k_709 ks_13 ⟨_, x_cd hK k_710⟩ q_Run_push rfl rfl d_Run_act_211) (fun L9 I19 k9 n9 H locs h hw hb9 => ?_) (fun _ _ _ _ _ _ _ h9 => h9.elim)
                obtain ⟨e1, e3, e4, h⟩ := h
                rw [e1] at hw
                rw [e3, e4]
                refine lv_goto (tgt := 437) hx hb d_Run_act_214 (by decide) ?_
                exact x_vret hx hb hr hlk hw ⟨rfl, Or.inl ⟨rfl, h⟩⟩ hbd d_Run_act_437
            · replace h := h.2
              by_cases c20 : x2 = 16
              · replace h := h.1 c20
                refine lv_tableIn (off := 203) (tgt := 217) hx hb d_Run_act_14 (by rw [c20]; decide) (by rw [c20]; decide) (by rw [c20]; rfl) (by decide) ?_
                refine lv_aload_n hx hb d_Run_act_217 rfl (lv_at hl 0 rfl) ?_
                refine lv_iload_n hx hb d_Run_act_218 rfl (lv_at hl 2 rfl) ?_
                refine x_putI (t := 20) (i := d) (j := 10) hx hb hK hw hown ok0_ rfl (by decide) (by decide) (x_wd hK k_184 rfl) (fun _ h => h) rfl rfl d_Run_act_219 (fun I21 H locs e_I21 hw => ?_)
                replace h := h I21 e_I21
                refine lv_goto (tgt := 437) hx hb d_Run_act_222 (by decide) ?_
                exact x_vret hx hb hr hlk hw ⟨rfl, Or.inl ⟨rfl, h⟩⟩ hbd d_Run_act_437
              · replace h := h.2
                by_cases c22 : x2 = 17
                · replace h := h.1 c22
                  refine lv_tableIn (off := 211) (tgt := 225) hx hb d_Run_act_14 (by rw [c22]; decide) (by rw [c22]; decide) (by rw [c22]; rfl) (by decide) ?_
                  refine lv_aload_n hx hb d_Run_act_225 rfl (lv_at hl 0 rfl) ?_
                  refine lv_aload_n hx hb d_Run_act_226 rfl (lv_at hl 0 rfl) ?_
                  refine x_goI (ls := ls) (rest := [.ref (x_ad Y 20 d)]) hE hw (c_Run_pop hY ok0_ h) (x_cd hK k_718) q_Run_pop (by omega) (by omega) hl.1 (Nat.le_of_ble_eq_true rfl) hbd d_Run_act_227 (x_toV (As := []) (b := (x_ad Y 20 d)) hx hb hown hK (x_recv hK hw ok0_ rfl (by decide)) k_715 k_717 ks_15 ⟨_, x_cd hK k_718⟩ q_Run_pop rfl rfl d_Run_act_227) (fun r23 L9 I24 k9 n9 H locs h hw hb9 => ?_) (fun _ _ _ _ _ _ _ h9 => h9.elim)
                  obtain ⟨e1, e3, e4, h⟩ := h
                  rw [e1] at hw
                  rw [e3, e4]
                  refine lv_if_eq (tgt := 237) hx hb d_Run_act_230 (by decide) (fun c25 => ?_) (fun c25 => ?_)
                  · replace h := h.1 c25
                    refine lv_aload_n hx hb d_Run_act_237 rfl (lv_at hl 0 rfl) ?_
                    refine x_getI (t := 20) (i := d) (j := 10) hx hb hK hw hown ok0_ rfl (by decide) (by decide) (x_wd hK k_184 rfl) (fun _ h => h) fk_5_10 d_Run_act_238 ?_
                    refine x_putI (t := 20) (i := d) (j := 10) hx hb hK hw hown ok0_ rfl (by decide) (by decide) (x_wd hK k_184 rfl) (fun _ h => h) rfl rfl d_Run_act_241 (fun I26 H locs e_I26 hw => ?_)
                    replace h := h I26 e_I26
                    refine lv_goto (tgt := 437) hx hb d_Run_act_244 (by decide) ?_
                    exact x_vret hx hb hr hlk hw ⟨rfl, Or.inl ⟨rfl, h⟩⟩ hbd d_Run_act_437
                  · replace h := h.2 c25
                    refine lv_iload_n hx hb d_Run_act_233 rfl (lv_at hl 2 rfl) ?_
                    refine lv_goto (tgt := 241) hx hb d_Run_act_234 (by decide) ?_
                    refine x_putI (t := 20) (i := d) (j := 10) hx hb hK hw hown ok0_ rfl (by decide) (by decide) (x_wd hK k_184 rfl) (fun _ h => h) rfl rfl d_Run_act_241 (fun I27 H locs e_I27 hw => ?_)
                    replace h := h I27 e_I27
                    refine lv_goto (tgt := 437) hx hb d_Run_act_244 (by decide) ?_
                    exact x_vret hx hb hr hlk hw ⟨rfl, Or.inl ⟨rfl, h⟩⟩ hbd d_Run_act_437
                · replace h := h.2
                  by_cases c28 : x2 = 18
                  · replace h := h.1 c28
                    refine lv_tableIn (off := 233) (tgt := 247) hx hb d_Run_act_14 (by rw [c28]; decide) (by rw [c28]; decide) (by rw [c28]; rfl) (by decide) ?_
                    refine lv_aload_n hx hb d_Run_act_247 rfl (lv_at hl 0 rfl) ?_
                    refine lv_aload_n hx hb d_Run_act_248 rfl (lv_at hl 0 rfl) ?_
                    refine x_getR (t := 20) (i := d) (j := 0) hx hb hK hw hown ok0_ rfl (by decide) (by decide) (x_wd hK k_173 rfl) (fun _ h => h) fk_5_0 (hY.r ok0_ rfl) d_Run_act_249 ?_
                    have ok29 := hY.ok 0 ok0_ (t' := 1) (i' := 0) rfl
                    refine lv_aload_n hx hb d_Run_act_252 rfl (lv_at hl 0 rfl) ?_
                    refine x_getI (t := 20) (i := d) (j := 4) hx hb hK hw hown ok0_ rfl (by decide) (by decide) (x_wd hK k_177 rfl) (fun _ h => h) fk_5_4 d_Run_act_253 ?_
                    refine lv_aload_n hx hb d_Run_act_256 rfl (lv_at hl 0 rfl) ?_
                    refine x_goI (ls := ls) (rest := [.int (I1 20 d 4), .ref (x_ad Y 1 0), .ref (x_ad Y 20 d)]) hE hw (c_Run_pop hY ok0_ h) (x_cd hK k_718) q_Run_pop (by omega) (by omega) hl.1 (Nat.le_of_ble_eq_true rfl) hbd d_Run_act_257 (x_toV (As := []) (b := (x_ad Y 20 d)) hx hb hown hK (x_recv hK hw ok0_ rfl (by decide)) k_715 k_717 ks_15 ⟨_, x_cd hK k_718⟩ q_Run_pop rfl rfl d_Run_act_257) (fun r30 L9 I31 k9 n9 H locs h hw hb9 => ?_) (fun _ _ _ _ _ _ _ h9 => h9.elim)
                    obtain ⟨e1, e3, e4, h⟩ := h
                    rw [e1] at hw
                    rw [e3, e4]
                    refine x_goI (ls := ls) (rest := [.ref (x_ad Y 20 d)]) hE hw (c_Book_stored hY ok29 h) (x_cd hK k_675) q_Book_stored (by omega) (by omega) hl.1 (Nat.le_of_ble_eq_true rfl) hbd d_Run_act_260 (x_toV (As := [.int (I1 20 d 4), .int r30]) (b := (x_ad Y 1 0)) hx hb hown hK (x_recv hK hw ok29 rfl (by decide)) k_672 k_673 k_674 ⟨_, x_cd hK k_675⟩ q_Book_stored rfl rfl d_Run_act_260) (fun r32 L9 I9 k9 n9 H locs h hw hb9 => ?_) (fun _ _ _ _ _ _ _ h9 => h9.elim)
                    obtain ⟨e1, e2, e3, e4, h⟩ := h
                    rw [e1, e2] at hw
                    rw [e3, e4]
                    refine x_goV (ls := ls) (rest := []) hE hw (c_Run_push hY ok0_ h) (x_cd hK k_710) q_Run_push (by omega) (by omega) hl.1 (Nat.le_of_ble_eq_true rfl) hbd d_Run_act_263 (x_toV (As := [.int r32]) (b := (x_ad Y 20 d)) hx hb hown hK (x_recv hK hw ok0_ rfl (by decide)) k_707 k_709 ks_13 ⟨_, x_cd hK k_710⟩ q_Run_push rfl rfl d_Run_act_263) (fun L9 I33 k9 n9 H locs h hw hb9 => ?_) (fun _ _ _ _ _ _ _ h9 => h9.elim)
                    obtain ⟨e1, e3, e4, h⟩ := h
                    rw [e1] at hw
                    rw [e3, e4]
                    refine lv_goto (tgt := 437) hx hb d_Run_act_266 (by decide) ?_
                    exact x_vret hx hb hr hlk hw ⟨rfl, Or.inl ⟨rfl, h⟩⟩ hbd d_Run_act_437
                  · replace h := h.2
                    by_cases c34 : x2 = 19
                    · replace h := h.1 c34
                      refine lv_tableIn (off := 255) (tgt := 269) hx hb d_Run_act_14 (by rw [c34]; decide) (by rw [c34]; decide) (by rw [c34]; rfl) (by decide) ?_
                      refine lv_aload_n hx hb d_Run_act_269 rfl (lv_at hl 0 rfl) ?_
                      refine x_goV (ls := ls) (rest := []) hE hw (c_Run_store hY hT18 hT19 ok0_ h) (x_cd hK k_722) q_Run_store (by omega) (by omega) hl.1 (Nat.le_of_ble_eq_true rfl) hbd d_Run_act_270 (x_toV (As := []) (b := (x_ad Y 20 d)) hx hb hown hK (x_recv hK hw ok0_ rfl (by decide)) k_719 k_721 ks_16 ⟨_, x_cd hK k_722⟩ q_Run_store rfl rfl d_Run_act_270) (fun L35 I36 k37 n37 H locs h hw hb9 => ?_) (fun kx L9 I9 k9 n9 H locs h hw hb9 => x_thr hlk (fun x h9 => by rw [hexn] at h9; cases h9) hw ⟨rfl, Or.inr ⟨kx, rfl, h⟩⟩ (hbd.tr hb9))
                      replace hbd := hbd.tr hb9
                      try dsimp only at h
                      refine lv_goto (tgt := 437) hx hb d_Run_act_273 (by decide) ?_
                      exact x_vret hx hb hr hlk hw ⟨rfl, Or.inl ⟨rfl, h⟩⟩ hbd d_Run_act_437
                    · replace h := h.2
                      by_cases c38 : x2 = 20
                      · replace h := h.1 c38
                        refine lv_tableIn (off := 262) (tgt := 276) hx hb d_Run_act_14 (by rw [c38]; decide) (by rw [c38]; decide) (by rw [c38]; rfl) (by decide) ?_
                        refine lv_aload_n hx hb d_Run_act_276 rfl (lv_at hl 0 rfl) ?_
                        refine x_goI (ls := ls) (rest := []) hE hw (c_Run_pop hY ok0_ h) (x_cd hK k_718) q_Run_pop (by omega) (by omega) hl.1 (Nat.le_of_ble_eq_true rfl) hbd d_Run_act_277 (x_toV (As := []) (b := (x_ad Y 20 d)) hx hb hown hK (x_recv hK hw ok0_ rfl (by decide)) k_715 k_717 ks_15 ⟨_, x_cd hK k_718⟩ q_Run_pop rfl rfl d_Run_act_277) (fun r39 L9 I40 k9 n9 H locs h hw hb9 => ?_) (fun _ _ _ _ _ _ _ h9 => h9.elim)
                        obtain ⟨e1, e3, e4, h⟩ := h
                        rw [e1] at hw
                        rw [e3, e4]
                        refine lv_istore_n (lv' := [(3, .int r39), (0, .ref (x_ad Y 20 d)), (1, .ref (g.2.2.2.2 i)), (2, .int p2)]) hx hb d_Run_act_280 rfl hl (by decide) rfl (fun ls hl => ?_)
                        refine lv_aload_n hx hb d_Run_act_281 rfl (lv_at hl 1 rfl) ?_
                        refine lv_iload_n hx hb d_Run_act_282 rfl (lv_at hl 0 rfl) ?_
                        refine lv_if_lt (tgt := 304) hx hb d_Run_act_283 (by decide) (fun c41 => ?_) (fun c41 => ?_)
                        · replace h := h.1 c41
                          refine lv_iconst (v := 0) hx hb d_Run_act_304 (by decide) ?_
                          refine x_goV (ls := ls) (rest := []) hE hw (c_Run_push hY ok0_ h) (x_cd hK k_710) q_Run_push (by omega) (by omega) hl.1 (Nat.le_of_ble_eq_true rfl) hbd d_Run_act_305 (x_toV (As := [.int (0 : Int32)]) (b := (x_ad Y 20 d)) hx hb hown hK (x_recv hK hw ok0_ rfl (by decide)) k_707 k_709 ks_13 ⟨_, x_cd hK k_710⟩ q_Run_push rfl rfl d_Run_act_305) (fun L9 I42 k9 n9 H locs h hw hb9 => ?_) (fun _ _ _ _ _ _ _ h9 => h9.elim)
                          obtain ⟨e1, e3, e4, h⟩ := h
                          rw [e1] at hw
                          rw [e3, e4]
                          refine lv_goto (tgt := 437) hx hb d_Run_act_308 (by decide) ?_
                          exact x_vret hx hb hr hlk hw ⟨rfl, Or.inl ⟨rfl, h⟩⟩ hbd d_Run_act_437
                        · replace h := h.2 c41
                          refine lv_iload_n hx hb d_Run_act_286 rfl (lv_at hl 0 rfl) ?_
                          refine lv_aload_n hx hb d_Run_act_287 rfl (lv_at hl 1 rfl) ?_
                          refine x_getR (t := 20) (i := d) (j := 7) hx hb hK hw hown ok0_ rfl (by decide) (by decide) (x_wd hK k_180 rfl) (fun _ h => h) fk_5_7 (hY.r ok0_ rfl) d_Run_act_288 ?_
                          have ok43 := hY.ok 7 ok0_ (t' := 21) (i' := d) rfl
                          refine x_alen (t := 21) (i := d) hx hb hK hw ok43 rfl (by decide) (hY.n ok43 rfl) d_Run_act_291 ?_
                          refine lv_icmp_ge (tgt := 304) hx hb d_Run_act_292 (by decide) (fun c44 => ?_) (fun c44 => ?_)
                          · replace h := h.1 c44
                            refine lv_iconst (v := 0) hx hb d_Run_act_304 (by decide) ?_
                            refine x_goV (ls := ls) (rest := []) hE hw (c_Run_push hY ok0_ h) (x_cd hK k_710) q_Run_push (by omega) (by omega) hl.1 (Nat.le_of_ble_eq_true rfl) hbd d_Run_act_305 (x_toV (As := [.int (0 : Int32)]) (b := (x_ad Y 20 d)) hx hb hown hK (x_recv hK hw ok0_ rfl (by decide)) k_707 k_709 ks_13 ⟨_, x_cd hK k_710⟩ q_Run_push rfl rfl d_Run_act_305) (fun L9 I45 k9 n9 H locs h hw hb9 => ?_) (fun _ _ _ _ _ _ _ h9 => h9.elim)
                            obtain ⟨e1, e3, e4, h⟩ := h
                            rw [e1] at hw
                            rw [e3, e4]
                            refine lv_goto (tgt := 437) hx hb d_Run_act_308 (by decide) ?_
                            exact x_vret hx hb hr hlk hw ⟨rfl, Or.inl ⟨rfl, h⟩⟩ hbd d_Run_act_437
                          · replace h := h.2 c44
                            refine lv_aload_n hx hb d_Run_act_295 rfl (lv_at hl 1 rfl) ?_
                            refine x_getR (t := 20) (i := d) (j := 7) hx hb hK hw hown ok0_ rfl (by decide) (by decide) (x_wd hK k_180 rfl) (fun _ h => h) fk_5_7 (hY.r ok0_ rfl) d_Run_act_296 ?_
                            refine lv_iload_n hx hb d_Run_act_299 rfl (lv_at hl 0 rfl) ?_
                            refine x_iald (t := 21) (i := d) hx hb hK hw ok43 rfl (hY.n ok43 rfl) h.1 d_Run_act_300 ?_
                            replace h := h.2
                            refine lv_goto (tgt := 305) hx hb d_Run_act_301 (by decide) ?_
                            refine x_goV (ls := ls) (rest := []) hE hw (c_Run_push hY ok0_ h) (x_cd hK k_710) q_Run_push (by omega) (by omega) hl.1 (Nat.le_of_ble_eq_true rfl) hbd d_Run_act_305 (x_toV (As := [.int (I40 21 d r39.toNatClampNeg)]) (b := (x_ad Y 20 d)) hx hb hown hK (x_recv hK hw ok0_ rfl (by decide)) k_707 k_709 ks_13 ⟨_, x_cd hK k_710⟩ q_Run_push rfl rfl d_Run_act_305) (fun L9 I46 k9 n9 H locs h hw hb9 => ?_) (fun _ _ _ _ _ _ _ h9 => h9.elim)
                            obtain ⟨e1, e3, e4, h⟩ := h
                            rw [e1] at hw
                            rw [e3, e4]
                            refine lv_goto (tgt := 437) hx hb d_Run_act_308 (by decide) ?_
                            exact x_vret hx hb hr hlk hw ⟨rfl, Or.inl ⟨rfl, h⟩⟩ hbd d_Run_act_437
                      · replace h := h.2
                        by_cases c47 : x2 = 21
                        · replace h := h.1 c47
                          refine lv_tableIn (off := 297) (tgt := 311) hx hb d_Run_act_14 (by rw [c47]; decide) (by rw [c47]; decide) (by rw [c47]; rfl) (by decide) ?_
                          refine lv_aload_n hx hb d_Run_act_311 rfl (lv_at hl 0 rfl) ?_
                          refine lv_aload_n hx hb d_Run_act_312 rfl (lv_at hl 0 rfl) ?_
                          refine x_getI (t := 20) (i := d) (j := 5) hx hb hK hw hown ok0_ rfl (by decide) (by decide) (x_wd hK k_178 rfl) (fun _ h => h) fk_5_5 d_Run_act_313 ?_
                          refine x_goV (ls := ls) (rest := []) hE hw (c_Run_push hY ok0_ h) (x_cd hK k_710) q_Run_push (by omega) (by omega) hl.1 (Nat.le_of_ble_eq_true rfl) hbd d_Run_act_316 (x_toV (As := [.int (I1 20 d 5)]) (b := (x_ad Y 20 d)) hx hb hown hK (x_recv hK hw ok0_ rfl (by decide)) k_707 k_709 ks_13 ⟨_, x_cd hK k_710⟩ q_Run_push rfl rfl d_Run_act_316) (fun L9 I48 k9 n9 H locs h hw hb9 => ?_) (fun _ _ _ _ _ _ _ h9 => h9.elim)
                          obtain ⟨e1, e3, e4, h⟩ := h
                          rw [e1] at hw
                          rw [e3, e4]
                          refine lv_goto (tgt := 437) hx hb d_Run_act_319 (by decide) ?_
                          exact x_vret hx hb hr hlk hw ⟨rfl, Or.inl ⟨rfl, h⟩⟩ hbd d_Run_act_437
                        · replace h := h.2
                          by_cases c49 : x2 = 22
                          · replace h := h.1 c49
                            refine lv_tableIn (off := 308) (tgt := 322) hx hb d_Run_act_14 (by rw [c49]; decide) (by rw [c49]; decide) (by rw [c49]; rfl) (by decide) ?_
                            refine lv_aload_n hx hb d_Run_act_322 rfl (lv_at hl 0 rfl) ?_
                            refine lv_aload_n hx hb d_Run_act_323 rfl (lv_at hl 0 rfl) ?_
                            refine x_getI (t := 20) (i := d) (j := 6) hx hb hK hw hown ok0_ rfl (by decide) (by decide) (x_wd hK k_179 rfl) (fun _ h => h) fk_5_6 d_Run_act_324 ?_
                            refine x_goV (ls := ls) (rest := []) hE hw (c_Run_push hY ok0_ h) (x_cd hK k_710) q_Run_push (by omega) (by omega) hl.1 (Nat.le_of_ble_eq_true rfl) hbd d_Run_act_327 (x_toV (As := [.int (I1 20 d 6)]) (b := (x_ad Y 20 d)) hx hb hown hK (x_recv hK hw ok0_ rfl (by decide)) k_707 k_709 ks_13 ⟨_, x_cd hK k_710⟩ q_Run_push rfl rfl d_Run_act_327) (fun L9 I50 k9 n9 H locs h hw hb9 => ?_) (fun _ _ _ _ _ _ _ h9 => h9.elim)
                            obtain ⟨e1, e3, e4, h⟩ := h
                            rw [e1] at hw
                            rw [e3, e4]
                            refine lv_goto (tgt := 437) hx hb d_Run_act_330 (by decide) ?_
                            exact x_vret hx hb hr hlk hw ⟨rfl, Or.inl ⟨rfl, h⟩⟩ hbd d_Run_act_437
                          · replace h := h.2
                            by_cases c51 : x2 = 23
                            · replace h := h.1 c51
                              refine lv_tableIn (off := 319) (tgt := 333) hx hb d_Run_act_14 (by rw [c51]; decide) (by rw [c51]; decide) (by rw [c51]; rfl) (by decide) ?_
                              refine lv_aload_n hx hb d_Run_act_333 rfl (lv_at hl 0 rfl) ?_
                              refine lv_aload_n hx hb d_Run_act_334 rfl (lv_at hl 0 rfl) ?_
                              refine x_getI (t := 20) (i := d) (j := 4) hx hb hK hw hown ok0_ rfl (by decide) (by decide) (x_wd hK k_177 rfl) (fun _ h => h) fk_5_4 d_Run_act_335 ?_
                              refine x_goV (ls := ls) (rest := []) hE hw (c_Run_push hY ok0_ h) (x_cd hK k_710) q_Run_push (by omega) (by omega) hl.1 (Nat.le_of_ble_eq_true rfl) hbd d_Run_act_338 (x_toV (As := [.int (I1 20 d 4)]) (b := (x_ad Y 20 d)) hx hb hown hK (x_recv hK hw ok0_ rfl (by decide)) k_707 k_709 ks_13 ⟨_, x_cd hK k_710⟩ q_Run_push rfl rfl d_Run_act_338) (fun L9 I52 k9 n9 H locs h hw hb9 => ?_) (fun _ _ _ _ _ _ _ h9 => h9.elim)
                              obtain ⟨e1, e3, e4, h⟩ := h
                              rw [e1] at hw
                              rw [e3, e4]
                              refine lv_goto (tgt := 437) hx hb d_Run_act_341 (by decide) ?_
                              exact x_vret hx hb hr hlk hw ⟨rfl, Or.inl ⟨rfl, h⟩⟩ hbd d_Run_act_437
                            · replace h := h.2
                              by_cases c53 : x2 = 24
                              · replace h := h.1 c53
                                refine lv_tableIn (off := 330) (tgt := 344) hx hb d_Run_act_14 (by rw [c53]; decide) (by rw [c53]; decide) (by rw [c53]; rfl) (by decide) ?_
                                refine lv_aload_n hx hb d_Run_act_344 rfl (lv_at hl 0 rfl) ?_
                                refine lv_aload_n hx hb d_Run_act_345 rfl (lv_at hl 0 rfl) ?_
                                refine x_getR (t := 20) (i := d) (j := 0) hx hb hK hw hown ok0_ rfl (by decide) (by decide) (x_wd hK k_173 rfl) (fun _ h => h) fk_5_0 (hY.r ok0_ rfl) d_Run_act_346 ?_
                                have ok54 := hY.ok 0 ok0_ (t' := 1) (i' := 0) rfl
                                refine lv_aload_n hx hb d_Run_act_349 rfl (lv_at hl 0 rfl) ?_
                                refine x_goI (ls := ls) (rest := [.ref (x_ad Y 1 0), .ref (x_ad Y 20 d)]) hE hw (c_Run_pop hY ok0_ h) (x_cd hK k_718) q_Run_pop (by omega) (by omega) hl.1 (Nat.le_of_ble_eq_true rfl) hbd d_Run_act_350 (x_toV (As := []) (b := (x_ad Y 20 d)) hx hb hown hK (x_recv hK hw ok0_ rfl (by decide)) k_715 k_717 ks_15 ⟨_, x_cd hK k_718⟩ q_Run_pop rfl rfl d_Run_act_350) (fun r55 L9 I56 k9 n9 H locs h hw hb9 => ?_) (fun _ _ _ _ _ _ _ h9 => h9.elim)
                                obtain ⟨e1, e3, e4, h⟩ := h
                                rw [e1] at hw
                                rw [e3, e4]
                                refine x_goI (ls := ls) (rest := [.ref (x_ad Y 20 d)]) hE hw (c_Book_balance hY hLs ok54 h) (x_cd hK k_747) q_Book_balance (by omega) (by omega) hl.1 (Nat.le_of_ble_eq_true rfl) hbd d_Run_act_353 (x_toV (As := [.int r55]) (b := (x_ad Y 1 0)) hx hb hown hK (x_recv hK hw ok54 rfl (by decide)) k_744 k_745 k_746 ⟨_, x_cd hK k_747⟩ q_Book_balance rfl rfl d_Run_act_353) (fun r57 L9 I9 k9 n9 H locs h hw hb9 => ?_) (fun _ _ _ _ _ _ _ h9 => h9.elim)
                                obtain ⟨e1, e2, e3, e4, h⟩ := h
                                rw [e1, e2] at hw
                                rw [e3, e4]
                                refine x_goV (ls := ls) (rest := []) hE hw (c_Run_push hY ok0_ h) (x_cd hK k_710) q_Run_push (by omega) (by omega) hl.1 (Nat.le_of_ble_eq_true rfl) hbd d_Run_act_356 (x_toV (As := [.int r57]) (b := (x_ad Y 20 d)) hx hb hown hK (x_recv hK hw ok0_ rfl (by decide)) k_707 k_709 ks_13 ⟨_, x_cd hK k_710⟩ q_Run_push rfl rfl d_Run_act_356) (fun L9 I58 k9 n9 H locs h hw hb9 => ?_) (fun _ _ _ _ _ _ _ h9 => h9.elim)
                                obtain ⟨e1, e3, e4, h⟩ := h
                                rw [e1] at hw
                                rw [e3, e4]
                                refine lv_goto (tgt := 437) hx hb d_Run_act_359 (by decide) ?_
                                exact x_vret hx hb hr hlk hw ⟨rfl, Or.inl ⟨rfl, h⟩⟩ hbd d_Run_act_437
                              · replace h := h.2
                                by_cases c59 : x2 = 25
                                · replace h := h.1 c59
                                  refine lv_tableIn (off := 348) (tgt := 362) hx hb d_Run_act_14 (by rw [c59]; decide) (by rw [c59]; decide) (by rw [c59]; rfl) (by decide) ?_
                                  refine lv_aload_n hx hb d_Run_act_362 rfl (lv_at hl 0 rfl) ?_
                                  refine x_getR (t := 20) (i := d) (j := 0) hx hb hK hw hown ok0_ rfl (by decide) (by decide) (x_wd hK k_173 rfl) (fun _ h => h) fk_5_0 (hY.r ok0_ rfl) d_Run_act_363 ?_
                                  have ok60 := hY.ok 0 ok0_ (t' := 1) (i' := 0) rfl
                                  refine lv_aload_n hx hb d_Run_act_366 rfl (lv_at hl 0 rfl) ?_
                                  refine x_goI (ls := ls) (rest := [.ref (x_ad Y 1 0)]) hE hw (c_Run_pop hY ok0_ h) (x_cd hK k_718) q_Run_pop (by omega) (by omega) hl.1 (Nat.le_of_ble_eq_true rfl) hbd d_Run_act_367 (x_toV (As := []) (b := (x_ad Y 20 d)) hx hb hown hK (x_recv hK hw ok0_ rfl (by decide)) k_715 k_717 ks_15 ⟨_, x_cd hK k_718⟩ q_Run_pop rfl rfl d_Run_act_367) (fun r61 L9 I62 k9 n9 H locs h hw hb9 => ?_) (fun _ _ _ _ _ _ _ h9 => h9.elim)
                                  obtain ⟨e1, e3, e4, h⟩ := h
                                  rw [e1] at hw
                                  rw [e3, e4]
                                  refine x_goV (ls := ls) (rest := []) hE hw (c_Book_write hY ok60 h) (x_cd hK k_752) q_Book_write (by omega) (by omega) hl.1 (Nat.le_of_ble_eq_true rfl) hbd d_Run_act_370 (x_toV (As := [.int r61]) (b := (x_ad Y 1 0)) hx hb hown hK (x_recv hK hw ok60 rfl (by decide)) k_749 k_750 k_751 ⟨_, x_cd hK k_752⟩ q_Book_write rfl rfl d_Run_act_370) (fun L9 I63 k9 n9 H locs h hw hb9 => ?_) (fun _ _ _ _ _ _ _ h9 => h9.elim)
                                  obtain ⟨e1, e3, e4, h⟩ := h
                                  rw [e1] at hw
                                  rw [e3, e4]
                                  refine lv_goto (tgt := 437) hx hb d_Run_act_373 (by decide) ?_
                                  exact x_vret hx hb hr hlk hw ⟨rfl, Or.inl ⟨rfl, h⟩⟩ hbd d_Run_act_437
                                · replace h := h.2
                                  by_cases c64 : x2 = 26
                                  · replace h := h.1 c64
                                    refine lv_tableIn (off := 362) (tgt := 376) hx hb d_Run_act_14 (by rw [c64]; decide) (by rw [c64]; decide) (by rw [c64]; rfl) (by decide) ?_
                                    refine lv_aload_n hx hb d_Run_act_376 rfl (lv_at hl 0 rfl) ?_
                                    refine lv_iconst (v := 0) hx hb d_Run_act_377 (by decide) ?_
                                    refine lv_aload_n hx hb d_Run_act_378 rfl (lv_at hl 0 rfl) ?_
                                    refine x_goI (ls := ls) (rest := [.int (0 : Int32), .ref (x_ad Y 20 d)]) hE hw (c_Run_pop hY ok0_ h) (x_cd hK k_718) q_Run_pop (by omega) (by omega) hl.1 (Nat.le_of_ble_eq_true rfl) hbd d_Run_act_379 (x_toV (As := []) (b := (x_ad Y 20 d)) hx hb hown hK (x_recv hK hw ok0_ rfl (by decide)) k_715 k_717 ks_15 ⟨_, x_cd hK k_718⟩ q_Run_pop rfl rfl d_Run_act_379) (fun r65 L9 I66 k9 n9 H locs h hw hb9 => ?_) (fun _ _ _ _ _ _ _ h9 => h9.elim)
                                    obtain ⟨e1, e3, e4, h⟩ := h
                                    rw [e1] at hw
                                    rw [e3, e4]
                                    refine x_goV (ls := ls) (rest := []) hE hw (c_Run_ends hY ok0_ h) (x_cd hK k_655) q_Run_ends (by omega) (by omega) hl.1 (Nat.le_of_ble_eq_true rfl) hbd d_Run_act_382 (x_toV (As := [.int (0 : Int32), .int r65]) (b := (x_ad Y 20 d)) hx hb hown hK (x_recv hK hw ok0_ rfl (by decide)) k_652 k_654 ks_6 ⟨_, x_cd hK k_655⟩ q_Run_ends rfl rfl d_Run_act_382) (fun L9 I67 k9 n9 H locs h hw hb9 => ?_) (fun _ _ _ _ _ _ _ h9 => h9.elim)
                                    obtain ⟨e1, e3, e4, h⟩ := h
                                    rw [e1] at hw
                                    rw [e3, e4]
                                    refine lv_goto (tgt := 437) hx hb d_Run_act_385 (by decide) ?_
                                    exact x_vret hx hb hr hlk hw ⟨rfl, Or.inl ⟨rfl, h⟩⟩ hbd d_Run_act_437
                                  · replace h := h.2
                                    by_cases c68 : x2 = 27
                                    · replace h := h.1 c68
                                      refine lv_tableIn (off := 386) (tgt := 400) hx hb d_Run_act_14 (by rw [c68]; decide) (by rw [c68]; decide) (by rw [c68]; rfl) (by decide) ?_
                                      refine lv_aload_n hx hb d_Run_act_400 rfl (lv_at hl 0 rfl) ?_
                                      refine lv_iload_n hx hb d_Run_act_401 rfl (lv_at hl 2 rfl) ?_
                                      refine x_goV (ls := ls) (rest := []) hE hw (c_Run_call hY hLs hT18 hT19 hPL ok0_ h) (x_cd hK k_756) q_Run_call (by omega) (by omega) hl.1 (Nat.le_of_ble_eq_true rfl) hbd d_Run_act_402 (x_toV (As := [.int p2]) (b := (x_ad Y 20 d)) hx hb hown hK (x_recv hK hw ok0_ rfl (by decide)) k_753 k_755 ks_20 ⟨_, x_cd hK k_756⟩ q_Run_call rfl rfl d_Run_act_402) (fun L69 I70 k71 n71 H locs h hw hb9 => ?_) (fun _ _ _ _ _ _ _ h9 => h9.elim)
                                      replace hbd := hbd.tr hb9
                                      try dsimp only at h
                                      refine lv_goto (tgt := 437) hx hb d_Run_act_405 (by decide) ?_
                                      exact x_vret hx hb hr hlk hw ⟨rfl, Or.inl ⟨rfl, h⟩⟩ hbd d_Run_act_437
                                    · replace h := h.2
                                      by_cases c72 : x2 = 28
                                      · replace h := h.1 c72
                                        refine lv_tableIn (off := 394) (tgt := 408) hx hb d_Run_act_14 (by rw [c72]; decide) (by rw [c72]; decide) (by rw [c72]; rfl) (by decide) ?_
                                        refine lv_aload_n hx hb d_Run_act_408 rfl (lv_at hl 0 rfl) ?_
                                        refine lv_aload_n hx hb d_Run_act_409 rfl (lv_at hl 0 rfl) ?_
                                        refine x_getI (t := 20) (i := d) (j := 11) hx hb hK hw hown ok0_ rfl (by decide) (by decide) (x_wd hK k_185 rfl) (fun _ h => h) fk_5_11 d_Run_act_410 ?_
                                        refine x_goV (ls := ls) (rest := []) hE hw (c_Run_push hY ok0_ h) (x_cd hK k_710) q_Run_push (by omega) (by omega) hl.1 (Nat.le_of_ble_eq_true rfl) hbd d_Run_act_413 (x_toV (As := [.int (I1 20 d 11)]) (b := (x_ad Y 20 d)) hx hb hown hK (x_recv hK hw ok0_ rfl (by decide)) k_707 k_709 ks_13 ⟨_, x_cd hK k_710⟩ q_Run_push rfl rfl d_Run_act_413) (fun L9 I73 k9 n9 H locs h hw hb9 => ?_) (fun _ _ _ _ _ _ _ h9 => h9.elim)
                                        obtain ⟨e1, e3, e4, h⟩ := h
                                        rw [e1] at hw
                                        rw [e3, e4]
                                        refine lv_goto (tgt := 437) hx hb d_Run_act_416 (by decide) ?_
                                        exact x_vret hx hb hr hlk hw ⟨rfl, Or.inl ⟨rfl, h⟩⟩ hbd d_Run_act_437
                                      · replace h := h.2
                                        by_cases c74 : x2 = 29
                                        · replace h := h.1 c74
                                          refine lv_tableIn (off := 374) (tgt := 388) hx hb d_Run_act_14 (by rw [c74]; decide) (by rw [c74]; decide) (by rw [c74]; rfl) (by decide) ?_
                                          refine lv_aload_n hx hb d_Run_act_388 rfl (lv_at hl 0 rfl) ?_
                                          refine lv_iconst (v := 1) hx hb d_Run_act_389 (by decide) ?_
                                          refine lv_aload_n hx hb d_Run_act_390 rfl (lv_at hl 0 rfl) ?_
                                          refine x_goI (ls := ls) (rest := [.int (1 : Int32), .ref (x_ad Y 20 d)]) hE hw (c_Run_pop hY ok0_ h) (x_cd hK k_718) q_Run_pop (by omega) (by omega) hl.1 (Nat.le_of_ble_eq_true rfl) hbd d_Run_act_391 (x_toV (As := []) (b := (x_ad Y 20 d)) hx hb hown hK (x_recv hK hw ok0_ rfl (by decide)) k_715 k_717 ks_15 ⟨_, x_cd hK k_718⟩ q_Run_pop rfl rfl d_Run_act_391) (fun r75 L9 I76 k9 n9 H locs h hw hb9 => ?_) (fun _ _ _ _ _ _ _ h9 => h9.elim)
                                          obtain ⟨e1, e3, e4, h⟩ := h
                                          rw [e1] at hw
                                          rw [e3, e4]
                                          refine x_goV (ls := ls) (rest := []) hE hw (c_Run_ends hY ok0_ h) (x_cd hK k_655) q_Run_ends (by omega) (by omega) hl.1 (Nat.le_of_ble_eq_true rfl) hbd d_Run_act_394 (x_toV (As := [.int (1 : Int32), .int r75]) (b := (x_ad Y 20 d)) hx hb hown hK (x_recv hK hw ok0_ rfl (by decide)) k_652 k_654 ks_6 ⟨_, x_cd hK k_655⟩ q_Run_ends rfl rfl d_Run_act_394) (fun L9 I77 k9 n9 H locs h hw hb9 => ?_) (fun _ _ _ _ _ _ _ h9 => h9.elim)
                                          obtain ⟨e1, e3, e4, h⟩ := h
                                          rw [e1] at hw
                                          rw [e3, e4]
                                          refine lv_goto (tgt := 437) hx hb d_Run_act_397 (by decide) ?_
                                          exact x_vret hx hb hr hlk hw ⟨rfl, Or.inl ⟨rfl, h⟩⟩ hbd d_Run_act_437
                                        · replace h := h.2
                                          replace h := h c3 c5 c7 c9 c12 c14 c20 c22 c28 c34 c38 c47 c49 c51 c53 c59 c64 c68 c72 c74
                                          by_cases hlo : x2.toInt < 0
                                          · refine lv_tableOut (tgt := 419) hx hb d_Run_act_14 (Or.inl hlo) (by decide) ?_
                                            refine lv_aload_n hx hb d_Run_act_419 rfl (lv_at hl 0 rfl) ?_
                                            refine x_goI (ls := ls) (rest := []) hE hw (c_Run_pop hY ok0_ h) (x_cd hK k_718) q_Run_pop (by omega) (by omega) hl.1 (Nat.le_of_ble_eq_true rfl) hbd d_Run_act_420 (x_toV (As := []) (b := (x_ad Y 20 d)) hx hb hown hK (x_recv hK hw ok0_ rfl (by decide)) k_715 k_717 ks_15 ⟨_, x_cd hK k_718⟩ q_Run_pop rfl rfl d_Run_act_420) (fun r78 L9 I79 k9 n9 H locs h hw hb9 => ?_) (fun _ _ _ _ _ _ _ h9 => h9.elim)
                                            obtain ⟨e1, e3, e4, h⟩ := h
                                            rw [e1] at hw
                                            rw [e3, e4]
                                            refine lv_istore_n (lv' := [(3, .int r78), (0, .ref (x_ad Y 20 d)), (1, .ref (g.2.2.2.2 i)), (2, .int p2)]) hx hb d_Run_act_423 rfl hl (by decide) rfl (fun ls hl => ?_)
                                            refine lv_aload_n hx hb d_Run_act_424 rfl (lv_at hl 1 rfl) ?_
                                            refine lv_aload_n hx hb d_Run_act_425 rfl (lv_at hl 2 rfl) ?_
                                            refine lv_aload_n hx hb d_Run_act_426 rfl (lv_at hl 1 rfl) ?_
                                            refine x_goI (ls := ls) (rest := [.ref (g.2.2.2.2 i), .ref (x_ad Y 20 d)]) hE hw (c_Run_pop hY ok0_ h) (x_cd hK k_718) q_Run_pop (by omega) (by omega) hl.1 (Nat.le_of_ble_eq_true rfl) hbd d_Run_act_427 (x_toV (As := []) (b := (x_ad Y 20 d)) hx hb hown hK (x_recv hK hw ok0_ rfl (by decide)) k_715 k_717 ks_15 ⟨_, x_cd hK k_718⟩ q_Run_pop rfl rfl d_Run_act_427) (fun r80 L9 I81 k9 n9 H locs h hw hb9 => ?_) (fun _ _ _ _ _ _ _ h9 => h9.elim)
                                            obtain ⟨e1, e3, e4, h⟩ := h
                                            rw [e1] at hw
                                            rw [e3, e4]
                                            refine lv_iload_n hx hb d_Run_act_430 rfl (lv_at hl 0 rfl) ?_
                                            refine x_goI (ls := ls) (rest := [.ref (x_ad Y 20 d)]) hE hw (c_Ins_of hY e_i h) (x_cd hK k_764) q_Ins_of (by omega) (by omega) hl.1 (Nat.le_of_ble_eq_true rfl) hbd d_Run_act_431 (x_toV (As := [.int r80, .int r78]) (b := (g.2.2.2.2 i)) hx hb hown hK (x_erecv hK hw e_i) k_761 k_762 k_763 ⟨_, x_cd hK k_764⟩ q_Ins_of rfl rfl d_Run_act_431) (fun r82 L9 I9 k9 n9 H locs h hw hb9 => ?_) (fun _ _ _ _ _ _ _ h9 => h9.elim)
                                            obtain ⟨e1, e2, e3, e4, h⟩ := h
                                            rw [e1, e2] at hw
                                            rw [e3, e4]
                                            refine x_goV (ls := ls) (rest := []) hE hw (c_Run_push hY ok0_ h) (x_cd hK k_710) q_Run_push (by omega) (by omega) hl.1 (Nat.le_of_ble_eq_true rfl) hbd d_Run_act_434 (x_toV (As := [.int r82]) (b := (x_ad Y 20 d)) hx hb hown hK (x_recv hK hw ok0_ rfl (by decide)) k_707 k_709 ks_13 ⟨_, x_cd hK k_710⟩ q_Run_push rfl rfl d_Run_act_434) (fun L9 I83 k9 n9 H locs h hw hb9 => ?_) (fun _ _ _ _ _ _ _ h9 => h9.elim)
                                            obtain ⟨e1, e3, e4, h⟩ := h
                                            rw [e1] at hw
                                            rw [e3, e4]
                                            exact x_vret hx hb hr hlk hw ⟨rfl, Or.inl ⟨rfl, h⟩⟩ hbd d_Run_act_437
                                          · by_cases hhi : 29 < x2.toInt
                                            · refine lv_tableOut (tgt := 419) hx hb d_Run_act_14 (Or.inr hhi) (by decide) ?_
                                              refine lv_aload_n hx hb d_Run_act_419 rfl (lv_at hl 0 rfl) ?_
                                              refine x_goI (ls := ls) (rest := []) hE hw (c_Run_pop hY ok0_ h) (x_cd hK k_718) q_Run_pop (by omega) (by omega) hl.1 (Nat.le_of_ble_eq_true rfl) hbd d_Run_act_420 (x_toV (As := []) (b := (x_ad Y 20 d)) hx hb hown hK (x_recv hK hw ok0_ rfl (by decide)) k_715 k_717 ks_15 ⟨_, x_cd hK k_718⟩ q_Run_pop rfl rfl d_Run_act_420) (fun r78 L9 I79 k9 n9 H locs h hw hb9 => ?_) (fun _ _ _ _ _ _ _ h9 => h9.elim)
                                              obtain ⟨e1, e3, e4, h⟩ := h
                                              rw [e1] at hw
                                              rw [e3, e4]
                                              refine lv_istore_n (lv' := [(3, .int r78), (0, .ref (x_ad Y 20 d)), (1, .ref (g.2.2.2.2 i)), (2, .int p2)]) hx hb d_Run_act_423 rfl hl (by decide) rfl (fun ls hl => ?_)
                                              refine lv_aload_n hx hb d_Run_act_424 rfl (lv_at hl 1 rfl) ?_
                                              refine lv_aload_n hx hb d_Run_act_425 rfl (lv_at hl 2 rfl) ?_
                                              refine lv_aload_n hx hb d_Run_act_426 rfl (lv_at hl 1 rfl) ?_
                                              refine x_goI (ls := ls) (rest := [.ref (g.2.2.2.2 i), .ref (x_ad Y 20 d)]) hE hw (c_Run_pop hY ok0_ h) (x_cd hK k_718) q_Run_pop (by omega) (by omega) hl.1 (Nat.le_of_ble_eq_true rfl) hbd d_Run_act_427 (x_toV (As := []) (b := (x_ad Y 20 d)) hx hb hown hK (x_recv hK hw ok0_ rfl (by decide)) k_715 k_717 ks_15 ⟨_, x_cd hK k_718⟩ q_Run_pop rfl rfl d_Run_act_427) (fun r80 L9 I81 k9 n9 H locs h hw hb9 => ?_) (fun _ _ _ _ _ _ _ h9 => h9.elim)
                                              obtain ⟨e1, e3, e4, h⟩ := h
                                              rw [e1] at hw
                                              rw [e3, e4]
                                              refine lv_iload_n hx hb d_Run_act_430 rfl (lv_at hl 0 rfl) ?_
                                              refine x_goI (ls := ls) (rest := [.ref (x_ad Y 20 d)]) hE hw (c_Ins_of hY e_i h) (x_cd hK k_764) q_Ins_of (by omega) (by omega) hl.1 (Nat.le_of_ble_eq_true rfl) hbd d_Run_act_431 (x_toV (As := [.int r80, .int r78]) (b := (g.2.2.2.2 i)) hx hb hown hK (x_erecv hK hw e_i) k_761 k_762 k_763 ⟨_, x_cd hK k_764⟩ q_Ins_of rfl rfl d_Run_act_431) (fun r82 L9 I9 k9 n9 H locs h hw hb9 => ?_) (fun _ _ _ _ _ _ _ h9 => h9.elim)
                                              obtain ⟨e1, e2, e3, e4, h⟩ := h
                                              rw [e1, e2] at hw
                                              rw [e3, e4]
                                              refine x_goV (ls := ls) (rest := []) hE hw (c_Run_push hY ok0_ h) (x_cd hK k_710) q_Run_push (by omega) (by omega) hl.1 (Nat.le_of_ble_eq_true rfl) hbd d_Run_act_434 (x_toV (As := [.int r82]) (b := (x_ad Y 20 d)) hx hb hown hK (x_recv hK hw ok0_ rfl (by decide)) k_707 k_709 ks_13 ⟨_, x_cd hK k_710⟩ q_Run_push rfl rfl d_Run_act_434) (fun L9 I83 k9 n9 H locs h hw hb9 => ?_) (fun _ _ _ _ _ _ _ h9 => h9.elim)
                                              obtain ⟨e1, e3, e4, h⟩ := h
                                              rw [e1] at hw
                                              rw [e3, e4]
                                              exact x_vret hx hb hr hlk hw ⟨rfl, Or.inl ⟨rfl, h⟩⟩ hbd d_Run_act_437
                                            · have hof : (#[134, 143, 151, 164, 176, 405, 405, 405, 405, 405, 405, 405, 184, 405, 405, 405, 203, 211, 233, 255, 262, 297, 308, 319, 330, 348, 362, 386, 394, 374] : Array Int)[(x2.toInt - 0).toNat]? = some 405 := by
                                                have hz : x2.toInt = 5 ∨ x2.toInt = 6 ∨ x2.toInt = 7 ∨ x2.toInt = 8 ∨ x2.toInt = 9 ∨ x2.toInt = 10 ∨ x2.toInt = 11 ∨ x2.toInt = 13 ∨ x2.toInt = 14 ∨ x2.toInt = 15 := by
                                                  have z0 := lv_neT (a := 0) c3 (by decide)
                                                  have z1 := lv_neT (a := 1) c5 (by decide)
                                                  have z2 := lv_neT (a := 2) c7 (by decide)
                                                  have z3 := lv_neT (a := 3) c9 (by decide)
                                                  have z4 := lv_neT (a := 4) c12 (by decide)
                                                  have z12 := lv_neT (a := 12) c14 (by decide)
                                                  have z16 := lv_neT (a := 16) c20 (by decide)
                                                  have z17 := lv_neT (a := 17) c22 (by decide)
                                                  have z18 := lv_neT (a := 18) c28 (by decide)
                                                  have z19 := lv_neT (a := 19) c34 (by decide)
                                                  have z20 := lv_neT (a := 20) c38 (by decide)
                                                  have z21 := lv_neT (a := 21) c47 (by decide)
                                                  have z22 := lv_neT (a := 22) c49 (by decide)
                                                  have z23 := lv_neT (a := 23) c51 (by decide)
                                                  have z24 := lv_neT (a := 24) c53 (by decide)
                                                  have z25 := lv_neT (a := 25) c59 (by decide)
                                                  have z26 := lv_neT (a := 26) c64 (by decide)
                                                  have z27 := lv_neT (a := 27) c68 (by decide)
                                                  have z28 := lv_neT (a := 28) c72 (by decide)
                                                  have z29 := lv_neT (a := 29) c74 (by decide)
                                                  omega
                                                rcases hz with hz | hz | hz | hz | hz | hz | hz | hz | hz | hz <;> (rw [hz]; rfl)
                                              refine lv_tableIn (off := 405) (tgt := 419) hx hb d_Run_act_14 hlo hhi hof (by decide) ?_
                                              refine lv_aload_n hx hb d_Run_act_419 rfl (lv_at hl 0 rfl) ?_
                                              refine x_goI (ls := ls) (rest := []) hE hw (c_Run_pop hY ok0_ h) (x_cd hK k_718) q_Run_pop (by omega) (by omega) hl.1 (Nat.le_of_ble_eq_true rfl) hbd d_Run_act_420 (x_toV (As := []) (b := (x_ad Y 20 d)) hx hb hown hK (x_recv hK hw ok0_ rfl (by decide)) k_715 k_717 ks_15 ⟨_, x_cd hK k_718⟩ q_Run_pop rfl rfl d_Run_act_420) (fun r78 L9 I79 k9 n9 H locs h hw hb9 => ?_) (fun _ _ _ _ _ _ _ h9 => h9.elim)
                                              obtain ⟨e1, e3, e4, h⟩ := h
                                              rw [e1] at hw
                                              rw [e3, e4]
                                              refine lv_istore_n (lv' := [(3, .int r78), (0, .ref (x_ad Y 20 d)), (1, .ref (g.2.2.2.2 i)), (2, .int p2)]) hx hb d_Run_act_423 rfl hl (by decide) rfl (fun ls hl => ?_)
                                              refine lv_aload_n hx hb d_Run_act_424 rfl (lv_at hl 1 rfl) ?_
                                              refine lv_aload_n hx hb d_Run_act_425 rfl (lv_at hl 2 rfl) ?_
                                              refine lv_aload_n hx hb d_Run_act_426 rfl (lv_at hl 1 rfl) ?_
                                              refine x_goI (ls := ls) (rest := [.ref (g.2.2.2.2 i), .ref (x_ad Y 20 d)]) hE hw (c_Run_pop hY ok0_ h) (x_cd hK k_718) q_Run_pop (by omega) (by omega) hl.1 (Nat.le_of_ble_eq_true rfl) hbd d_Run_act_427 (x_toV (As := []) (b := (x_ad Y 20 d)) hx hb hown hK (x_recv hK hw ok0_ rfl (by decide)) k_715 k_717 ks_15 ⟨_, x_cd hK k_718⟩ q_Run_pop rfl rfl d_Run_act_427) (fun r80 L9 I81 k9 n9 H locs h hw hb9 => ?_) (fun _ _ _ _ _ _ _ h9 => h9.elim)
                                              obtain ⟨e1, e3, e4, h⟩ := h
                                              rw [e1] at hw
                                              rw [e3, e4]
                                              refine lv_iload_n hx hb d_Run_act_430 rfl (lv_at hl 0 rfl) ?_
                                              refine x_goI (ls := ls) (rest := [.ref (x_ad Y 20 d)]) hE hw (c_Ins_of hY e_i h) (x_cd hK k_764) q_Ins_of (by omega) (by omega) hl.1 (Nat.le_of_ble_eq_true rfl) hbd d_Run_act_431 (x_toV (As := [.int r80, .int r78]) (b := (g.2.2.2.2 i)) hx hb hown hK (x_erecv hK hw e_i) k_761 k_762 k_763 ⟨_, x_cd hK k_764⟩ q_Ins_of rfl rfl d_Run_act_431) (fun r82 L9 I9 k9 n9 H locs h hw hb9 => ?_) (fun _ _ _ _ _ _ _ h9 => h9.elim)
                                              obtain ⟨e1, e2, e3, e4, h⟩ := h
                                              rw [e1, e2] at hw
                                              rw [e3, e4]
                                              refine x_goV (ls := ls) (rest := []) hE hw (c_Run_push hY ok0_ h) (x_cd hK k_710) q_Run_push (by omega) (by omega) hl.1 (Nat.le_of_ble_eq_true rfl) hbd d_Run_act_434 (x_toV (As := [.int r82]) (b := (x_ad Y 20 d)) hx hb hown hK (x_recv hK hw ok0_ rfl (by decide)) k_707 k_709 ks_13 ⟨_, x_cd hK k_710⟩ q_Run_push rfl rfl d_Run_act_434) (fun L9 I83 k9 n9 H locs h hw hb9 => ?_) (fun _ _ _ _ _ _ _ h9 => h9.elim)
                                              obtain ⟨e1, e3, e4, h⟩ := h
                                              rw [e1] at hw
                                              rw [e3, e4]
                                              exact x_vret hx hb hr hlk hw ⟨rfl, Or.inl ⟨rfl, h⟩⟩ hbd d_Run_act_437
def w_Run_step (Q : x_L → x_I → Nat → Nat → Prop) (X : x_XT) (PL : (Int32 → x_L → x_I → Nat → Nat → Prop) → Nat → Nat → Int32 → x_L → x_I → Nat → Nat → Prop) (nA : Nat) (d : Nat) (a : Nat) (L : x_L) (I : x_I) (k n : Nat) : Prop :=
  vp_in (I 20 d 10) 160 ∧
  ∀ x2 : Int32, x2 = (I 24 a (I 20 d 10).toNatClampNeg) →
  vp_in (x2 &&& (255 : Int32)) 30 ∧
  ∀ i4 : Nat, i4 = (x2 &&& (255 : Int32)).toNatClampNeg →
  w_Run_price (fun r5 =>
    ((r5 ≤ (I 20 d 11) →
      ∀ I7 : x_I, I7 = x_u I 20 d 11 ((I 20 d 11) - r5) →
      w_Ins_needed (fun r8 =>
        ((r8 ≤ (I7 20 d 9) →
          ((((I7 20 d 9) + (x_efv 2 i4)) ≤ (32 : Int32) →
            w_Run_act (fun L11 I12 k13 n13 =>
              Q L11 I12 k13 n13) X PL nA d i4 ((x2 >>> ((8 : Int32) &&& 31))) L I7 k n) ∧
          (¬ ((I7 20 d 9) + (x_efv 2 i4)) ≤ (32 : Int32) →
            w_Run_trap (fun I14 k15 n15 =>
              w_Run_act (fun L16 I17 k18 n18 =>
                Q L16 I17 k18 n18) X PL nA d i4 ((x2 >>> ((8 : Int32) &&& 31))) L I14 k15 n15) X d (4 : Int32) L I7 k n))) ∧
        (¬ r8 ≤ (I7 20 d 9) →
          w_Run_trap (fun I19 k20 n20 =>
            ((((I19 20 d 9) + (x_efv 2 i4)) ≤ (32 : Int32) →
              w_Run_act (fun L22 I23 k24 n24 =>
                Q L22 I23 k24 n24) X PL nA d i4 ((x2 >>> ((8 : Int32) &&& 31))) L I19 k20 n20) ∧
            (¬ ((I19 20 d 9) + (x_efv 2 i4)) ≤ (32 : Int32) →
              w_Run_trap (fun I25 k26 n26 =>
                w_Run_act (fun L27 I28 k29 n29 =>
                  Q L27 I28 k29 n29) X PL nA d i4 ((x2 >>> ((8 : Int32) &&& 31))) L I25 k26 n26) X d (4 : Int32) L I19 k20 n20))) X d (3 : Int32) L I7 k n))) i4 ((x2 >>> ((8 : Int32) &&& 31)))) ∧
    (¬ r5 ≤ (I 20 d 11) →
      w_Run_trap (fun I30 k31 n31 =>
        ∀ I32 : x_I, I32 = x_u I30 20 d 11 ((I30 20 d 11) - r5) →
        w_Ins_needed (fun r33 =>
          ((r33 ≤ (I32 20 d 9) →
            ((((I32 20 d 9) + (x_efv 2 i4)) ≤ (32 : Int32) →
              w_Run_act (fun L36 I37 k38 n38 =>
                Q L36 I37 k38 n38) X PL nA d i4 ((x2 >>> ((8 : Int32) &&& 31))) L I32 k31 n31) ∧
            (¬ ((I32 20 d 9) + (x_efv 2 i4)) ≤ (32 : Int32) →
              w_Run_trap (fun I39 k40 n40 =>
                w_Run_act (fun L41 I42 k43 n43 =>
                  Q L41 I42 k43 n43) X PL nA d i4 ((x2 >>> ((8 : Int32) &&& 31))) L I39 k40 n40) X d (4 : Int32) L I32 k31 n31))) ∧
          (¬ r33 ≤ (I32 20 d 9) →
            w_Run_trap (fun I44 k45 n45 =>
              ((((I44 20 d 9) + (x_efv 2 i4)) ≤ (32 : Int32) →
                w_Run_act (fun L47 I48 k49 n49 =>
                  Q L47 I48 k49 n49) X PL nA d i4 ((x2 >>> ((8 : Int32) &&& 31))) L I44 k45 n45) ∧
              (¬ ((I44 20 d 9) + (x_efv 2 i4)) ≤ (32 : Int32) →
                w_Run_trap (fun I50 k51 n51 =>
                  w_Run_act (fun L52 I53 k54 n54 =>
                    Q L52 I53 k54 n54) X PL nA d i4 ((x2 >>> ((8 : Int32) &&& 31))) L I50 k51 n51) X d (4 : Int32) L I44 k45 n45))) X d (3 : Int32) L I32 k31 n31))) i4 ((x2 >>> ((8 : Int32) &&& 31)))) X d (2 : Int32) L I k n))) d i4 L I
set_option maxRecDepth 100000 in
set_option maxHeartbeats 4000000 in
theorem c_Run_step {l : Launch} {g : x_G} {Y : x_Y} (hY : x_Y0 g Y) {nA : Nat} (hLs : x_Ls Y nA) (hT18 : ¬ x_ok Y 18 0) (hT19 : ¬ x_ok Y 19 0) {Fp : Nat} {PL : (Int32 → x_L → x_I → Nat → Nat → Prop) → Nat → Nat → Int32 → x_L → x_I → Nat → Nat → Prop} (hPL : ∀ {Q' : Int32 → x_L → x_I → Nat → Nat → Prop} {d' : Nat} {q1 : Int32} {L' : x_L} {I' : x_I} {k' n' : Nat}, x_ok Y 20 d' → PL Q' nA d' q1 L' I' k' n' → x_C l y_Run_plays Fp g [.ref (x_ad Y 20 d'), .int q1] Y L' I' k' n' (x_pI Y Q' x_nx)) {d : Nat} {a : Nat} (ok0_ : x_ok Y 20 d) (ok1_ : x_ok Y 23 a) {Q : x_L → x_I → Nat → Nat → Prop} {X : x_XT} {L : x_L} {I : x_I} {k n : Nat} (h : w_Run_step Q X PL nA d a L I k n) : x_C l y_Run_step (Fp + 9) g [.ref (x_ad Y 20 d), .ref (x_ad Y 23 a)] Y L I k n (x_pV Y (fun L' I' k' n' => Q L' I' k' n') X) := by
  refine x_mth k_659 ?_
  intro p e R s m below meth c hE hnm hexn hw hk1 hn1
  obtain ⟨hx, hb, hml, hr, hlk, hown, hK, htr, hF, hLo, hRc, hRs⟩ := id hE
  have hbd : x_bd k n k n := ⟨Nat.le_refl _, hk1, Nat.le_refl _, hn1⟩
  have hl := lv_entry ([.ref (x_ad Y 20 d), .ref (x_ad Y 23 a)]) (n := 5) (Nat.le_of_ble_eq_true rfl)
  generalize (lg_sl [.ref (x_ad Y 20 d), .ref (x_ad Y 23 a)] ++ List.replicate (5 - (lg_sl [.ref (x_ad Y 20 d), .ref (x_ad Y 23 a)]).length) Slot.unset).toArray = ls at hl ⊢
  have hl : lv_has ls 5 [(0, .ref (x_ad Y 20 d)), (1, .ref (x_ad Y 23 a))] := hl
  generalize s.heap = H at hw ⊢
  generalize ([] : List Loc) = locs at hw ⊢
  unfold w_Run_step at h
  refine lv_aload_n hx hb d_Run_step_0 rfl (lv_at hl 1 rfl) ?_
  refine x_getRN (t := 23) (i := a) (j := 1) hx hb hK hw hown ok1_ rfl (by decide) (by decide) (x_wdF hK k_419) (fun _ h => h) fk_7_1 (hY.r ok1_ rfl) d_Run_step_1 ?_
  have ok1 := hY.ok 1 ok1_ (t' := 24) (i' := a) rfl
  refine lv_aload_n hx hb d_Run_step_4 rfl (lv_at hl 0 rfl) ?_
  refine x_getI (t := 20) (i := d) (j := 10) hx hb hK hw hown ok0_ rfl (by decide) (by decide) (x_wd hK k_184 rfl) (fun _ h => h) fk_5_10 d_Run_step_5 ?_
  refine x_iald (t := 24) (i := a) hx hb hK hw ok1 rfl (hY.n ok1 rfl) h.1 d_Run_step_8 ?_
  replace h := h.2
  refine lv_topi (fun x2 e_x2 => ?_)
  replace h := h x2 e_x2
  refine lv_istore_n (lv' := [(2, .int x2), (0, .ref (x_ad Y 20 d)), (1, .ref (x_ad Y 23 a))]) hx hb d_Run_step_9 rfl hl (by decide) rfl (fun ls hl => ?_)
  refine lv_aload_n hx hb d_Run_step_10 rfl (lv_at hl 1 rfl) ?_
  refine x_getR (t := 20) (i := d) (j := 1) hx hb hK hw hown ok0_ rfl (by decide) (by decide) (x_wd hK k_174 rfl) (fun _ h => h) fk_5_1 (hY.r ok0_ rfl) d_Run_step_11 ?_
  have ok3 := hY.ok 1 ok0_ (t' := 14) (i' := 0) rfl
  refine lv_iload_n hx hb d_Run_step_14 rfl (lv_at hl 0 rfl) ?_
  refine lv_sipush (v := 255) hx hb d_Run_step_15 (by decide) ?_
  refine lv_iand hx hb d_Run_step_18 ?_
  obtain ⟨i4, e_i4⟩ : ∃ z : Nat, z = (x2 &&& (255 : Int32)).toNatClampNeg := ⟨_, rfl⟩
  have l_i4 : i4 < 30 := by rw [e_i4]; exact Nat.not_le.mp fun z => h.1 (Or.inr z)
  refine x_aald (t := 14) (i := 0) (a := g.2.2.2.2 i4) hx hb hK hw ok3 rfl (by decide) (by decide) (hY.n ok3 rfl) h.1 (by rw [← e_i4]; exact hY.2.2 ok3 i4 l_i4) d_Run_step_19 ?_
  replace h := h.2 i4 e_i4
  refine lv_astore_n (lv' := [(3, .ref (g.2.2.2.2 i4)), (2, .int x2), (0, .ref (x_ad Y 20 d)), (1, .ref (x_ad Y 23 a))]) hx hb d_Run_step_20 rfl hl (by decide) rfl (fun ls hl => ?_)
  refine lv_aload_n hx hb d_Run_step_21 rfl (lv_at hl 2 rfl) ?_
  refine lv_aload_n hx hb d_Run_step_22 rfl (lv_at hl 0 rfl) ?_
  refine x_goI (ls := ls) (rest := []) hE hw (c_Run_price hY ok0_ l_i4 h) (x_cd hK k_663) q_Run_price (by omega) (by omega) hl.1 (Nat.le_of_ble_eq_true rfl) hbd d_Run_step_23 (x_toV (As := [.ref (g.2.2.2.2 i4)]) (b := (x_ad Y 20 d)) hx hb hown hK (x_recv hK hw ok0_ rfl (by decide)) k_660 k_662 ks_8 ⟨_, x_cd hK k_663⟩ q_Run_price rfl rfl d_Run_step_23) (fun r5 L9 I9 k9 n9 H locs h hw hb9 => ?_) (fun _ _ _ _ _ _ _ h9 => h9.elim)
  obtain ⟨e1, e2, e3, e4, h⟩ := h
  rw [e1, e2] at hw
  rw [e3, e4]
  refine lv_istore (lv' := [(4, .int r5), (3, .ref (g.2.2.2.2 i4)), (2, .int x2), (0, .ref (x_ad Y 20 d)), (1, .ref (x_ad Y 23 a))]) hx hb d_Run_step_26 hl (by decide) rfl (fun ls hl => ?_)
  refine lv_iload hx hb d_Run_step_28 (lv_at hl 0 rfl) ?_
  refine lv_aload_n hx hb d_Run_step_30 rfl (lv_at hl 3 rfl) ?_
  refine x_getI (t := 20) (i := d) (j := 11) hx hb hK hw hown ok0_ rfl (by decide) (by decide) (x_wd hK k_185 rfl) (fun _ h => h) fk_5_11 d_Run_step_31 ?_
  refine lv_icmp_le (tgt := 42) hx hb d_Run_step_34 (by decide) (fun c6 => ?_) (fun c6 => ?_)
  · replace h := h.1 c6
    refine lv_aload_n hx hb d_Run_step_42 rfl (lv_at hl 3 rfl) ?_
    refine lv_dup hx hb d_Run_step_43 rfl ?_
    refine x_getI (t := 20) (i := d) (j := 11) hx hb hK hw hown ok0_ rfl (by decide) (by decide) (x_wd hK k_185 rfl) (fun _ h => h) fk_5_11 d_Run_step_44 ?_
    refine lv_iload hx hb d_Run_step_47 (lv_at hl 0 rfl) ?_
    refine lv_isub hx hb d_Run_step_49 ?_
    refine x_putI (t := 20) (i := d) (j := 11) hx hb hK hw hown ok0_ rfl (by decide) (by decide) (x_wd hK k_185 rfl) (fun _ h => h) rfl rfl d_Run_step_50 (fun I7 H locs e_I7 hw => ?_)
    replace h := h I7 e_I7
    refine lv_aload_n hx hb d_Run_step_53 rfl (lv_at hl 3 rfl) ?_
    refine x_getI (t := 20) (i := d) (j := 9) hx hb hK hw hown ok0_ rfl (by decide) (by decide) (x_wd hK k_183 rfl) (fun _ h => h) fk_5_9 d_Run_step_54 ?_
    refine lv_aload_n hx hb d_Run_step_57 rfl (lv_at hl 1 rfl) ?_
    refine lv_iload_n hx hb d_Run_step_58 rfl (lv_at hl 2 rfl) ?_
    refine lv_bipush (v := 8) hx hb d_Run_step_59 (by decide) ?_
    refine lv_ishr hx hb d_Run_step_61 ?_
    refine x_goI (ls := ls) (rest := [.int (I7 20 d 9)]) hE hw (c_Ins_needed hY l_i4 h) (x_cd hK k_701) q_Ins_needed (by omega) (by omega) hl.1 (Nat.le_of_ble_eq_true rfl) hbd d_Run_step_62 (x_toV (As := [.int ((x2 >>> ((8 : Int32) &&& 31)))]) (b := (g.2.2.2.2 i4)) hx hb hown hK (x_erecv hK hw l_i4) k_698 k_699 k_700 ⟨_, x_cd hK k_701⟩ q_Ins_needed rfl rfl d_Run_step_62) (fun r8 L9 I9 k9 n9 H locs h hw hb9 => ?_) (fun _ _ _ _ _ _ _ h9 => h9.elim)
    obtain ⟨e1, e2, e3, e4, h⟩ := h
    rw [e1, e2] at hw
    rw [e3, e4]
    refine lv_icmp_ge (tgt := 73) hx hb d_Run_step_65 (by decide) (fun c9 => ?_) (fun c9 => ?_)
    · replace h := h.1 c9
      refine lv_aload_n hx hb d_Run_step_73 rfl (lv_at hl 3 rfl) ?_
      refine x_getI (t := 20) (i := d) (j := 9) hx hb hK hw hown ok0_ rfl (by decide) (by decide) (x_wd hK k_183 rfl) (fun _ h => h) fk_5_9 d_Run_step_74 ?_
      refine lv_aload_n hx hb d_Run_step_77 rfl (lv_at hl 1 rfl) ?_
      refine x_egfN0 (i := i4) 2 hx hb hK hw hown l_i4 (x_wdF hK k_1056) d_Run_step_78 ?_
      refine lv_iadd hx hb d_Run_step_81 ?_
      refine lv_bipush (v := 32) hx hb d_Run_step_82 (by decide) ?_
      refine lv_icmp_le (tgt := 92) hx hb d_Run_step_84 (by decide) (fun c10 => ?_) (fun c10 => ?_)
      · replace h := h.1 c10
        refine lv_aload_n hx hb d_Run_step_92 rfl (lv_at hl 3 rfl) ?_
        refine lv_aload_n hx hb d_Run_step_93 rfl (lv_at hl 1 rfl) ?_
        refine lv_iload_n hx hb d_Run_step_94 rfl (lv_at hl 2 rfl) ?_
        refine lv_bipush (v := 8) hx hb d_Run_step_95 (by decide) ?_
        refine lv_ishr hx hb d_Run_step_97 ?_
        refine x_goV (ls := ls) (rest := []) hE hw (c_Run_act hY hLs hT18 hT19 hPL ok0_ l_i4 h) (x_cd hK k_705) q_Run_act (by omega) (by omega) hl.1 (Nat.le_of_ble_eq_true rfl) hbd d_Run_step_98 (x_toV (As := [.ref (g.2.2.2.2 i4), .int ((x2 >>> ((8 : Int32) &&& 31)))]) (b := (x_ad Y 20 d)) hx hb hown hK (x_recv hK hw ok0_ rfl (by decide)) k_702 k_704 ks_12 ⟨_, x_cd hK k_705⟩ q_Run_act rfl rfl d_Run_step_98) (fun L11 I12 k13 n13 H locs h hw hb9 => ?_) (fun kx L9 I9 k9 n9 H locs h hw hb9 => x_thr hlk (fun x h9 => by rw [hexn] at h9; cases h9) hw ⟨rfl, Or.inr ⟨kx, rfl, h⟩⟩ (hbd.tr hb9))
        replace hbd := hbd.tr hb9
        try dsimp only at h
        exact x_vret hx hb hr hlk hw ⟨rfl, Or.inl ⟨rfl, h⟩⟩ hbd d_Run_step_101
      · replace h := h.2 c10
        refine lv_aload_n hx hb d_Run_step_87 rfl (lv_at hl 3 rfl) ?_
        refine lv_iconst (v := 4) hx hb d_Run_step_88 (by decide) ?_
        refine x_goV (ls := ls) (rest := []) hE hw (c_Run_trap hY ok0_ h) (x_cd hK k_695) q_Run_trap (by omega) (by omega) hl.1 (Nat.le_of_ble_eq_true rfl) hbd d_Run_step_89 (x_toV (As := [.int (4 : Int32)]) (b := (x_ad Y 20 d)) hx hb hown hK (x_recv hK hw ok0_ rfl (by decide)) k_692 k_694 ks_11 ⟨_, x_cd hK k_695⟩ q_Run_trap rfl rfl d_Run_step_89) (fun L9 I14 k15 n15 H locs h hw hb9 => ?_) (fun kx L9 I9 k9 n9 H locs h hw hb9 => x_thr hlk (fun x h9 => by rw [hexn] at h9; cases h9) hw ⟨rfl, Or.inr ⟨kx, rfl, h⟩⟩ (hbd.tr hb9))
        obtain ⟨e1, h⟩ := h
        rw [e1] at hw
        replace hbd := hbd.tr hb9
        refine lv_aload_n hx hb d_Run_step_92 rfl (lv_at hl 3 rfl) ?_
        refine lv_aload_n hx hb d_Run_step_93 rfl (lv_at hl 1 rfl) ?_
        refine lv_iload_n hx hb d_Run_step_94 rfl (lv_at hl 2 rfl) ?_
        refine lv_bipush (v := 8) hx hb d_Run_step_95 (by decide) ?_
        refine lv_ishr hx hb d_Run_step_97 ?_
        refine x_goV (ls := ls) (rest := []) hE hw (c_Run_act hY hLs hT18 hT19 hPL ok0_ l_i4 h) (x_cd hK k_705) q_Run_act (by omega) (by omega) hl.1 (Nat.le_of_ble_eq_true rfl) hbd d_Run_step_98 (x_toV (As := [.ref (g.2.2.2.2 i4), .int ((x2 >>> ((8 : Int32) &&& 31)))]) (b := (x_ad Y 20 d)) hx hb hown hK (x_recv hK hw ok0_ rfl (by decide)) k_702 k_704 ks_12 ⟨_, x_cd hK k_705⟩ q_Run_act rfl rfl d_Run_step_98) (fun L16 I17 k18 n18 H locs h hw hb9 => ?_) (fun kx L9 I9 k9 n9 H locs h hw hb9 => x_thr hlk (fun x h9 => by rw [hexn] at h9; cases h9) hw ⟨rfl, Or.inr ⟨kx, rfl, h⟩⟩ (hbd.tr hb9))
        replace hbd := hbd.tr hb9
        try dsimp only at h
        exact x_vret hx hb hr hlk hw ⟨rfl, Or.inl ⟨rfl, h⟩⟩ hbd d_Run_step_101
    · replace h := h.2 c9
      refine lv_aload_n hx hb d_Run_step_68 rfl (lv_at hl 3 rfl) ?_
      refine lv_iconst (v := 3) hx hb d_Run_step_69 (by decide) ?_
      refine x_goV (ls := ls) (rest := []) hE hw (c_Run_trap hY ok0_ h) (x_cd hK k_695) q_Run_trap (by omega) (by omega) hl.1 (Nat.le_of_ble_eq_true rfl) hbd d_Run_step_70 (x_toV (As := [.int (3 : Int32)]) (b := (x_ad Y 20 d)) hx hb hown hK (x_recv hK hw ok0_ rfl (by decide)) k_692 k_694 ks_11 ⟨_, x_cd hK k_695⟩ q_Run_trap rfl rfl d_Run_step_70) (fun L9 I19 k20 n20 H locs h hw hb9 => ?_) (fun kx L9 I9 k9 n9 H locs h hw hb9 => x_thr hlk (fun x h9 => by rw [hexn] at h9; cases h9) hw ⟨rfl, Or.inr ⟨kx, rfl, h⟩⟩ (hbd.tr hb9))
      obtain ⟨e1, h⟩ := h
      rw [e1] at hw
      replace hbd := hbd.tr hb9
      refine lv_aload_n hx hb d_Run_step_73 rfl (lv_at hl 3 rfl) ?_
      refine x_getI (t := 20) (i := d) (j := 9) hx hb hK hw hown ok0_ rfl (by decide) (by decide) (x_wd hK k_183 rfl) (fun _ h => h) fk_5_9 d_Run_step_74 ?_
      refine lv_aload_n hx hb d_Run_step_77 rfl (lv_at hl 1 rfl) ?_
      refine x_egfN0 (i := i4) 2 hx hb hK hw hown l_i4 (x_wdF hK k_1056) d_Run_step_78 ?_
      refine lv_iadd hx hb d_Run_step_81 ?_
      refine lv_bipush (v := 32) hx hb d_Run_step_82 (by decide) ?_
      refine lv_icmp_le (tgt := 92) hx hb d_Run_step_84 (by decide) (fun c21 => ?_) (fun c21 => ?_)
      · replace h := h.1 c21
        refine lv_aload_n hx hb d_Run_step_92 rfl (lv_at hl 3 rfl) ?_
        refine lv_aload_n hx hb d_Run_step_93 rfl (lv_at hl 1 rfl) ?_
        refine lv_iload_n hx hb d_Run_step_94 rfl (lv_at hl 2 rfl) ?_
        refine lv_bipush (v := 8) hx hb d_Run_step_95 (by decide) ?_
        refine lv_ishr hx hb d_Run_step_97 ?_
        refine x_goV (ls := ls) (rest := []) hE hw (c_Run_act hY hLs hT18 hT19 hPL ok0_ l_i4 h) (x_cd hK k_705) q_Run_act (by omega) (by omega) hl.1 (Nat.le_of_ble_eq_true rfl) hbd d_Run_step_98 (x_toV (As := [.ref (g.2.2.2.2 i4), .int ((x2 >>> ((8 : Int32) &&& 31)))]) (b := (x_ad Y 20 d)) hx hb hown hK (x_recv hK hw ok0_ rfl (by decide)) k_702 k_704 ks_12 ⟨_, x_cd hK k_705⟩ q_Run_act rfl rfl d_Run_step_98) (fun L22 I23 k24 n24 H locs h hw hb9 => ?_) (fun kx L9 I9 k9 n9 H locs h hw hb9 => x_thr hlk (fun x h9 => by rw [hexn] at h9; cases h9) hw ⟨rfl, Or.inr ⟨kx, rfl, h⟩⟩ (hbd.tr hb9))
        replace hbd := hbd.tr hb9
        try dsimp only at h
        exact x_vret hx hb hr hlk hw ⟨rfl, Or.inl ⟨rfl, h⟩⟩ hbd d_Run_step_101
      · replace h := h.2 c21
        refine lv_aload_n hx hb d_Run_step_87 rfl (lv_at hl 3 rfl) ?_
        refine lv_iconst (v := 4) hx hb d_Run_step_88 (by decide) ?_
        refine x_goV (ls := ls) (rest := []) hE hw (c_Run_trap hY ok0_ h) (x_cd hK k_695) q_Run_trap (by omega) (by omega) hl.1 (Nat.le_of_ble_eq_true rfl) hbd d_Run_step_89 (x_toV (As := [.int (4 : Int32)]) (b := (x_ad Y 20 d)) hx hb hown hK (x_recv hK hw ok0_ rfl (by decide)) k_692 k_694 ks_11 ⟨_, x_cd hK k_695⟩ q_Run_trap rfl rfl d_Run_step_89) (fun L9 I25 k26 n26 H locs h hw hb9 => ?_) (fun kx L9 I9 k9 n9 H locs h hw hb9 => x_thr hlk (fun x h9 => by rw [hexn] at h9; cases h9) hw ⟨rfl, Or.inr ⟨kx, rfl, h⟩⟩ (hbd.tr hb9))
        obtain ⟨e1, h⟩ := h
        rw [e1] at hw
        replace hbd := hbd.tr hb9
        refine lv_aload_n hx hb d_Run_step_92 rfl (lv_at hl 3 rfl) ?_
        refine lv_aload_n hx hb d_Run_step_93 rfl (lv_at hl 1 rfl) ?_
        refine lv_iload_n hx hb d_Run_step_94 rfl (lv_at hl 2 rfl) ?_
        refine lv_bipush (v := 8) hx hb d_Run_step_95 (by decide) ?_
        refine lv_ishr hx hb d_Run_step_97 ?_
        refine x_goV (ls := ls) (rest := []) hE hw (c_Run_act hY hLs hT18 hT19 hPL ok0_ l_i4 h) (x_cd hK k_705) q_Run_act (by omega) (by omega) hl.1 (Nat.le_of_ble_eq_true rfl) hbd d_Run_step_98 (x_toV (As := [.ref (g.2.2.2.2 i4), .int ((x2 >>> ((8 : Int32) &&& 31)))]) (b := (x_ad Y 20 d)) hx hb hown hK (x_recv hK hw ok0_ rfl (by decide)) k_702 k_704 ks_12 ⟨_, x_cd hK k_705⟩ q_Run_act rfl rfl d_Run_step_98) (fun L27 I28 k29 n29 H locs h hw hb9 => ?_) (fun kx L9 I9 k9 n9 H locs h hw hb9 => x_thr hlk (fun x h9 => by rw [hexn] at h9; cases h9) hw ⟨rfl, Or.inr ⟨kx, rfl, h⟩⟩ (hbd.tr hb9))
        replace hbd := hbd.tr hb9
        try dsimp only at h
        exact x_vret hx hb hr hlk hw ⟨rfl, Or.inl ⟨rfl, h⟩⟩ hbd d_Run_step_101
  · replace h := h.2 c6
    refine lv_aload_n hx hb d_Run_step_37 rfl (lv_at hl 3 rfl) ?_
    refine lv_iconst (v := 2) hx hb d_Run_step_38 (by decide) ?_
    refine x_goV (ls := ls) (rest := []) hE hw (c_Run_trap hY ok0_ h) (x_cd hK k_695) q_Run_trap (by omega) (by omega) hl.1 (Nat.le_of_ble_eq_true rfl) hbd d_Run_step_39 (x_toV (As := [.int (2 : Int32)]) (b := (x_ad Y 20 d)) hx hb hown hK (x_recv hK hw ok0_ rfl (by decide)) k_692 k_694 ks_11 ⟨_, x_cd hK k_695⟩ q_Run_trap rfl rfl d_Run_step_39) (fun L9 I30 k31 n31 H locs h hw hb9 => ?_) (fun kx L9 I9 k9 n9 H locs h hw hb9 => x_thr hlk (fun x h9 => by rw [hexn] at h9; cases h9) hw ⟨rfl, Or.inr ⟨kx, rfl, h⟩⟩ (hbd.tr hb9))
    obtain ⟨e1, h⟩ := h
    rw [e1] at hw
    replace hbd := hbd.tr hb9
    refine lv_aload_n hx hb d_Run_step_42 rfl (lv_at hl 3 rfl) ?_
    refine lv_dup hx hb d_Run_step_43 rfl ?_
    refine x_getI (t := 20) (i := d) (j := 11) hx hb hK hw hown ok0_ rfl (by decide) (by decide) (x_wd hK k_185 rfl) (fun _ h => h) fk_5_11 d_Run_step_44 ?_
    refine lv_iload hx hb d_Run_step_47 (lv_at hl 0 rfl) ?_
    refine lv_isub hx hb d_Run_step_49 ?_
    refine x_putI (t := 20) (i := d) (j := 11) hx hb hK hw hown ok0_ rfl (by decide) (by decide) (x_wd hK k_185 rfl) (fun _ h => h) rfl rfl d_Run_step_50 (fun I32 H locs e_I32 hw => ?_)
    replace h := h I32 e_I32
    refine lv_aload_n hx hb d_Run_step_53 rfl (lv_at hl 3 rfl) ?_
    refine x_getI (t := 20) (i := d) (j := 9) hx hb hK hw hown ok0_ rfl (by decide) (by decide) (x_wd hK k_183 rfl) (fun _ h => h) fk_5_9 d_Run_step_54 ?_
    refine lv_aload_n hx hb d_Run_step_57 rfl (lv_at hl 1 rfl) ?_
    refine lv_iload_n hx hb d_Run_step_58 rfl (lv_at hl 2 rfl) ?_
    refine lv_bipush (v := 8) hx hb d_Run_step_59 (by decide) ?_
    refine lv_ishr hx hb d_Run_step_61 ?_
    refine x_goI (ls := ls) (rest := [.int (I32 20 d 9)]) hE hw (c_Ins_needed hY l_i4 h) (x_cd hK k_701) q_Ins_needed (by omega) (by omega) hl.1 (Nat.le_of_ble_eq_true rfl) hbd d_Run_step_62 (x_toV (As := [.int ((x2 >>> ((8 : Int32) &&& 31)))]) (b := (g.2.2.2.2 i4)) hx hb hown hK (x_erecv hK hw l_i4) k_698 k_699 k_700 ⟨_, x_cd hK k_701⟩ q_Ins_needed rfl rfl d_Run_step_62) (fun r33 L9 I9 k9 n9 H locs h hw hb9 => ?_) (fun _ _ _ _ _ _ _ h9 => h9.elim)
    obtain ⟨e1, e2, e3, e4, h⟩ := h
    rw [e1, e2] at hw
    rw [e3, e4]
    refine lv_icmp_ge (tgt := 73) hx hb d_Run_step_65 (by decide) (fun c34 => ?_) (fun c34 => ?_)
    · replace h := h.1 c34
      refine lv_aload_n hx hb d_Run_step_73 rfl (lv_at hl 3 rfl) ?_
      refine x_getI (t := 20) (i := d) (j := 9) hx hb hK hw hown ok0_ rfl (by decide) (by decide) (x_wd hK k_183 rfl) (fun _ h => h) fk_5_9 d_Run_step_74 ?_
      refine lv_aload_n hx hb d_Run_step_77 rfl (lv_at hl 1 rfl) ?_
      refine x_egfN0 (i := i4) 2 hx hb hK hw hown l_i4 (x_wdF hK k_1056) d_Run_step_78 ?_
      refine lv_iadd hx hb d_Run_step_81 ?_
      refine lv_bipush (v := 32) hx hb d_Run_step_82 (by decide) ?_
      refine lv_icmp_le (tgt := 92) hx hb d_Run_step_84 (by decide) (fun c35 => ?_) (fun c35 => ?_)
      · replace h := h.1 c35
        refine lv_aload_n hx hb d_Run_step_92 rfl (lv_at hl 3 rfl) ?_
        refine lv_aload_n hx hb d_Run_step_93 rfl (lv_at hl 1 rfl) ?_
        refine lv_iload_n hx hb d_Run_step_94 rfl (lv_at hl 2 rfl) ?_
        refine lv_bipush (v := 8) hx hb d_Run_step_95 (by decide) ?_
        refine lv_ishr hx hb d_Run_step_97 ?_
        refine x_goV (ls := ls) (rest := []) hE hw (c_Run_act hY hLs hT18 hT19 hPL ok0_ l_i4 h) (x_cd hK k_705) q_Run_act (by omega) (by omega) hl.1 (Nat.le_of_ble_eq_true rfl) hbd d_Run_step_98 (x_toV (As := [.ref (g.2.2.2.2 i4), .int ((x2 >>> ((8 : Int32) &&& 31)))]) (b := (x_ad Y 20 d)) hx hb hown hK (x_recv hK hw ok0_ rfl (by decide)) k_702 k_704 ks_12 ⟨_, x_cd hK k_705⟩ q_Run_act rfl rfl d_Run_step_98) (fun L36 I37 k38 n38 H locs h hw hb9 => ?_) (fun kx L9 I9 k9 n9 H locs h hw hb9 => x_thr hlk (fun x h9 => by rw [hexn] at h9; cases h9) hw ⟨rfl, Or.inr ⟨kx, rfl, h⟩⟩ (hbd.tr hb9))
        replace hbd := hbd.tr hb9
        try dsimp only at h
        exact x_vret hx hb hr hlk hw ⟨rfl, Or.inl ⟨rfl, h⟩⟩ hbd d_Run_step_101
      · replace h := h.2 c35
        refine lv_aload_n hx hb d_Run_step_87 rfl (lv_at hl 3 rfl) ?_
        refine lv_iconst (v := 4) hx hb d_Run_step_88 (by decide) ?_
        refine x_goV (ls := ls) (rest := []) hE hw (c_Run_trap hY ok0_ h) (x_cd hK k_695) q_Run_trap (by omega) (by omega) hl.1 (Nat.le_of_ble_eq_true rfl) hbd d_Run_step_89 (x_toV (As := [.int (4 : Int32)]) (b := (x_ad Y 20 d)) hx hb hown hK (x_recv hK hw ok0_ rfl (by decide)) k_692 k_694 ks_11 ⟨_, x_cd hK k_695⟩ q_Run_trap rfl rfl d_Run_step_89) (fun L9 I39 k40 n40 H locs h hw hb9 => ?_) (fun kx L9 I9 k9 n9 H locs h hw hb9 => x_thr hlk (fun x h9 => by rw [hexn] at h9; cases h9) hw ⟨rfl, Or.inr ⟨kx, rfl, h⟩⟩ (hbd.tr hb9))
        obtain ⟨e1, h⟩ := h
        rw [e1] at hw
        replace hbd := hbd.tr hb9
        refine lv_aload_n hx hb d_Run_step_92 rfl (lv_at hl 3 rfl) ?_
        refine lv_aload_n hx hb d_Run_step_93 rfl (lv_at hl 1 rfl) ?_
        refine lv_iload_n hx hb d_Run_step_94 rfl (lv_at hl 2 rfl) ?_
        refine lv_bipush (v := 8) hx hb d_Run_step_95 (by decide) ?_
        refine lv_ishr hx hb d_Run_step_97 ?_
        refine x_goV (ls := ls) (rest := []) hE hw (c_Run_act hY hLs hT18 hT19 hPL ok0_ l_i4 h) (x_cd hK k_705) q_Run_act (by omega) (by omega) hl.1 (Nat.le_of_ble_eq_true rfl) hbd d_Run_step_98 (x_toV (As := [.ref (g.2.2.2.2 i4), .int ((x2 >>> ((8 : Int32) &&& 31)))]) (b := (x_ad Y 20 d)) hx hb hown hK (x_recv hK hw ok0_ rfl (by decide)) k_702 k_704 ks_12 ⟨_, x_cd hK k_705⟩ q_Run_act rfl rfl d_Run_step_98) (fun L41 I42 k43 n43 H locs h hw hb9 => ?_) (fun kx L9 I9 k9 n9 H locs h hw hb9 => x_thr hlk (fun x h9 => by rw [hexn] at h9; cases h9) hw ⟨rfl, Or.inr ⟨kx, rfl, h⟩⟩ (hbd.tr hb9))
        replace hbd := hbd.tr hb9
        try dsimp only at h
        exact x_vret hx hb hr hlk hw ⟨rfl, Or.inl ⟨rfl, h⟩⟩ hbd d_Run_step_101
    · replace h := h.2 c34
      refine lv_aload_n hx hb d_Run_step_68 rfl (lv_at hl 3 rfl) ?_
      refine lv_iconst (v := 3) hx hb d_Run_step_69 (by decide) ?_
      refine x_goV (ls := ls) (rest := []) hE hw (c_Run_trap hY ok0_ h) (x_cd hK k_695) q_Run_trap (by omega) (by omega) hl.1 (Nat.le_of_ble_eq_true rfl) hbd d_Run_step_70 (x_toV (As := [.int (3 : Int32)]) (b := (x_ad Y 20 d)) hx hb hown hK (x_recv hK hw ok0_ rfl (by decide)) k_692 k_694 ks_11 ⟨_, x_cd hK k_695⟩ q_Run_trap rfl rfl d_Run_step_70) (fun L9 I44 k45 n45 H locs h hw hb9 => ?_) (fun kx L9 I9 k9 n9 H locs h hw hb9 => x_thr hlk (fun x h9 => by rw [hexn] at h9; cases h9) hw ⟨rfl, Or.inr ⟨kx, rfl, h⟩⟩ (hbd.tr hb9))
      obtain ⟨e1, h⟩ := h
      rw [e1] at hw
      replace hbd := hbd.tr hb9
      refine lv_aload_n hx hb d_Run_step_73 rfl (lv_at hl 3 rfl) ?_
      refine x_getI (t := 20) (i := d) (j := 9) hx hb hK hw hown ok0_ rfl (by decide) (by decide) (x_wd hK k_183 rfl) (fun _ h => h) fk_5_9 d_Run_step_74 ?_
      refine lv_aload_n hx hb d_Run_step_77 rfl (lv_at hl 1 rfl) ?_
      refine x_egfN0 (i := i4) 2 hx hb hK hw hown l_i4 (x_wdF hK k_1056) d_Run_step_78 ?_
      refine lv_iadd hx hb d_Run_step_81 ?_
      refine lv_bipush (v := 32) hx hb d_Run_step_82 (by decide) ?_
      refine lv_icmp_le (tgt := 92) hx hb d_Run_step_84 (by decide) (fun c46 => ?_) (fun c46 => ?_)
      · replace h := h.1 c46
        refine lv_aload_n hx hb d_Run_step_92 rfl (lv_at hl 3 rfl) ?_
        refine lv_aload_n hx hb d_Run_step_93 rfl (lv_at hl 1 rfl) ?_
        refine lv_iload_n hx hb d_Run_step_94 rfl (lv_at hl 2 rfl) ?_
        refine lv_bipush (v := 8) hx hb d_Run_step_95 (by decide) ?_
        refine lv_ishr hx hb d_Run_step_97 ?_
        refine x_goV (ls := ls) (rest := []) hE hw (c_Run_act hY hLs hT18 hT19 hPL ok0_ l_i4 h) (x_cd hK k_705) q_Run_act (by omega) (by omega) hl.1 (Nat.le_of_ble_eq_true rfl) hbd d_Run_step_98 (x_toV (As := [.ref (g.2.2.2.2 i4), .int ((x2 >>> ((8 : Int32) &&& 31)))]) (b := (x_ad Y 20 d)) hx hb hown hK (x_recv hK hw ok0_ rfl (by decide)) k_702 k_704 ks_12 ⟨_, x_cd hK k_705⟩ q_Run_act rfl rfl d_Run_step_98) (fun L47 I48 k49 n49 H locs h hw hb9 => ?_) (fun kx L9 I9 k9 n9 H locs h hw hb9 => x_thr hlk (fun x h9 => by rw [hexn] at h9; cases h9) hw ⟨rfl, Or.inr ⟨kx, rfl, h⟩⟩ (hbd.tr hb9))
        replace hbd := hbd.tr hb9
        try dsimp only at h
        exact x_vret hx hb hr hlk hw ⟨rfl, Or.inl ⟨rfl, h⟩⟩ hbd d_Run_step_101
      · replace h := h.2 c46
        refine lv_aload_n hx hb d_Run_step_87 rfl (lv_at hl 3 rfl) ?_
        refine lv_iconst (v := 4) hx hb d_Run_step_88 (by decide) ?_
        refine x_goV (ls := ls) (rest := []) hE hw (c_Run_trap hY ok0_ h) (x_cd hK k_695) q_Run_trap (by omega) (by omega) hl.1 (Nat.le_of_ble_eq_true rfl) hbd d_Run_step_89 (x_toV (As := [.int (4 : Int32)]) (b := (x_ad Y 20 d)) hx hb hown hK (x_recv hK hw ok0_ rfl (by decide)) k_692 k_694 ks_11 ⟨_, x_cd hK k_695⟩ q_Run_trap rfl rfl d_Run_step_89) (fun L9 I50 k51 n51 H locs h hw hb9 => ?_) (fun kx L9 I9 k9 n9 H locs h hw hb9 => x_thr hlk (fun x h9 => by rw [hexn] at h9; cases h9) hw ⟨rfl, Or.inr ⟨kx, rfl, h⟩⟩ (hbd.tr hb9))
        obtain ⟨e1, h⟩ := h
        rw [e1] at hw
        replace hbd := hbd.tr hb9
        refine lv_aload_n hx hb d_Run_step_92 rfl (lv_at hl 3 rfl) ?_
        refine lv_aload_n hx hb d_Run_step_93 rfl (lv_at hl 1 rfl) ?_
        refine lv_iload_n hx hb d_Run_step_94 rfl (lv_at hl 2 rfl) ?_
        refine lv_bipush (v := 8) hx hb d_Run_step_95 (by decide) ?_
        refine lv_ishr hx hb d_Run_step_97 ?_
        refine x_goV (ls := ls) (rest := []) hE hw (c_Run_act hY hLs hT18 hT19 hPL ok0_ l_i4 h) (x_cd hK k_705) q_Run_act (by omega) (by omega) hl.1 (Nat.le_of_ble_eq_true rfl) hbd d_Run_step_98 (x_toV (As := [.ref (g.2.2.2.2 i4), .int ((x2 >>> ((8 : Int32) &&& 31)))]) (b := (x_ad Y 20 d)) hx hb hown hK (x_recv hK hw ok0_ rfl (by decide)) k_702 k_704 ks_12 ⟨_, x_cd hK k_705⟩ q_Run_act rfl rfl d_Run_step_98) (fun L52 I53 k54 n54 H locs h hw hb9 => ?_) (fun kx L9 I9 k9 n9 H locs h hw hb9 => x_thr hlk (fun x h9 => by rw [hexn] at h9; cases h9) hw ⟨rfl, Or.inr ⟨kx, rfl, h⟩⟩ (hbd.tr hb9))
        replace hbd := hbd.tr hb9
        try dsimp only at h
        exact x_vret hx hb hr hlk hw ⟨rfl, Or.inl ⟨rfl, h⟩⟩ hbd d_Run_step_101
def w_Run_goOn_20 (Q : x_L → x_I → Nat → Nat → Prop) (X : x_XT) (PL : (Int32 → x_L → x_I → Nat → Nat → Prop) → Nat → Nat → Int32 → x_L → x_I → Nat → Nat → Prop) (nA : Nat) (d : Nat) (a3 : Nat) : Nat → x_L → x_I → Nat → Nat → Prop
  | 0, _, _, _, _ => False
  | fu + 1, L, I, ka, na =>
    ((¬ (I 20 d 13) = (-1 : Int32) →
      Q L I ka na) ∧
    ((I 20 d 13) = (-1 : Int32) →
      w_Acc_length (fun r6 =>
        ((¬ (I 20 d 10) = r6 →
          w_Run_step (fun L8 I9 k10 n10 =>
            w_Run_goOn_20 Q X PL nA d a3 fu L8 I9 k10 n10) X PL nA d a3 L I ka na) ∧
        ((I 20 d 10) = r6 →
          w_Run_ends (fun I11 =>
            w_Run_goOn_20 Q X PL nA d a3 fu L I11 ka na) d (0 : Int32) (0 : Int32) I))) a3 I))
def w_Run_goOn (Q : x_L → x_I → Nat → Nat → Prop) (X : x_XT) (PL : (Int32 → x_L → x_I → Nat → Nat → Prop) → Nat → Nat → Int32 → x_L → x_I → Nat → Nat → Prop) (nA : Nat) (d : Nat) (L : x_L) (I : x_I) (k n : Nat) : Prop :=
  ∃ a3 : Nat, a3 < nA ∧ (I 20 d 4) = nI a3 ∧ I 2 0 1 = nI nA ∧
  ∃ fu : Nat, w_Run_goOn_20 Q X PL nA d a3 fu L I k n
set_option maxRecDepth 100000 in
set_option maxHeartbeats 4000000 in
theorem c_Run_goOn_20 {l : Launch} {g : x_G} {Y : x_Y} {p : Program} {e : Env} {R : Room} {s : State} {m : MethodId} {args : Array Value} {below : List Frame} {meth : Method} {c : Code} {k n Fp : Nat} (hE : x_E l g p e R s m meth c "CallLedger$Run" prog_6_method_14_code 2 none (Fp + 10) k n) (hexn : c.exceptionTable.toList = []) (hY : x_Y0 g Y) {nA : Nat} (hLs : x_Ls Y nA) (hT18 : ¬ x_ok Y 18 0) (hT19 : ¬ x_ok Y 19 0) {PL : (Int32 → x_L → x_I → Nat → Nat → Prop) → Nat → Nat → Int32 → x_L → x_I → Nat → Nat → Prop} (hPL : ∀ {Q' : Int32 → x_L → x_I → Nat → Nat → Prop} {d' : Nat} {q1 : Int32} {L' : x_L} {I' : x_I} {k' n' : Nat}, x_ok Y 20 d' → PL Q' nA d' q1 L' I' k' n' → x_C l y_Run_plays Fp g [.ref (x_ad Y 20 d'), .int q1] Y L' I' k' n' (x_pI Y Q' x_nx)) {d : Nat} (ok0_ : x_ok Y 20 d) {a3 : Nat} (okx_23_a3 : x_ok Y 23 a3) {Q : x_L → x_I → Nat → Nat → Prop} {X : x_XT} :
    ∀ (fu : Nat) (L : x_L) (I : x_I) (ka na : Nat) (H : Heap) (locs : List Loc) (ls : Array Slot), w_Run_goOn_20 Q X PL nA d a3 fu L I ka na → x_WL g Y L I H locs → x_bd k n ka na → lv_has ls 2 [(0, .ref (x_ad Y 20 d)), (1, .ref (x_ad Y 23 a3))] → W p l e R s m args below meth c H locs (ka - k) (na - n) (x_Q g below s k n (x_pV Y (fun L' I' k' n' => Q L' I' k' n') X)) (F0 m 20 ls []) := by
  obtain ⟨hx, hb, hml, hr, hlk, hown, hK, htr, hF, hLo, hRc, hRs⟩ := id hE
  intro fu
  induction fu with
  | zero =>
    intro L I ka na H locs ls h
    exact h.elim
  | succ fu ih =>
    intro L I ka na H locs ls h hw hbd hl
    unfold w_Run_goOn_20 at h
    refine lv_aload_n hx hb d_Run_goOn_20 rfl (lv_at hl 0 rfl) ?_
    refine x_getI (t := 20) (i := d) (j := 13) hx hb hK hw hown ok0_ rfl (by decide) (by decide) (x_wd hK k_189 rfl) (fun _ h => h) fk_5_13 d_Run_goOn_21 ?_
    refine lv_iconst (v := (-1)) hx hb d_Run_goOn_24 (by decide) ?_
    refine lv_icmp_ne (tgt := 56) hx hb d_Run_goOn_25 (by decide) (fun c5 => ?_) (fun c5 => ?_)
    · replace h := h.1 c5
      exact x_vret hx hb hr hlk hw ⟨rfl, Or.inl ⟨rfl, h⟩⟩ hbd d_Run_goOn_56
    · replace h := h.2 c5
      refine lv_aload_n hx hb d_Run_goOn_28 rfl (lv_at hl 0 rfl) ?_
      refine x_getI (t := 20) (i := d) (j := 10) hx hb hK hw hown ok0_ rfl (by decide) (by decide) (x_wd hK k_184 rfl) (fun _ h => h) fk_5_10 d_Run_goOn_29 ?_
      refine lv_aload_n hx hb d_Run_goOn_32 rfl (lv_at hl 1 rfl) ?_
      refine x_goI (ls := ls) (rest := [.int (I 20 d 10)]) hE hw (c_Acc_length hY okx_23_a3 h) (x_cd hK k_651) q_Acc_length (by omega) (by omega) hl.1 (Nat.le_of_ble_eq_true rfl) hbd d_Run_goOn_33 (x_toV (As := []) (b := (x_ad Y 23 a3)) hx hb hown hK (x_recv hK hw okx_23_a3 rfl (by decide)) k_648 k_649 k_650 ⟨_, x_cd hK k_651⟩ q_Acc_length rfl rfl d_Run_goOn_33) (fun r6 L9 I9 k9 n9 H locs h hw hb9 => ?_) (fun _ _ _ _ _ _ _ h9 => h9.elim)
      obtain ⟨e1, e2, e3, e4, h⟩ := h
      rw [e1, e2] at hw
      rw [e3, e4]
      refine lv_icmp_ne (tgt := 48) hx hb d_Run_goOn_36 (by decide) (fun c7 => ?_) (fun c7 => ?_)
      · replace h := h.1 c7
        refine lv_aload_n hx hb d_Run_goOn_48 rfl (lv_at hl 0 rfl) ?_
        refine lv_aload_n hx hb d_Run_goOn_49 rfl (lv_at hl 1 rfl) ?_
        refine x_goV (ls := ls) (rest := []) hE hw (c_Run_step hY hLs hT18 hT19 hPL ok0_ okx_23_a3 h) (x_cd hK k_659) q_Run_step (by omega) (by omega) hl.1 (Nat.le_of_ble_eq_true rfl) hbd d_Run_goOn_50 (x_toV (As := [.ref (x_ad Y 23 a3)]) (b := (x_ad Y 20 d)) hx hb hown hK (x_recv hK hw ok0_ rfl (by decide)) k_656 k_658 ks_7 ⟨_, x_cd hK k_659⟩ q_Run_step rfl rfl d_Run_goOn_50) (fun L8 I9 k10 n10 H locs h hw hb9 => ?_) (fun kx L9 I9 k9 n9 H locs h hw hb9 => x_thr hlk (fun x h9 => by rw [hexn] at h9; cases h9) hw ⟨rfl, Or.inr ⟨kx, rfl, h⟩⟩ (hbd.tr hb9))
        replace hbd := hbd.tr hb9
        try dsimp only at h
        refine lv_goto (tgt := 20) hx hb d_Run_goOn_53 (by decide) ?_
        exact ih L8 I9 k10 n10 H locs ls h hw hbd (lv_sub hl [0, 1] rfl)
      · replace h := h.2 c7
        refine lv_aload_n hx hb d_Run_goOn_39 rfl (lv_at hl 0 rfl) ?_
        refine lv_iconst (v := 0) hx hb d_Run_goOn_40 (by decide) ?_
        refine lv_iconst (v := 0) hx hb d_Run_goOn_41 (by decide) ?_
        refine x_goV (ls := ls) (rest := []) hE hw (c_Run_ends hY ok0_ h) (x_cd hK k_655) q_Run_ends (by omega) (by omega) hl.1 (Nat.le_of_ble_eq_true rfl) hbd d_Run_goOn_42 (x_toV (As := [.int (0 : Int32), .int (0 : Int32)]) (b := (x_ad Y 20 d)) hx hb hown hK (x_recv hK hw ok0_ rfl (by decide)) k_652 k_654 ks_6 ⟨_, x_cd hK k_655⟩ q_Run_ends rfl rfl d_Run_goOn_42) (fun L9 I11 k9 n9 H locs h hw hb9 => ?_) (fun _ _ _ _ _ _ _ h9 => h9.elim)
        obtain ⟨e1, e3, e4, h⟩ := h
        rw [e1] at hw
        rw [e3, e4]
        refine lv_goto (tgt := 20) hx hb d_Run_goOn_45 (by decide) ?_
        exact ih L I11 ka na H locs ls h hw hbd (lv_sub hl [0, 1] rfl)
set_option maxRecDepth 100000 in
set_option maxHeartbeats 4000000 in
theorem c_Run_goOn {l : Launch} {g : x_G} {Y : x_Y} (hY : x_Y0 g Y) {nA : Nat} (hLs : x_Ls Y nA) (hT18 : ¬ x_ok Y 18 0) (hT19 : ¬ x_ok Y 19 0) {Fp : Nat} {PL : (Int32 → x_L → x_I → Nat → Nat → Prop) → Nat → Nat → Int32 → x_L → x_I → Nat → Nat → Prop} (hPL : ∀ {Q' : Int32 → x_L → x_I → Nat → Nat → Prop} {d' : Nat} {q1 : Int32} {L' : x_L} {I' : x_I} {k' n' : Nat}, x_ok Y 20 d' → PL Q' nA d' q1 L' I' k' n' → x_C l y_Run_plays Fp g [.ref (x_ad Y 20 d'), .int q1] Y L' I' k' n' (x_pI Y Q' x_nx)) {d : Nat} (ok0_ : x_ok Y 20 d) {Q : x_L → x_I → Nat → Nat → Prop} {X : x_XT} {L : x_L} {I : x_I} {k n : Nat} (h : w_Run_goOn Q X PL nA d L I k n) : x_C l y_Run_goOn (Fp + 10) g [.ref (x_ad Y 20 d)] Y L I k n (x_pV Y (fun L' I' k' n' => Q L' I' k' n') X) := by
  refine x_mth k_644 ?_
  intro p e R s m below meth c hE hnm hexn hw hk1 hn1
  obtain ⟨hx, hb, hml, hr, hlk, hown, hK, htr, hF, hLo, hRc, hRs⟩ := id hE
  have hbd : x_bd k n k n := ⟨Nat.le_refl _, hk1, Nat.le_refl _, hn1⟩
  have hl := lv_entry ([.ref (x_ad Y 20 d)]) (n := 2) (Nat.le_of_ble_eq_true rfl)
  generalize (lg_sl [.ref (x_ad Y 20 d)] ++ List.replicate (2 - (lg_sl [.ref (x_ad Y 20 d)]).length) Slot.unset).toArray = ls at hl ⊢
  have hl : lv_has ls 2 [(0, .ref (x_ad Y 20 d))] := hl
  generalize s.heap = H at hw ⊢
  generalize ([] : List Loc) = locs at hw ⊢
  unfold w_Run_goOn at h
  refine lv_aload_n hx hb d_Run_goOn_0 rfl (lv_at hl 0 rfl) ?_
  refine x_getR (t := 20) (i := d) (j := 0) hx hb hK hw hown ok0_ rfl (by decide) (by decide) (x_wd hK k_173 rfl) (fun _ h => h) fk_5_0 (hY.r ok0_ rfl) d_Run_goOn_1 ?_
  have ok1 := hY.ok 0 ok0_ (t' := 1) (i' := 0) rfl
  refine x_getRN (t := 1) (i := 0) (j := 0) hx hb hK hw hown ok1 rfl (by decide) (by decide) (x_wdF hK k_130) (fun _ h => h) fk_1_0 (hY.r ok1 rfl) d_Run_goOn_4 ?_
  have ok2 := hY.ok 0 ok1 (t' := 2) (i' := 0) rfl
  refine lv_aload_n hx hb d_Run_goOn_7 rfl (lv_at hl 0 rfl) ?_
  refine x_getI (t := 20) (i := d) (j := 4) hx hb hK hw hown ok0_ rfl (by decide) (by decide) (x_wd hK k_177 rfl) (fun _ h => h) fk_5_4 d_Run_goOn_8 ?_
  obtain ⟨a3, l_a3, e_a3, hsz, h⟩ := h
  refine x_lget (a := a3) (rest := []) hE hw hLs ok2 k_646 (by omega) hl.1 (Nat.le_of_ble_eq_true rfl) hbd l_a3 e_a3 hsz k_647 d_Run_goOn_11 d_Run_goOn_16 (fun H locs hw => ?_)
  have ok4 := (hLs (Nat.lt_of_le_of_lt (Nat.zero_le _) l_a3)).2.2.2.2 a3 l_a3 |>.2
  refine lv_astore_n (lv' := [(1, .ref (x_ad Y 23 a3)), (0, .ref (x_ad Y 20 d))]) hx hb d_Run_goOn_19 rfl hl (by decide) rfl (fun ls hl => ?_)
  obtain ⟨fu, h⟩ := h
  exact c_Run_goOn_20 hE hexn hY hLs hT18 hT19 hPL ok0_ ok4 fu L I k n H locs ls h hw hbd (lv_sub hl [1, 0] rfl)
def w_Run_plays (Q : Int32 → x_L → x_I → Nat → Nat → Prop) (PL : (Int32 → x_L → x_I → Nat → Nat → Prop) → Nat → Nat → Int32 → x_L → x_I → Nat → Nat → Prop) (nA : Nat) (d : Nat) (p1 : Int32) (L : x_L) (I : x_I) (k n : Nat) : Prop :=
  ∀ x3 : Int32, x3 = (I 8 0 4) →
  ∀ x4 : Int32, x4 = (I 1 0 4) →
  ∀ I5 : x_I, I5 = x_u I 20 d 11 p1 →
  w_Book_move (fun I6 =>
    w_Run_goOn (fun L7 I8 k9 n9 =>
      (((I8 20 d 13) = 0 →
        ((¬ (I8 20 d 13) = 0 →
          Q (0 : Int32) L7 I8 k9 n9) ∧
        ((I8 20 d 13) = 0 →
          Q (1 : Int32) L7 I8 k9 n9))) ∧
      (¬ (I8 20 d 13) = 0 →
        w_Book_undo (fun L12 I13 k14 n14 =>
          ((¬ (I13 20 d 13) = 0 →
            Q (0 : Int32) L12 I13 k14 n14) ∧
          ((I13 20 d 13) = 0 →
            Q (1 : Int32) L12 I13 k14 n14))) nA x3 x4 L7 I8 k9 n9))) 
    (fun kx L9 I9 k9 n9 =>
      (kx = 2 →
        ∀ I16 : x_I, I16 = x_u I9 20 d 11 (0 : Int32) →
        (((I16 20 d 13) = 0 →
          ((¬ (I16 20 d 13) = 0 →
            Q (0 : Int32) L9 I16 k9 n9) ∧
          ((I16 20 d 13) = 0 →
            Q (1 : Int32) L9 I16 k9 n9))) ∧
        (¬ (I16 20 d 13) = 0 →
          w_Book_undo (fun L19 I20 k21 n21 =>
            ((¬ (I20 20 d 13) = 0 →
              Q (0 : Int32) L19 I20 k21 n21) ∧
            ((I20 20 d 13) = 0 →
              Q (1 : Int32) L19 I20 k21 n21))) nA x3 x4 L9 I16 k9 n9))) ∧
      (¬ kx = 2 →  False)) PL nA d L I6 k n) nA (I5 20 d 5) (I5 20 d 4) (I5 20 d 6) I5
set_option maxRecDepth 100000 in
set_option maxHeartbeats 4000000 in
theorem c_Run_plays {l : Launch} {g : x_G} {Y : x_Y} (hY : x_Y0 g Y) {nA : Nat} (hLs : x_Ls Y nA) (hT18 : ¬ x_ok Y 18 0) (hT19 : ¬ x_ok Y 19 0) {Fp : Nat} {PL : (Int32 → x_L → x_I → Nat → Nat → Prop) → Nat → Nat → Int32 → x_L → x_I → Nat → Nat → Prop} (hPL : ∀ {Q' : Int32 → x_L → x_I → Nat → Nat → Prop} {d' : Nat} {q1 : Int32} {L' : x_L} {I' : x_I} {k' n' : Nat}, x_ok Y 20 d' → PL Q' nA d' q1 L' I' k' n' → x_C l y_Run_plays Fp g [.ref (x_ad Y 20 d'), .int q1] Y L' I' k' n' (x_pI Y Q' x_nx)) {d : Nat} {p1 : Int32} (ok0_ : x_ok Y 20 d) {Q : Int32 → x_L → x_I → Nat → Nat → Prop} {L : x_L} {I : x_I} {k n : Nat} (h : w_Run_plays Q PL nA d p1 L I k n) : x_C l y_Run_plays (Fp + 11) g [.ref (x_ad Y 20 d), .int p1] Y L I k n (x_pI Y (fun v L' I' k' n' => Q v L' I' k' n') x_nx) := by
  refine x_mthW k_624 ?_
  intro p e R s m below meth c hE hnm hhn hw hk1 hn1
  obtain ⟨hx, hb, hml, hr, hlk, hown, hK, htr, hF, hLo, hRc, hRs⟩ := id hE
  have hbd : x_bd k n k n := ⟨Nat.le_refl _, hk1, Nat.le_refl _, hn1⟩
  have hl := lv_entry ([.ref (x_ad Y 20 d), .int p1]) (n := 5) (Nat.le_of_ble_eq_true rfl)
  generalize (lg_sl [.ref (x_ad Y 20 d), .int p1] ++ List.replicate (5 - (lg_sl [.ref (x_ad Y 20 d), .int p1]).length) Slot.unset).toArray = ls at hl ⊢
  have hl : lv_has ls 5 [(0, .ref (x_ad Y 20 d)), (1, .int p1)] := hl
  generalize s.heap = H at hw ⊢
  generalize ([] : List Loc) = locs at hw ⊢
  unfold w_Run_plays at h
  refine lv_aload_n hx hb d_Run_plays_0 rfl (lv_at hl 0 rfl) ?_
  refine x_getR (t := 20) (i := d) (j := 0) hx hb hK hw hown ok0_ rfl (by decide) (by decide) (x_wd hK k_173 rfl) (fun _ h => h) fk_5_0 (hY.r ok0_ rfl) d_Run_plays_1 ?_
  have ok1 := hY.ok 0 ok0_ (t' := 1) (i' := 0) rfl
  refine x_getRN (t := 1) (i := 0) (j := 2) hx hb hK hw hown ok1 rfl (by decide) (by decide) (x_wdF hK k_136) (fun _ h => h) fk_1_2 (hY.r ok1 rfl) d_Run_plays_4 ?_
  have ok2 := hY.ok 2 ok1 (t' := 8) (i' := 0) rfl
  refine x_getIN (t := 8) (i := 0) (j := 4) hx hb hK hw hown ok2 rfl (by decide) (by decide) (x_wdF hK k_115) (fun _ h => h) fk_4_4 d_Run_plays_7 ?_
  refine lv_topi (fun x3 e_x3 => ?_)
  replace h := h x3 e_x3
  refine lv_istore_n (lv' := [(2, .int x3), (0, .ref (x_ad Y 20 d)), (1, .int p1)]) hx hb d_Run_plays_10 rfl hl (by decide) rfl (fun ls hl => ?_)
  refine lv_aload_n hx hb d_Run_plays_11 rfl (lv_at hl 1 rfl) ?_
  refine x_getR (t := 20) (i := d) (j := 0) hx hb hK hw hown ok0_ rfl (by decide) (by decide) (x_wd hK k_173 rfl) (fun _ h => h) fk_5_0 (hY.r ok0_ rfl) d_Run_plays_12 ?_
  refine x_getIN (t := 1) (i := 0) (j := 4) hx hb hK hw hown ok1 rfl (by decide) (by decide) (x_wdF hK k_141) (fun _ h => h) fk_1_4 d_Run_plays_15 ?_
  refine lv_topi (fun x4 e_x4 => ?_)
  replace h := h x4 e_x4
  refine lv_istore_n (lv' := [(3, .int x4), (2, .int x3), (0, .ref (x_ad Y 20 d)), (1, .int p1)]) hx hb d_Run_plays_18 rfl hl (by decide) rfl (fun ls hl => ?_)
  refine lv_aload_n hx hb d_Run_plays_19 rfl (lv_at hl 2 rfl) ?_
  refine lv_iload_n hx hb d_Run_plays_20 rfl (lv_at hl 3 rfl) ?_
  refine x_putI (t := 20) (i := d) (j := 11) hx hb hK hw hown ok0_ rfl (by decide) (by decide) (x_wd hK k_185 rfl) (fun _ h => h) rfl rfl d_Run_plays_21 (fun I5 H locs e_I5 hw => ?_)
  replace h := h I5 e_I5
  refine lv_aload_n hx hb d_Run_plays_24 rfl (lv_at hl 2 rfl) ?_
  refine x_getR (t := 20) (i := d) (j := 0) hx hb hK hw hown ok0_ rfl (by decide) (by decide) (x_wd hK k_173 rfl) (fun _ h => h) fk_5_0 (hY.r ok0_ rfl) d_Run_plays_25 ?_
  refine lv_aload_n hx hb d_Run_plays_28 rfl (lv_at hl 2 rfl) ?_
  refine x_getI (t := 20) (i := d) (j := 5) hx hb hK hw hown ok0_ rfl (by decide) (by decide) (x_wd hK k_178 rfl) (fun _ h => h) fk_5_5 d_Run_plays_29 ?_
  refine lv_aload_n hx hb d_Run_plays_32 rfl (lv_at hl 2 rfl) ?_
  refine x_getI (t := 20) (i := d) (j := 4) hx hb hK hw hown ok0_ rfl (by decide) (by decide) (x_wd hK k_177 rfl) (fun _ h => h) fk_5_4 d_Run_plays_33 ?_
  refine lv_aload_n hx hb d_Run_plays_36 rfl (lv_at hl 2 rfl) ?_
  refine x_getI (t := 20) (i := d) (j := 6) hx hb hK hw hown ok0_ rfl (by decide) (by decide) (x_wd hK k_179 rfl) (fun _ h => h) fk_5_6 d_Run_plays_37 ?_
  refine x_goV (ls := ls) (rest := []) hE hw (c_Book_move hY hLs ok1 h) (x_cd hK k_629) q_Book_move (by omega) (by omega) hl.1 (Nat.le_of_ble_eq_true rfl) hbd d_Run_plays_40 (x_toV (As := [.int (I5 20 d 5), .int (I5 20 d 4), .int (I5 20 d 6)]) (b := (x_ad Y 1 0)) hx hb hown hK (x_recv hK hw ok1 rfl (by decide)) k_626 k_627 k_628 ⟨_, x_cd hK k_629⟩ q_Book_move rfl rfl d_Run_plays_40) (fun L9 I6 k9 n9 H locs h hw hb9 => ?_) (fun _ _ _ _ _ _ _ h9 => h9.elim)
  obtain ⟨e1, e3, e4, h⟩ := h
  rw [e1] at hw
  rw [e3, e4]
  refine lv_aload_n hx hb d_Run_plays_43 rfl (lv_at hl 2 rfl) ?_
  refine x_goV (ls := ls) (rest := []) hE hw (c_Run_goOn hY hLs hT18 hT19 hPL ok0_ h) (x_cd hK k_644) q_Run_goOn (by omega) (by omega) hl.1 (Nat.le_of_ble_eq_true rfl) hbd d_Run_plays_44 (x_toV (As := []) (b := (x_ad Y 20 d)) hx hb hown hK (x_recv hK hw ok0_ rfl (by decide)) k_641 k_643 ks_5 ⟨_, x_cd hK k_644⟩ q_Run_goOn rfl rfl d_Run_plays_44) (fun L7 I8 k9 n9 H locs h hw hb9 => ?_) (fun kx L9 I9 k9 n9 H locs h hw hb9 => ?_)
  · replace hbd := hbd.tr hb9
    try dsimp only at h
    refine lv_goto (tgt := 57) hx hb d_Run_plays_47 (by decide) ?_
    refine lv_aload_n hx hb d_Run_plays_57 rfl (lv_at hl 2 rfl) ?_
    refine x_getI (t := 20) (i := d) (j := 13) hx hb hK hw hown ok0_ rfl (by decide) (by decide) (x_wd hK k_189 rfl) (fun _ h => h) fk_5_13 d_Run_plays_58 ?_
    refine lv_if_eq (tgt := 73) hx hb d_Run_plays_61 (by decide) (fun c10 => ?_) (fun c10 => ?_)
    · replace h := h.1 c10
      refine lv_aload_n hx hb d_Run_plays_73 rfl (lv_at hl 2 rfl) ?_
      refine x_getI (t := 20) (i := d) (j := 13) hx hb hK hw hown ok0_ rfl (by decide) (by decide) (x_wd hK k_189 rfl) (fun _ h => h) fk_5_13 d_Run_plays_74 ?_
      refine lv_if_ne (tgt := 84) hx hb d_Run_plays_77 (by decide) (fun c11 => ?_) (fun c11 => ?_)
      · replace h := h.1 c11
        refine lv_iconst (v := 0) hx hb d_Run_plays_84 (by decide) ?_
        exact x_zret hx hb hr hlk hw (Or.inl rfl) ⟨rfl, Or.inl ⟨_, rfl, h⟩⟩ hbd d_Run_plays_85
      · replace h := h.2 c11
        refine lv_iconst (v := 1) hx hb d_Run_plays_80 (by decide) ?_
        refine lv_goto (tgt := 85) hx hb d_Run_plays_81 (by decide) ?_
        exact x_zret hx hb hr hlk hw (Or.inr rfl) ⟨rfl, Or.inl ⟨_, rfl, h⟩⟩ hbd d_Run_plays_85
    · replace h := h.2 c10
      refine lv_aload_n hx hb d_Run_plays_64 rfl (lv_at hl 2 rfl) ?_
      refine x_getR (t := 20) (i := d) (j := 0) hx hb hK hw hown ok0_ rfl (by decide) (by decide) (x_wd hK k_173 rfl) (fun _ h => h) fk_5_0 (hY.r ok0_ rfl) d_Run_plays_65 ?_
      refine lv_iload_n hx hb d_Run_plays_68 rfl (lv_at hl 1 rfl) ?_
      refine lv_iload_n hx hb d_Run_plays_69 rfl (lv_at hl 0 rfl) ?_
      refine x_goV (ls := ls) (rest := []) hE hw (c_Book_undo hY hLs hT18 hT19 ok1 h) (x_cd hK k_768) q_Book_undo (by omega) (by omega) hl.1 (Nat.le_of_ble_eq_true rfl) hbd d_Run_plays_70 (x_toV (As := [.int x3, .int x4]) (b := (x_ad Y 1 0)) hx hb hown hK (x_recv hK hw ok1 rfl (by decide)) k_765 k_766 k_767 ⟨_, x_cd hK k_768⟩ q_Book_undo rfl rfl d_Run_plays_70) (fun L12 I13 k14 n14 H locs h hw hb9 => ?_) (fun _ _ _ _ _ _ _ h9 => h9.elim)
      replace hbd := hbd.tr hb9
      try dsimp only at h
      refine lv_aload_n hx hb d_Run_plays_73 rfl (lv_at hl 2 rfl) ?_
      refine x_getI (t := 20) (i := d) (j := 13) hx hb hK hw hown ok0_ rfl (by decide) (by decide) (x_wd hK k_189 rfl) (fun _ h => h) fk_5_13 d_Run_plays_74 ?_
      refine lv_if_ne (tgt := 84) hx hb d_Run_plays_77 (by decide) (fun c15 => ?_) (fun c15 => ?_)
      · replace h := h.1 c15
        refine lv_iconst (v := 0) hx hb d_Run_plays_84 (by decide) ?_
        exact x_zret hx hb hr hlk hw (Or.inl rfl) ⟨rfl, Or.inl ⟨_, rfl, h⟩⟩ hbd d_Run_plays_85
      · replace h := h.2 c15
        refine lv_iconst (v := 1) hx hb d_Run_plays_80 (by decide) ?_
        refine lv_goto (tgt := 85) hx hb d_Run_plays_81 (by decide) ?_
        exact x_zret hx hb hr hlk hw (Or.inr rfl) ⟨rfl, Or.inl ⟨_, rfl, h⟩⟩ hbd d_Run_plays_85
  · replace hbd := hbd.tr hb9
    try dsimp only at h
    by_cases c_k2 : kx = 2
    · replace h := h.1 c_k2
      subst c_k2
      refine x_catch1 (kx := 2) hE hhn ⟨by decide, by decide⟩ (by decide) k_625 k_578 (fun ax => ?_)
      refine lv_astore (lv' := [(4, .ref ax), (3, .int x4), (2, .int x3), (0, .ref (x_ad Y 20 d)), (1, .int p1)]) hx hb d_Run_plays_50 hl (by decide) rfl (fun ls hl => ?_)
      refine lv_aload_n hx hb d_Run_plays_52 rfl (lv_at hl 3 rfl) ?_
      refine lv_iconst (v := 0) hx hb d_Run_plays_53 (by decide) ?_
      refine x_putI (t := 20) (i := d) (j := 11) hx hb hK hw hown ok0_ rfl (by decide) (by decide) (x_wd hK k_185 rfl) (fun _ h => h) rfl rfl d_Run_plays_54 (fun I16 H locs e_I16 hw => ?_)
      replace h := h I16 e_I16
      refine lv_aload_n hx hb d_Run_plays_57 rfl (lv_at hl 3 rfl) ?_
      refine x_getI (t := 20) (i := d) (j := 13) hx hb hK hw hown ok0_ rfl (by decide) (by decide) (x_wd hK k_189 rfl) (fun _ h => h) fk_5_13 d_Run_plays_58 ?_
      refine lv_if_eq (tgt := 73) hx hb d_Run_plays_61 (by decide) (fun c17 => ?_) (fun c17 => ?_)
      · replace h := h.1 c17
        refine lv_aload_n hx hb d_Run_plays_73 rfl (lv_at hl 3 rfl) ?_
        refine x_getI (t := 20) (i := d) (j := 13) hx hb hK hw hown ok0_ rfl (by decide) (by decide) (x_wd hK k_189 rfl) (fun _ h => h) fk_5_13 d_Run_plays_74 ?_
        refine lv_if_ne (tgt := 84) hx hb d_Run_plays_77 (by decide) (fun c18 => ?_) (fun c18 => ?_)
        · replace h := h.1 c18
          refine lv_iconst (v := 0) hx hb d_Run_plays_84 (by decide) ?_
          exact x_zret hx hb hr hlk hw (Or.inl rfl) ⟨rfl, Or.inl ⟨_, rfl, h⟩⟩ hbd d_Run_plays_85
        · replace h := h.2 c18
          refine lv_iconst (v := 1) hx hb d_Run_plays_80 (by decide) ?_
          refine lv_goto (tgt := 85) hx hb d_Run_plays_81 (by decide) ?_
          exact x_zret hx hb hr hlk hw (Or.inr rfl) ⟨rfl, Or.inl ⟨_, rfl, h⟩⟩ hbd d_Run_plays_85
      · replace h := h.2 c17
        refine lv_aload_n hx hb d_Run_plays_64 rfl (lv_at hl 3 rfl) ?_
        refine x_getR (t := 20) (i := d) (j := 0) hx hb hK hw hown ok0_ rfl (by decide) (by decide) (x_wd hK k_173 rfl) (fun _ h => h) fk_5_0 (hY.r ok0_ rfl) d_Run_plays_65 ?_
        refine lv_iload_n hx hb d_Run_plays_68 rfl (lv_at hl 2 rfl) ?_
        refine lv_iload_n hx hb d_Run_plays_69 rfl (lv_at hl 1 rfl) ?_
        refine x_goV (ls := ls) (rest := []) hE hw (c_Book_undo hY hLs hT18 hT19 ok1 h) (x_cd hK k_768) q_Book_undo (by omega) (by omega) hl.1 (Nat.le_of_ble_eq_true rfl) hbd d_Run_plays_70 (x_toV (As := [.int x3, .int x4]) (b := (x_ad Y 1 0)) hx hb hown hK (x_recv hK hw ok1 rfl (by decide)) k_765 k_766 k_767 ⟨_, x_cd hK k_768⟩ q_Book_undo rfl rfl d_Run_plays_70) (fun L19 I20 k21 n21 H locs h hw hb9 => ?_) (fun _ _ _ _ _ _ _ h9 => h9.elim)
        replace hbd := hbd.tr hb9
        try dsimp only at h
        refine lv_aload_n hx hb d_Run_plays_73 rfl (lv_at hl 3 rfl) ?_
        refine x_getI (t := 20) (i := d) (j := 13) hx hb hK hw hown ok0_ rfl (by decide) (by decide) (x_wd hK k_189 rfl) (fun _ h => h) fk_5_13 d_Run_plays_74 ?_
        refine lv_if_ne (tgt := 84) hx hb d_Run_plays_77 (by decide) (fun c22 => ?_) (fun c22 => ?_)
        · replace h := h.1 c22
          refine lv_iconst (v := 0) hx hb d_Run_plays_84 (by decide) ?_
          exact x_zret hx hb hr hlk hw (Or.inl rfl) ⟨rfl, Or.inl ⟨_, rfl, h⟩⟩ hbd d_Run_plays_85
        · replace h := h.2 c22
          refine lv_iconst (v := 1) hx hb d_Run_plays_80 (by decide) ?_
          refine lv_goto (tgt := 85) hx hb d_Run_plays_81 (by decide) ?_
          exact x_zret hx hb hr hlk hw (Or.inr rfl) ⟨rfl, Or.inl ⟨_, rfl, h⟩⟩ hbd d_Run_plays_85
    · replace h := h.2
      exact (h c_k2).elim
