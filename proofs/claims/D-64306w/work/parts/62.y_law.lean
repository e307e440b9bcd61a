def yw_Law_law_104 (g : x_G) (Lx : Nat) (xs : Nat → Int32) (KK : Nat → Int32 → x_Y → x_L → x_I → Nat → Nat → Prop) (nA b1_ b2_ b3_ : Nat) (v4 : Int32) (Y : x_Y) (L : x_L) (I : x_I) (ka na : Nat) : Prop :=
  vp_in (v4 + (1 : Int32)) Lx ∧
  ((
    yw_Law_openD g (fun r32 Y34 L35 I36 k37 n37 =>
      vp_in (v4 + (1 : Int32)) Lx ∧
      (x_Y0 g Y34 ∧ (x_ok Y34 30 0 ∧ x_ad Y34 30 0 = b2_)) ∧
      w_Mod_open (fun r38 I39 =>
        (x_Y0 g Y34 ∧ (x_ok Y34 30 0 ∧ x_ad Y34 30 0 = b2_)) ∧
        w_Mod_thrown (fun r40 =>
          ((r40 = r32 →
            ((¬ r32 = 0 →
              ∀ x43 : Int32, x43 = v4 + (5 : Int32) →
              ∃ nA : Nat, KK nA x43 Y34 L35 I39 k37 n37) ∧
            (r32 = 0 →
              ((x_ok Y34 25 0 ∧ x_ad Y34 25 0 = b3_) ∧ vp_in (0 : Int32) (x_n Y34 25 0)) ∧
              (((lg_cmp (L35 25 0 (0 : Int32).toNatClampNeg) (r38.toInt64)) = 0 →
                ∀ x45 : Int32, x45 = v4 + (5 : Int32) →
                ∃ nA : Nat, KK nA x45 Y34 L35 I39 k37 n37) ∧
              (¬ (lg_cmp (L35 25 0 (0 : Int32).toNatClampNeg) (r38.toInt64)) = 0 →
                False))))) ∧
          (¬ r40 = r32 →
            False))) I39) ((xs (v4 + (1 : Int32)).toNatClampNeg)) I36) x_ynx nA b1_ ((xs (v4 + (1 : Int32)).toNatClampNeg)) b3_ Y L I ka na) ∨ (
    yw_Law_openE g (fun r46 Y48 L49 I50 k51 n51 =>
      vp_in (v4 + (1 : Int32)) Lx ∧
      (x_Y0 g Y48 ∧ (x_ok Y48 30 0 ∧ x_ad Y48 30 0 = b2_)) ∧
      w_Mod_open (fun r52 I53 =>
        (x_Y0 g Y48 ∧ (x_ok Y48 30 0 ∧ x_ad Y48 30 0 = b2_)) ∧
        w_Mod_thrown (fun r54 =>
          ((r54 = r46 →
            ((¬ r46 = 0 →
              ∀ x57 : Int32, x57 = v4 + (5 : Int32) →
              ∃ nA : Nat, KK nA x57 Y48 L49 I53 k51 n51) ∧
            (r46 = 0 →
              ((x_ok Y48 25 0 ∧ x_ad Y48 25 0 = b3_) ∧ vp_in (0 : Int32) (x_n Y48 25 0)) ∧
              (((lg_cmp (L49 25 0 (0 : Int32).toNatClampNeg) (r52.toInt64)) = 0 →
                ∀ x59 : Int32, x59 = v4 + (5 : Int32) →
                ∃ nA : Nat, KK nA x59 Y48 L49 I53 k51 n51) ∧
              (¬ (lg_cmp (L49 25 0 (0 : Int32).toNatClampNeg) (r52.toInt64)) = 0 →
                False))))) ∧
          (¬ r54 = r46 →
            False))) I53) ((xs (v4 + (1 : Int32)).toNatClampNeg)) I50) x_ynx nA b1_ ((xs (v4 + (1 : Int32)).toNatClampNeg)) b3_ Y L I ka na))
set_option maxRecDepth 100000 in
set_option maxHeartbeats 4000000 in
theorem yc_Law_law_104 {l : Launch} {g : x_G} {p : Program} {e : Env} {s : State} {m : MethodId} {below : List Frame} {meth : Method} {c : Code} {b Lx : Nat} {xs : Nat → Int32} (hE : x_E l g p e room_1 s m meth c "CallLedgerLaw" code 7 ret 101 0 0) (hX : va_X b Lx xs s s.heap) (hgs : s.heap = g.2.2.2.1) {KK : Nat → Int32 → x_Y → x_L → x_I → Nat → Nat → Prop} {nA b1_ b2_ b3_ : Nat} {v4 : Int32} {Y : x_Y} {L : x_L} {I : x_I} {ka na : Nat} {H : Heap} {locs : List Loc} {ls : Array Slot} (hKK : ∀ (nA : Nat) (v4 : Int32) (Y : x_Y) (L : x_L) (I : x_I) (k n : Nat) (H : Heap) (locs : List Loc) (ls : Array Slot), KK nA v4 Y L I k n → x_WL g Y L I H locs → x_bd 0 0 k n → lv_has ls 7 [(0, .ref b), (1, .ref b1_), (2, .ref b2_), (3, .ref b3_), (4, .int v4)] → W p l e room_1 s m #[Value.ref b] below meth c H locs (k - 0) (n - 0) (lw_Z below #[Value.ref b] s) (F0 m 23 ls []))
    (h : yw_Law_law_104 g Lx xs KK nA b1_ b2_ b3_ v4 Y L I ka na) (hw : x_WL g Y L I H locs) (hbd : x_bd 0 0 ka na) (hl : lv_has ls 7 [(0, .ref b), (1, .ref b1_), (2, .ref b2_), (3, .ref b3_), (4, .int v4)]) : W p l e room_1 s m #[Value.ref b] below meth c H locs (ka - 0) (na - 0) (lw_Z below #[Value.ref b] s) (F0 m 104 ls []) := by
  obtain ⟨hx, hb, hml, hr, hlk, hown, hK, htr, hF, hLo, hRc, hRs⟩ := id hE
  unfold yw_Law_law_104 at h
  refine lv_aload_n hx hb d_Law_law_104 rfl (lv_at hl 1 rfl) ?_
  refine lv_aload_n hx hb d_Law_law_105 rfl (lv_at hl 0 rfl) ?_
  refine lv_iload hx hb d_Law_law_106 (lv_at hl 4 rfl) ?_
  refine lv_iconst (v := 1) hx hb d_Law_law_108 (by decide) ?_
  refine lv_iadd hx hb d_Law_law_109 ?_
  refine x_sld hx hb hX hgs hw h.1 d_Law_law_110 ?_
  replace h := h.2
  refine lv_aload_n hx hb d_Law_law_111 rfl (lv_at hl 3 rfl) ?_
  rcases h with h | h
  · refine x_ygI (ls := ls) (rest := []) hE hw (yc_Law_openD h) (x_cdW hK k_321) q_Law_open (by decide) (by decide) hl.1 (Nat.le_of_ble_eq_true rfl) hbd d_Law_law_112 (x_toS (As := [.ref b1_, .int ((xs (v4 + (1 : Int32)).toNatClampNeg)), .ref b3_]) hx hb hown hK k_319 k_320 k_0 ⟨_, x_cdW hK k_321⟩ q_Law_open rfl rfl d_Law_law_112) (fun r32 Y34 L35 I36 k37 n37 H locs h hw hb9 => ?_) (fun _ _ _ _ _ _ _ _ h9 => h9.elim)
    replace hbd := hbd.tr hb9
    try dsimp only at h
    refine lv_istore (lv' := [(5, .int r32), (0, .ref b), (1, .ref b1_), (2, .ref b2_), (3, .ref b3_), (4, .int v4)]) hx hb d_Law_law_115 hl (by decide) rfl (fun ls hl => ?_)
    refine lv_aload_n hx hb d_Law_law_117 rfl (lv_at hl 3 rfl) ?_
    refine lv_aload_n hx hb d_Law_law_118 rfl (lv_at hl 1 rfl) ?_
    refine lv_iload hx hb d_Law_law_119 (lv_at hl 5 rfl) ?_
    refine lv_iconst (v := 1) hx hb d_Law_law_121 (by decide) ?_
    refine lv_iadd hx hb d_Law_law_122 ?_
    refine x_sld hx hb hX hgs hw h.1 d_Law_law_123 ?_
    replace h := h.2
    obtain ⟨hp, h⟩ := h
    have c9 := x_Cav (av' := [.ref b2_, .int ((xs (v4 + (1 : Int32)).toNatClampNeg))]) (by rw [hp.2.2]) (c_Mod_open (l := l) (L := L35) (I := I36) (k := k37) (n := n37) hp.1 hp.2.1 h)
    refine x_goI (ls := ls) (rest := []) hE hw c9 (x_cd hK k_912) q_Mod_open (by decide) (by decide) hl.1 (Nat.le_of_ble_eq_true rfl) hbd d_Law_law_124 (x_toV (As := [.int ((xs (v4 + (1 : Int32)).toNatClampNeg))]) (b := b2_) hx hb hown hK (x_recv1 (c0 := 8) hK hw hp.2 rfl (by decide)) k_909 k_910 k_911 ⟨_, x_cd hK k_912⟩ q_Mod_open rfl rfl d_Law_law_124) (fun r38 L9 I39 k9 n9 H locs h hw hb9 => ?_) (fun _ _ _ _ _ _ _ h9 => h9.elim)
    clear c9
    obtain ⟨e1, e3, e4, h⟩ := h
    rw [e1] at hw
    rw [e3, e4]
    try dsimp only at h
    refine lv_istore (lv' := [(6, .int r38), (5, .int r32), (0, .ref b), (1, .ref b1_), (2, .ref b2_), (3, .ref b3_), (4, .int v4)]) hx hb d_Law_law_127 hl (by decide) rfl (fun ls hl => ?_)
    refine lv_aload_n hx hb d_Law_law_129 rfl (lv_at hl 4 rfl) ?_
    obtain ⟨hp, h⟩ := h
    have c9 := x_Cav (av' := [.ref b2_]) (by rw [hp.2.2]) (c_Mod_thrown (l := l) (L := L35) (I := I39) (k := k37) (n := n37) hp.1 hp.2.1 h)
    refine x_goI (ls := ls) (rest := []) hE hw c9 (x_cd hK k_904) q_Mod_thrown (by decide) (by decide) hl.1 (Nat.le_of_ble_eq_true rfl) hbd d_Law_law_130 (x_toV (As := []) (b := b2_) hx hb hown hK (x_recv1 (c0 := 8) hK hw hp.2 rfl (by decide)) k_901 k_902 k_903 ⟨_, x_cd hK k_904⟩ q_Mod_thrown rfl rfl d_Law_law_130) (fun r40 L9 I9 k9 n9 H locs h hw hb9 => ?_) (fun _ _ _ _ _ _ _ h9 => h9.elim)
    clear c9
    obtain ⟨e1, e2, e3, e4, h⟩ := h
    rw [e1, e2] at hw
    rw [e3, e4]
    try dsimp only at h
    refine lv_iload hx hb d_Law_law_133 (lv_at hl 1 rfl) ?_
    refine lv_icmp_eq (tgt := 140) hx hb d_Law_law_135 (by decide) (fun c41 => ?_) (fun c41 => ?_)
    · replace h := h.1 c41
      refine lv_iload hx hb d_Law_law_140 (lv_at hl 1 rfl) ?_
      refine lv_if_ne (tgt := 157) hx hb d_Law_law_142 (by decide) (fun c42 => ?_) (fun c42 => ?_)
      · replace h := h.1 c42
        refine lv_goto (tgt := 646) hx hb d_Law_law_157 (by decide) ?_
        obtain ⟨x43, e_x43⟩ : ∃ z : Int32, z = v4 + (5 : Int32) := ⟨_, rfl⟩
        replace h := h x43 e_x43
        refine lv_iinc (v := x43) (lv' := [(4, .int x43), (6, .int r38), (5, .int r32), (0, .ref b), (1, .ref b1_), (2, .ref b2_), (3, .ref b3_)]) hx hb d_Law_law_646 hl (k := 6) rfl (by rw [e_x43]; rfl) (by decide) rfl (fun ls hl => ?_)
        refine lv_goto (tgt := 23) hx hb d_Law_law_649 (by decide) ?_
        obtain ⟨nA, h⟩ := h
        exact hKK nA x43 Y34 L35 I39 k37 n37 H locs ls h hw hbd (lv_sub hl [3, 4, 5, 6, 0] rfl)
      · replace h := h.2 c42
        refine lv_aload_n hx hb d_Law_law_145 rfl (lv_at hl 5 rfl) ?_
        refine lv_iconst (v := 0) hx hb d_Law_law_146 (by decide) ?_
        refine x_lald1 (t := 25) (i := 0) hx hb hK hw h.1.1 rfl h.1.2 d_Law_law_147 ?_
        replace h := h.2
        refine lv_iload hx hb d_Law_law_148 (lv_at hl 0 rfl) ?_
        refine lv_i2l hx hb d_Law_law_150 rfl ?_
        refine W.lcmp hx hb d_Law_law_151 ?_
        refine lv_if_eq (tgt := 157) hx hb d_Law_law_152 (by decide) (fun c44 => ?_) (fun c44 => ?_)
        · replace h := h.1 c44
          refine lv_goto (tgt := 646) hx hb d_Law_law_157 (by decide) ?_
          obtain ⟨x45, e_x45⟩ : ∃ z : Int32, z = v4 + (5 : Int32) := ⟨_, rfl⟩
          replace h := h x45 e_x45
          refine lv_iinc (v := x45) (lv' := [(4, .int x45), (6, .int r38), (5, .int r32), (0, .ref b), (1, .ref b1_), (2, .ref b2_), (3, .ref b3_)]) hx hb d_Law_law_646 hl (k := 6) rfl (by rw [e_x45]; rfl) (by decide) rfl (fun ls hl => ?_)
          refine lv_goto (tgt := 23) hx hb d_Law_law_649 (by decide) ?_
          obtain ⟨nA, h⟩ := h
          exact hKK nA x45 Y34 L35 I39 k37 n37 H locs ls h hw hbd (lv_sub hl [3, 4, 5, 6, 0] rfl)
        · replace h := h.2 c44
          refine lv_iconst (v := 0) hx hb d_Law_law_155 (by decide) ?_
          exact h.elim
    · replace h := h.2 c41
      refine lv_iconst (v := 0) hx hb d_Law_law_138 (by decide) ?_
      exact h.elim
  · refine x_ygI (ls := ls) (rest := []) hE hw (yc_Law_openE h) (x_cdW hK k_321) q_Law_open (by decide) (by decide) hl.1 (Nat.le_of_ble_eq_true rfl) hbd d_Law_law_112 (x_toS (As := [.ref b1_, .int ((xs (v4 + (1 : Int32)).toNatClampNeg)), .ref b3_]) hx hb hown hK k_319 k_320 k_0 ⟨_, x_cdW hK k_321⟩ q_Law_open rfl rfl d_Law_law_112) (fun r46 Y48 L49 I50 k51 n51 H locs h hw hb9 => ?_) (fun _ _ _ _ _ _ _ _ h9 => h9.elim)
    replace hbd := hbd.tr hb9
    try dsimp only at h
    refine lv_istore (lv' := [(5, .int r46), (0, .ref b), (1, .ref b1_), (2, .ref b2_), (3, .ref b3_), (4, .int v4)]) hx hb d_Law_law_115 hl (by decide) rfl (fun ls hl => ?_)
    refine lv_aload_n hx hb d_Law_law_117 rfl (lv_at hl 3 rfl) ?_
    refine lv_aload_n hx hb d_Law_law_118 rfl (lv_at hl 1 rfl) ?_
    refine lv_iload hx hb d_Law_law_119 (lv_at hl 5 rfl) ?_
    refine lv_iconst (v := 1) hx hb d_Law_law_121 (by decide) ?_
    refine lv_iadd hx hb d_Law_law_122 ?_
    refine x_sld hx hb hX hgs hw h.1 d_Law_law_123 ?_
    replace h := h.2
    obtain ⟨hp, h⟩ := h
    have c9 := x_Cav (av' := [.ref b2_, .int ((xs (v4 + (1 : Int32)).toNatClampNeg))]) (by rw [hp.2.2]) (c_Mod_open (l := l) (L := L49) (I := I50) (k := k51) (n := n51) hp.1 hp.2.1 h)
    refine x_goI (ls := ls) (rest := []) hE hw c9 (x_cd hK k_912) q_Mod_open (by decide) (by decide) hl.1 (Nat.le_of_ble_eq_true rfl) hbd d_Law_law_124 (x_toV (As := [.int ((xs (v4 + (1 : Int32)).toNatClampNeg))]) (b := b2_) hx hb hown hK (x_recv1 (c0 := 8) hK hw hp.2 rfl (by decide)) k_909 k_910 k_911 ⟨_, x_cd hK k_912⟩ q_Mod_open rfl rfl d_Law_law_124) (fun r52 L9 I53 k9 n9 H locs h hw hb9 => ?_) (fun _ _ _ _ _ _ _ h9 => h9.elim)
    clear c9
    obtain ⟨e1, e3, e4, h⟩ := h
    rw [e1] at hw
    rw [e3, e4]
    try dsimp only at h
    refine lv_istore (lv' := [(6, .int r52), (5, .int r46), (0, .ref b), (1, .ref b1_), (2, .ref b2_), (3, .ref b3_), (4, .int v4)]) hx hb d_Law_law_127 hl (by decide) rfl (fun ls hl => ?_)
    refine lv_aload_n hx hb d_Law_law_129 rfl (lv_at hl 4 rfl) ?_
    obtain ⟨hp, h⟩ := h
    have c9 := x_Cav (av' := [.ref b2_]) (by rw [hp.2.2]) (c_Mod_thrown (l := l) (L := L49) (I := I53) (k := k51) (n := n51) hp.1 hp.2.1 h)
    refine x_goI (ls := ls) (rest := []) hE hw c9 (x_cd hK k_904) q_Mod_thrown (by decide) (by decide) hl.1 (Nat.le_of_ble_eq_true rfl) hbd d_Law_law_130 (x_toV (As := []) (b := b2_) hx hb hown hK (x_recv1 (c0 := 8) hK hw hp.2 rfl (by decide)) k_901 k_902 k_903 ⟨_, x_cd hK k_904⟩ q_Mod_thrown rfl rfl d_Law_law_130) (fun r54 L9 I9 k9 n9 H locs h hw hb9 => ?_) (fun _ _ _ _ _ _ _ h9 => h9.elim)
    clear c9
    obtain ⟨e1, e2, e3, e4, h⟩ := h
    rw [e1, e2] at hw
    rw [e3, e4]
    try dsimp only at h
    refine lv_iload hx hb d_Law_law_133 (lv_at hl 1 rfl) ?_
    refine lv_icmp_eq (tgt := 140) hx hb d_Law_law_135 (by decide) (fun c55 => ?_) (fun c55 => ?_)
    · replace h := h.1 c55
      refine lv_iload hx hb d_Law_law_140 (lv_at hl 1 rfl) ?_
      refine lv_if_ne (tgt := 157) hx hb d_Law_law_142 (by decide) (fun c56 => ?_) (fun c56 => ?_)
      · replace h := h.1 c56
        refine lv_goto (tgt := 646) hx hb d_Law_law_157 (by decide) ?_
        obtain ⟨x57, e_x57⟩ : ∃ z : Int32, z = v4 + (5 : Int32) := ⟨_, rfl⟩
        replace h := h x57 e_x57
        refine lv_iinc (v := x57) (lv' := [(4, .int x57), (6, .int r52), (5, .int r46), (0, .ref b), (1, .ref b1_), (2, .ref b2_), (3, .ref b3_)]) hx hb d_Law_law_646 hl (k := 6) rfl (by rw [e_x57]; rfl) (by decide) rfl (fun ls hl => ?_)
        refine lv_goto (tgt := 23) hx hb d_Law_law_649 (by decide) ?_
        obtain ⟨nA, h⟩ := h
        exact hKK nA x57 Y48 L49 I53 k51 n51 H locs ls h hw hbd (lv_sub hl [3, 4, 5, 6, 0] rfl)
      · replace h := h.2 c56
        refine lv_aload_n hx hb d_Law_law_145 rfl (lv_at hl 5 rfl) ?_
        refine lv_iconst (v := 0) hx hb d_Law_law_146 (by decide) ?_
        refine x_lald1 (t := 25) (i := 0) hx hb hK hw h.1.1 rfl h.1.2 d_Law_law_147 ?_
        replace h := h.2
        refine lv_iload hx hb d_Law_law_148 (lv_at hl 0 rfl) ?_
        refine lv_i2l hx hb d_Law_law_150 rfl ?_
        refine W.lcmp hx hb d_Law_law_151 ?_
        refine lv_if_eq (tgt := 157) hx hb d_Law_law_152 (by decide) (fun c58 => ?_) (fun c58 => ?_)
        · replace h := h.1 c58
          refine lv_goto (tgt := 646) hx hb d_Law_law_157 (by decide) ?_
          obtain ⟨x59, e_x59⟩ : ∃ z : Int32, z = v4 + (5 : Int32) := ⟨_, rfl⟩
          replace h := h x59 e_x59
          refine lv_iinc (v := x59) (lv' := [(4, .int x59), (6, .int r52), (5, .int r46), (0, .ref b), (1, .ref b1_), (2, .ref b2_), (3, .ref b3_)]) hx hb d_Law_law_646 hl (k := 6) rfl (by rw [e_x59]; rfl) (by decide) rfl (fun ls hl => ?_)
          refine lv_goto (tgt := 23) hx hb d_Law_law_649 (by decide) ?_
          obtain ⟨nA, h⟩ := h
          exact hKK nA x59 Y48 L49 I53 k51 n51 H locs ls h hw hbd (lv_sub hl [3, 4, 5, 6, 0] rfl)
        · replace h := h.2 c58
          refine lv_iconst (v := 0) hx hb d_Law_law_155 (by decide) ?_
          exact h.elim
    · replace h := h.2 c55
      refine lv_iconst (v := 0) hx hb d_Law_law_138 (by decide) ?_
      exact h.elim
def yw_Law_law_160 (g : x_G) (Lx : Nat) (xs : Nat → Int32) (KK : Nat → Int32 → x_Y → x_L → x_I → Nat → Nat → Prop) (nA b1_ b2_ b3_ : Nat) (v4 : Int32) (Y : x_Y) (L : x_L) (I : x_I) (ka na : Nat) : Prop :=
  vp_in (v4 + (1 : Int32)) Lx ∧
  vp_in (v4 + (2 : Int32)) Lx ∧
  (x_Y0 g Y ∧ x_Ls Y nA ∧ (x_ok Y 0 0 ∧ x_ad Y 0 0 = b1_) ∧ (x_ok Y 25 0 ∧ x_ad Y 25 0 = b3_)) ∧
  w_Law_code (fun r61 L62 I63 k64 n64 =>
    vp_in (v4 + (1 : Int32)) Lx ∧
    vp_in (v4 + (2 : Int32)) Lx ∧
    (x_Y0 g Y ∧ (x_ok Y 30 0 ∧ x_ad Y 30 0 = b2_)) ∧
    w_Mod_code (fun r65 I66 =>
      (x_Y0 g Y ∧ (x_ok Y 30 0 ∧ x_ad Y 30 0 = b2_)) ∧
      w_Mod_thrown (fun r67 =>
        ((r67 = r61 →
          ((¬ r61 = 0 →
            ∀ x70 : Int32, x70 = v4 + (5 : Int32) →
            ∃ nA : Nat, KK nA x70 Y L62 I66 k64 n64) ∧
          (r61 = 0 →
            ((x_ok Y 25 0 ∧ x_ad Y 25 0 = b3_) ∧ vp_in (0 : Int32) (x_n Y 25 0)) ∧
            (((lg_cmp (L62 25 0 (0 : Int32).toNatClampNeg) (r65.toInt64)) = 0 →
              ∀ x72 : Int32, x72 = v4 + (5 : Int32) →
              ∃ nA : Nat, KK nA x72 Y L62 I66 k64 n64) ∧
            (¬ (lg_cmp (L62 25 0 (0 : Int32).toNatClampNeg) (r65.toInt64)) = 0 →
              False))))) ∧
        (¬ r67 = r61 →
          False))) I66) ((xs (v4 + (1 : Int32)).toNatClampNeg)) ((xs (v4 + (2 : Int32)).toNatClampNeg)) I63) nA ((xs (v4 + (1 : Int32)).toNatClampNeg)) ((xs (v4 + (2 : Int32)).toNatClampNeg)) L I ka na
set_option maxRecDepth 100000 in
set_option maxHeartbeats 4000000 in
theorem yc_Law_law_160 {l : Launch} {g : x_G} {p : Program} {e : Env} {s : State} {m : MethodId} {below : List Frame} {meth : Method} {c : Code} {b Lx : Nat} {xs : Nat → Int32} (hE : x_E l g p e room_1 s m meth c "CallLedgerLaw" code 7 ret 101 0 0) (hX : va_X b Lx xs s s.heap) (hgs : s.heap = g.2.2.2.1) {KK : Nat → Int32 → x_Y → x_L → x_I → Nat → Nat → Prop} {nA b1_ b2_ b3_ : Nat} {v4 : Int32} {Y : x_Y} {L : x_L} {I : x_I} {ka na : Nat} {H : Heap} {locs : List Loc} {ls : Array Slot} (hKK : ∀ (nA : Nat) (v4 : Int32) (Y : x_Y) (L : x_L) (I : x_I) (k n : Nat) (H : Heap) (locs : List Loc) (ls : Array Slot), KK nA v4 Y L I k n → x_WL g Y L I H locs → x_bd 0 0 k n → lv_has ls 7 [(0, .ref b), (1, .ref b1_), (2, .ref b2_), (3, .ref b3_), (4, .int v4)] → W p l e room_1 s m #[Value.ref b] below meth c H locs (k - 0) (n - 0) (lw_Z below #[Value.ref b] s) (F0 m 23 ls []))
    (h : yw_Law_law_160 g Lx xs KK nA b1_ b2_ b3_ v4 Y L I ka na) (hw : x_WL g Y L I H locs) (hbd : x_bd 0 0 ka na) (hl : lv_has ls 7 [(0, .ref b), (1, .ref b1_), (2, .ref b2_), (3, .ref b3_), (4, .int v4)]) : W p l e room_1 s m #[Value.ref b] below meth c H locs (ka - 0) (na - 0) (lw_Z below #[Value.ref b] s) (F0 m 160 ls []) := by
  obtain ⟨hx, hb, hml, hr, hlk, hown, hK, htr, hF, hLo, hRc, hRs⟩ := id hE
  unfold yw_Law_law_160 at h
  refine lv_aload_n hx hb d_Law_law_160 rfl (lv_at hl 1 rfl) ?_
  refine lv_aload_n hx hb d_Law_law_161 rfl (lv_at hl 0 rfl) ?_
  refine lv_iload hx hb d_Law_law_162 (lv_at hl 4 rfl) ?_
  refine lv_iconst (v := 1) hx hb d_Law_law_164 (by decide) ?_
  refine lv_iadd hx hb d_Law_law_165 ?_
  refine x_sld hx hb hX hgs hw h.1 d_Law_law_166 ?_
  replace h := h.2
  refine lv_aload_n hx hb d_Law_law_167 rfl (lv_at hl 0 rfl) ?_
  refine lv_iload hx hb d_Law_law_168 (lv_at hl 4 rfl) ?_
  refine lv_iconst (v := 2) hx hb d_Law_law_170 (by decide) ?_
  refine lv_iadd hx hb d_Law_law_171 ?_
  refine x_sld hx hb hX hgs hw h.1 d_Law_law_172 ?_
  replace h := h.2
  refine lv_aload_n hx hb d_Law_law_173 rfl (lv_at hl 3 rfl) ?_
  obtain ⟨hp, h⟩ := h
  have c9 := x_Cav (av' := [.ref b1_, .int ((xs (v4 + (1 : Int32)).toNatClampNeg)), .int ((xs (v4 + (2 : Int32)).toNatClampNeg)), .ref b3_]) (by rw [hp.2.2.1.2, hp.2.2.2.2]) (c_Law_code (l := l) (L := L) (I := I) (k := ka) (n := na) hp.1 hp.2.1 hp.2.2.1.1 hp.2.2.2.1 h)
  refine x_goI (ls := ls) (rest := []) hE hw c9 (x_cdW hK k_501) q_Law_code (by decide) (by decide) hl.1 (Nat.le_of_ble_eq_true rfl) hbd d_Law_law_174 (x_toS (As := [.ref b1_, .int ((xs (v4 + (1 : Int32)).toNatClampNeg)), .int ((xs (v4 + (2 : Int32)).toNatClampNeg)), .ref b3_]) hx hb hown hK k_499 k_500 k_0 ⟨_, x_cdW hK k_501⟩ q_Law_code rfl rfl d_Law_law_174) (fun r61 L62 I63 k64 n64 H locs h hw hb9 => ?_) (fun _ _ _ _ _ _ _ h9 => h9.elim)
  clear c9
  replace hbd := hbd.tr hb9
  try dsimp only at h
  refine lv_istore (lv' := [(5, .int r61), (0, .ref b), (1, .ref b1_), (2, .ref b2_), (3, .ref b3_), (4, .int v4)]) hx hb d_Law_law_177 hl (by decide) rfl (fun ls hl => ?_)
  refine lv_aload_n hx hb d_Law_law_179 rfl (lv_at hl 3 rfl) ?_
  refine lv_aload_n hx hb d_Law_law_180 rfl (lv_at hl 1 rfl) ?_
  refine lv_iload hx hb d_Law_law_181 (lv_at hl 5 rfl) ?_
  refine lv_iconst (v := 1) hx hb d_Law_law_183 (by decide) ?_
  refine lv_iadd hx hb d_Law_law_184 ?_
  refine x_sld hx hb hX hgs hw h.1 d_Law_law_185 ?_
  replace h := h.2
  refine lv_aload_n hx hb d_Law_law_186 rfl (lv_at hl 1 rfl) ?_
  refine lv_iload hx hb d_Law_law_187 (lv_at hl 5 rfl) ?_
  refine lv_iconst (v := 2) hx hb d_Law_law_189 (by decide) ?_
  refine lv_iadd hx hb d_Law_law_190 ?_
  refine x_sld hx hb hX hgs hw h.1 d_Law_law_191 ?_
  replace h := h.2
  obtain ⟨hp, h⟩ := h
  have c9 := x_Cav (av' := [.ref b2_, .int ((xs (v4 + (1 : Int32)).toNatClampNeg)), .int ((xs (v4 + (2 : Int32)).toNatClampNeg))]) (by rw [hp.2.2]) (c_Mod_code (l := l) (L := L62) (I := I63) (k := k64) (n := n64) hp.1 hp.2.1 h)
  refine x_goI (ls := ls) (rest := []) hE hw c9 (x_cd hK k_918) q_Mod_code (by decide) (by decide) hl.1 (Nat.le_of_ble_eq_true rfl) hbd d_Law_law_192 (x_toV (As := [.int ((xs (v4 + (1 : Int32)).toNatClampNeg)), .int ((xs (v4 + (2 : Int32)).toNatClampNeg))]) (b := b2_) hx hb hown hK (x_recv1 (c0 := 8) hK hw hp.2 rfl (by decide)) k_915 k_916 k_917 ⟨_, x_cd hK k_918⟩ q_Mod_code rfl rfl d_Law_law_192) (fun r65 L9 I66 k9 n9 H locs h hw hb9 => ?_) (fun _ _ _ _ _ _ _ h9 => h9.elim)
  clear c9
  obtain ⟨e1, e3, e4, h⟩ := h
  rw [e1] at hw
  rw [e3, e4]
  try dsimp only at h
  refine lv_istore (lv' := [(6, .int r65), (5, .int r61), (0, .ref b), (1, .ref b1_), (2, .ref b2_), (3, .ref b3_), (4, .int v4)]) hx hb d_Law_law_195 hl (by decide) rfl (fun ls hl => ?_)
  refine lv_aload_n hx hb d_Law_law_197 rfl (lv_at hl 4 rfl) ?_
  obtain ⟨hp, h⟩ := h
  have c9 := x_Cav (av' := [.ref b2_]) (by rw [hp.2.2]) (c_Mod_thrown (l := l) (L := L62) (I := I66) (k := k64) (n := n64) hp.1 hp.2.1 h)
  refine x_goI (ls := ls) (rest := []) hE hw c9 (x_cd hK k_904) q_Mod_thrown (by decide) (by decide) hl.1 (Nat.le_of_ble_eq_true rfl) hbd d_Law_law_198 (x_toV (As := []) (b := b2_) hx hb hown hK (x_recv1 (c0 := 8) hK hw hp.2 rfl (by decide)) k_901 k_902 k_903 ⟨_, x_cd hK k_904⟩ q_Mod_thrown rfl rfl d_Law_law_198) (fun r67 L9 I9 k9 n9 H locs h hw hb9 => ?_) (fun _ _ _ _ _ _ _ h9 => h9.elim)
  clear c9
  obtain ⟨e1, e2, e3, e4, h⟩ := h
  rw [e1, e2] at hw
  rw [e3, e4]
  try dsimp only at h
  refine lv_iload hx hb d_Law_law_201 (lv_at hl 1 rfl) ?_
  refine lv_icmp_eq (tgt := 208) hx hb d_Law_law_203 (by decide) (fun c68 => ?_) (fun c68 => ?_)
  · replace h := h.1 c68
    refine lv_iload hx hb d_Law_law_208 (lv_at hl 1 rfl) ?_
    refine lv_if_ne (tgt := 225) hx hb d_Law_law_210 (by decide) (fun c69 => ?_) (fun c69 => ?_)
    · replace h := h.1 c69
      refine lv_goto (tgt := 646) hx hb d_Law_law_225 (by decide) ?_
      obtain ⟨x70, e_x70⟩ : ∃ z : Int32, z = v4 + (5 : Int32) := ⟨_, rfl⟩
      replace h := h x70 e_x70
      refine lv_iinc (v := x70) (lv' := [(4, .int x70), (6, .int r65), (5, .int r61), (0, .ref b), (1, .ref b1_), (2, .ref b2_), (3, .ref b3_)]) hx hb d_Law_law_646 hl (k := 6) rfl (by rw [e_x70]; rfl) (by decide) rfl (fun ls hl => ?_)
      refine lv_goto (tgt := 23) hx hb d_Law_law_649 (by decide) ?_
      obtain ⟨nA, h⟩ := h
      exact hKK nA x70 Y L62 I66 k64 n64 H locs ls h hw hbd (lv_sub hl [3, 4, 5, 6, 0] rfl)
    · replace h := h.2 c69
      refine lv_aload_n hx hb d_Law_law_213 rfl (lv_at hl 5 rfl) ?_
      refine lv_iconst (v := 0) hx hb d_Law_law_214 (by decide) ?_
      refine x_lald1 (t := 25) (i := 0) hx hb hK hw h.1.1 rfl h.1.2 d_Law_law_215 ?_
      replace h := h.2
      refine lv_iload hx hb d_Law_law_216 (lv_at hl 0 rfl) ?_
      refine lv_i2l hx hb d_Law_law_218 rfl ?_
      refine W.lcmp hx hb d_Law_law_219 ?_
      refine lv_if_eq (tgt := 225) hx hb d_Law_law_220 (by decide) (fun c71 => ?_) (fun c71 => ?_)
      · replace h := h.1 c71
        refine lv_goto (tgt := 646) hx hb d_Law_law_225 (by decide) ?_
        obtain ⟨x72, e_x72⟩ : ∃ z : Int32, z = v4 + (5 : Int32) := ⟨_, rfl⟩
        replace h := h x72 e_x72
        refine lv_iinc (v := x72) (lv' := [(4, .int x72), (6, .int r65), (5, .int r61), (0, .ref b), (1, .ref b1_), (2, .ref b2_), (3, .ref b3_)]) hx hb d_Law_law_646 hl (k := 6) rfl (by rw [e_x72]; rfl) (by decide) rfl (fun ls hl => ?_)
        refine lv_goto (tgt := 23) hx hb d_Law_law_649 (by decide) ?_
        obtain ⟨nA, h⟩ := h
        exact hKK nA x72 Y L62 I66 k64 n64 H locs ls h hw hbd (lv_sub hl [3, 4, 5, 6, 0] rfl)
      · replace h := h.2 c71
        refine lv_iconst (v := 0) hx hb d_Law_law_223 (by decide) ?_
        exact h.elim
  · replace h := h.2 c68
    refine lv_iconst (v := 0) hx hb d_Law_law_206 (by decide) ?_
    exact h.elim
def yw_Law_law_228 (g : x_G) (Lx : Nat) (xs : Nat → Int32) (KK : Nat → Int32 → x_Y → x_L → x_I → Nat → Nat → Prop) (nA b1_ b2_ b3_ : Nat) (v4 : Int32) (Y : x_Y) (L : x_L) (I : x_I) (ka na : Nat) : Prop :=
  vp_in (v4 + (1 : Int32)) Lx ∧
  (x_Y0 g Y ∧ x_Ls Y nA ∧ (x_ok Y 0 0 ∧ x_ad Y 0 0 = b1_) ∧ (x_ok Y 25 0 ∧ x_ad Y 25 0 = b3_)) ∧
  w_Law_seal (fun r74 L75 I76 k77 n77 =>
    vp_in (v4 + (1 : Int32)) Lx ∧
    (x_Y0 g Y ∧ (x_ok Y 30 0 ∧ x_ad Y 30 0 = b2_)) ∧
    w_Mod_seal (fun r78 I79 =>
      (x_Y0 g Y ∧ (x_ok Y 30 0 ∧ x_ad Y 30 0 = b2_)) ∧
      w_Mod_thrown (fun r80 =>
        ((r80 = r74 →
          ((¬ r74 = 0 →
            ∀ x83 : Int32, x83 = v4 + (5 : Int32) →
            ∃ nA : Nat, KK nA x83 Y L75 I79 k77 n77) ∧
          (r74 = 0 →
            ((x_ok Y 25 0 ∧ x_ad Y 25 0 = b3_) ∧ vp_in (0 : Int32) (x_n Y 25 0)) ∧
            (((lg_cmp (L75 25 0 (0 : Int32).toNatClampNeg) (r78.toInt64)) = 0 →
              ∀ x85 : Int32, x85 = v4 + (5 : Int32) →
              ∃ nA : Nat, KK nA x85 Y L75 I79 k77 n77) ∧
            (¬ (lg_cmp (L75 25 0 (0 : Int32).toNatClampNeg) (r78.toInt64)) = 0 →
              False))))) ∧
        (¬ r80 = r74 →
          False))) I79) ((xs (v4 + (1 : Int32)).toNatClampNeg)) I76) nA ((xs (v4 + (1 : Int32)).toNatClampNeg)) L I ka na
set_option maxRecDepth 100000 in
set_option maxHeartbeats 4000000 in
theorem yc_Law_law_228 {l : Launch} {g : x_G} {p : Program} {e : Env} {s : State} {m : MethodId} {below : List Frame} {meth : Method} {c : Code} {b Lx : Nat} {xs : Nat → Int32} (hE : x_E l g p e room_1 s m meth c "CallLedgerLaw" code 7 ret 101 0 0) (hX : va_X b Lx xs s s.heap) (hgs : s.heap = g.2.2.2.1) {KK : Nat → Int32 → x_Y → x_L → x_I → Nat → Nat → Prop} {nA b1_ b2_ b3_ : Nat} {v4 : Int32} {Y : x_Y} {L : x_L} {I : x_I} {ka na : Nat} {H : Heap} {locs : List Loc} {ls : Array Slot} (hKK : ∀ (nA : Nat) (v4 : Int32) (Y : x_Y) (L : x_L) (I : x_I) (k n : Nat) (H : Heap) (locs : List Loc) (ls : Array Slot), KK nA v4 Y L I k n → x_WL g Y L I H locs → x_bd 0 0 k n → lv_has ls 7 [(0, .ref b), (1, .ref b1_), (2, .ref b2_), (3, .ref b3_), (4, .int v4)] → W p l e room_1 s m #[Value.ref b] below meth c H locs (k - 0) (n - 0) (lw_Z below #[Value.ref b] s) (F0 m 23 ls []))
    (h : yw_Law_law_228 g Lx xs KK nA b1_ b2_ b3_ v4 Y L I ka na) (hw : x_WL g Y L I H locs) (hbd : x_bd 0 0 ka na) (hl : lv_has ls 7 [(0, .ref b), (1, .ref b1_), (2, .ref b2_), (3, .ref b3_), (4, .int v4)]) : W p l e room_1 s m #[Value.ref b] below meth c H locs (ka - 0) (na - 0) (lw_Z below #[Value.ref b] s) (F0 m 228 ls []) := by
  obtain ⟨hx, hb, hml, hr, hlk, hown, hK, htr, hF, hLo, hRc, hRs⟩ := id hE
  unfold yw_Law_law_228 at h
  refine lv_aload_n hx hb d_Law_law_228 rfl (lv_at hl 1 rfl) ?_
  refine lv_aload_n hx hb d_Law_law_229 rfl (lv_at hl 0 rfl) ?_
  refine lv_iload hx hb d_Law_law_230 (lv_at hl 4 rfl) ?_
  refine lv_iconst (v := 1) hx hb d_Law_law_232 (by decide) ?_
  refine lv_iadd hx hb d_Law_law_233 ?_
  refine x_sld hx hb hX hgs hw h.1 d_Law_law_234 ?_
  replace h := h.2
  refine lv_aload_n hx hb d_Law_law_235 rfl (lv_at hl 3 rfl) ?_
  obtain ⟨hp, h⟩ := h
  have c9 := x_Cav (av' := [.ref b1_, .int ((xs (v4 + (1 : Int32)).toNatClampNeg)), .ref b3_]) (by rw [hp.2.2.1.2, hp.2.2.2.2]) (c_Law_seal (l := l) (L := L) (I := I) (k := ka) (n := na) hp.1 hp.2.1 hp.2.2.1.1 hp.2.2.2.1 h)
  refine x_goI (ls := ls) (rest := []) hE hw c9 (x_cdW hK k_594) q_Law_seal (by decide) (by decide) hl.1 (Nat.le_of_ble_eq_true rfl) hbd d_Law_law_236 (x_toS (As := [.ref b1_, .int ((xs (v4 + (1 : Int32)).toNatClampNeg)), .ref b3_]) hx hb hown hK k_592 k_593 k_0 ⟨_, x_cdW hK k_594⟩ q_Law_seal rfl rfl d_Law_law_236) (fun r74 L75 I76 k77 n77 H locs h hw hb9 => ?_) (fun _ _ _ _ _ _ _ h9 => h9.elim)
  clear c9
  replace hbd := hbd.tr hb9
  try dsimp only at h
  refine lv_istore (lv' := [(5, .int r74), (0, .ref b), (1, .ref b1_), (2, .ref b2_), (3, .ref b3_), (4, .int v4)]) hx hb d_Law_law_239 hl (by decide) rfl (fun ls hl => ?_)
  refine lv_aload_n hx hb d_Law_law_241 rfl (lv_at hl 3 rfl) ?_
  refine lv_aload_n hx hb d_Law_law_242 rfl (lv_at hl 1 rfl) ?_
  refine lv_iload hx hb d_Law_law_243 (lv_at hl 5 rfl) ?_
  refine lv_iconst (v := 1) hx hb d_Law_law_245 (by decide) ?_
  refine lv_iadd hx hb d_Law_law_246 ?_
  refine x_sld hx hb hX hgs hw h.1 d_Law_law_247 ?_
  replace h := h.2
  obtain ⟨hp, h⟩ := h
  have c9 := x_Cav (av' := [.ref b2_, .int ((xs (v4 + (1 : Int32)).toNatClampNeg))]) (by rw [hp.2.2]) (c_Mod_seal (l := l) (L := L75) (I := I76) (k := k77) (n := n77) hp.1 hp.2.1 h)
  refine x_goI (ls := ls) (rest := []) hE hw c9 (x_cd hK k_926) q_Mod_seal (by decide) (by decide) hl.1 (Nat.le_of_ble_eq_true rfl) hbd d_Law_law_248 (x_toV (As := [.int ((xs (v4 + (1 : Int32)).toNatClampNeg))]) (b := b2_) hx hb hown hK (x_recv1 (c0 := 8) hK hw hp.2 rfl (by decide)) k_923 k_924 k_925 ⟨_, x_cd hK k_926⟩ q_Mod_seal rfl rfl d_Law_law_248) (fun r78 L9 I79 k9 n9 H locs h hw hb9 => ?_) (fun _ _ _ _ _ _ _ h9 => h9.elim)
  clear c9
  obtain ⟨e1, e3, e4, h⟩ := h
  rw [e1] at hw
  rw [e3, e4]
  try dsimp only at h
  refine lv_istore (lv' := [(6, .int r78), (5, .int r74), (0, .ref b), (1, .ref b1_), (2, .ref b2_), (3, .ref b3_), (4, .int v4)]) hx hb d_Law_law_251 hl (by decide) rfl (fun ls hl => ?_)
  refine lv_aload_n hx hb d_Law_law_253 rfl (lv_at hl 4 rfl) ?_
  obtain ⟨hp, h⟩ := h
  have c9 := x_Cav (av' := [.ref b2_]) (by rw [hp.2.2]) (c_Mod_thrown (l := l) (L := L75) (I := I79) (k := k77) (n := n77) hp.1 hp.2.1 h)
  refine x_goI (ls := ls) (rest := []) hE hw c9 (x_cd hK k_904) q_Mod_thrown (by decide) (by decide) hl.1 (Nat.le_of_ble_eq_true rfl) hbd d_Law_law_254 (x_toV (As := []) (b := b2_) hx hb hown hK (x_recv1 (c0 := 8) hK hw hp.2 rfl (by decide)) k_901 k_902 k_903 ⟨_, x_cd hK k_904⟩ q_Mod_thrown rfl rfl d_Law_law_254) (fun r80 L9 I9 k9 n9 H locs h hw hb9 => ?_) (fun _ _ _ _ _ _ _ h9 => h9.elim)
  clear c9
  obtain ⟨e1, e2, e3, e4, h⟩ := h
  rw [e1, e2] at hw
  rw [e3, e4]
  try dsimp only at h
  refine lv_iload hx hb d_Law_law_257 (lv_at hl 1 rfl) ?_
  refine lv_icmp_eq (tgt := 264) hx hb d_Law_law_259 (by decide) (fun c81 => ?_) (fun c81 => ?_)
  · replace h := h.1 c81
    refine lv_iload hx hb d_Law_law_264 (lv_at hl 1 rfl) ?_
    refine lv_if_ne (tgt := 281) hx hb d_Law_law_266 (by decide) (fun c82 => ?_) (fun c82 => ?_)
    · replace h := h.1 c82
      refine lv_goto (tgt := 646) hx hb d_Law_law_281 (by decide) ?_
      obtain ⟨x83, e_x83⟩ : ∃ z : Int32, z = v4 + (5 : Int32) := ⟨_, rfl⟩
      replace h := h x83 e_x83
      refine lv_iinc (v := x83) (lv' := [(4, .int x83), (6, .int r78), (5, .int r74), (0, .ref b), (1, .ref b1_), (2, .ref b2_), (3, .ref b3_)]) hx hb d_Law_law_646 hl (k := 6) rfl (by rw [e_x83]; rfl) (by decide) rfl (fun ls hl => ?_)
      refine lv_goto (tgt := 23) hx hb d_Law_law_649 (by decide) ?_
      obtain ⟨nA, h⟩ := h
      exact hKK nA x83 Y L75 I79 k77 n77 H locs ls h hw hbd (lv_sub hl [3, 4, 5, 6, 0] rfl)
    · replace h := h.2 c82
      refine lv_aload_n hx hb d_Law_law_269 rfl (lv_at hl 5 rfl) ?_
      refine lv_iconst (v := 0) hx hb d_Law_law_270 (by decide) ?_
      refine x_lald1 (t := 25) (i := 0) hx hb hK hw h.1.1 rfl h.1.2 d_Law_law_271 ?_
      replace h := h.2
      refine lv_iload hx hb d_Law_law_272 (lv_at hl 0 rfl) ?_
      refine lv_i2l hx hb d_Law_law_274 rfl ?_
      refine W.lcmp hx hb d_Law_law_275 ?_
      refine lv_if_eq (tgt := 281) hx hb d_Law_law_276 (by decide) (fun c84 => ?_) (fun c84 => ?_)
      · replace h := h.1 c84
        refine lv_goto (tgt := 646) hx hb d_Law_law_281 (by decide) ?_
        obtain ⟨x85, e_x85⟩ : ∃ z : Int32, z = v4 + (5 : Int32) := ⟨_, rfl⟩
        replace h := h x85 e_x85
        refine lv_iinc (v := x85) (lv' := [(4, .int x85), (6, .int r78), (5, .int r74), (0, .ref b), (1, .ref b1_), (2, .ref b2_), (3, .ref b3_)]) hx hb d_Law_law_646 hl (k := 6) rfl (by rw [e_x85]; rfl) (by decide) rfl (fun ls hl => ?_)
        refine lv_goto (tgt := 23) hx hb d_Law_law_649 (by decide) ?_
        obtain ⟨nA, h⟩ := h
        exact hKK nA x85 Y L75 I79 k77 n77 H locs ls h hw hbd (lv_sub hl [3, 4, 5, 6, 0] rfl)
      · replace h := h.2 c84
        refine lv_iconst (v := 0) hx hb d_Law_law_279 (by decide) ?_
        exact h.elim
  · replace h := h.2 c81
    refine lv_iconst (v := 0) hx hb d_Law_law_262 (by decide) ?_
    exact h.elim
def yw_Law_law_284 (g : x_G) (Lx : Nat) (xs : Nat → Int32) (KK : Nat → Int32 → x_Y → x_L → x_I → Nat → Nat → Prop) (nA b1_ b2_ b3_ : Nat) (v4 : Int32) (Y : x_Y) (L : x_L) (I : x_I) (ka na : Nat) : Prop :=
  vp_in (v4 + (1 : Int32)) Lx ∧
  (x_Y0 g Y ∧ (x_ok Y 0 0 ∧ x_ad Y 0 0 = b1_)) ∧
  w_Led_argument (fun r87 I88 =>
    vp_in (v4 + (1 : Int32)) Lx ∧
    (x_Y0 g Y ∧ (x_ok Y 30 0 ∧ x_ad Y 30 0 = b2_)) ∧
    w_Mod_argument (fun r89 I90 =>
      ((r87 = r89 →
        ∀ x92 : Int32, x92 = v4 + (5 : Int32) →
        ∃ nA : Nat, KK nA x92 Y L I90 ka na) ∧
      (¬ r87 = r89 →
        False))) ((xs (v4 + (1 : Int32)).toNatClampNeg)) I88) ((xs (v4 + (1 : Int32)).toNatClampNeg)) I
set_option maxRecDepth 100000 in
set_option maxHeartbeats 4000000 in
theorem yc_Law_law_284 {l : Launch} {g : x_G} {p : Program} {e : Env} {s : State} {m : MethodId} {below : List Frame} {meth : Method} {c : Code} {b Lx : Nat} {xs : Nat → Int32} (hE : x_E l g p e room_1 s m meth c "CallLedgerLaw" code 7 ret 101 0 0) (hX : va_X b Lx xs s s.heap) (hgs : s.heap = g.2.2.2.1) {KK : Nat → Int32 → x_Y → x_L → x_I → Nat → Nat → Prop} {nA b1_ b2_ b3_ : Nat} {v4 : Int32} {Y : x_Y} {L : x_L} {I : x_I} {ka na : Nat} {H : Heap} {locs : List Loc} {ls : Array Slot} (hKK : ∀ (nA : Nat) (v4 : Int32) (Y : x_Y) (L : x_L) (I : x_I) (k n : Nat) (H : Heap) (locs : List Loc) (ls : Array Slot), KK nA v4 Y L I k n → x_WL g Y L I H locs → x_bd 0 0 k n → lv_has ls 7 [(0, .ref b), (1, .ref b1_), (2, .ref b2_), (3, .ref b3_), (4, .int v4)] → W p l e room_1 s m #[Value.ref b] below meth c H locs (k - 0) (n - 0) (lw_Z below #[Value.ref b] s) (F0 m 23 ls []))
    (h : yw_Law_law_284 g Lx xs KK nA b1_ b2_ b3_ v4 Y L I ka na) (hw : x_WL g Y L I H locs) (hbd : x_bd 0 0 ka na) (hl : lv_has ls 7 [(0, .ref b), (1, .ref b1_), (2, .ref b2_), (3, .ref b3_), (4, .int v4)]) : W p l e room_1 s m #[Value.ref b] below meth c H locs (ka - 0) (na - 0) (lw_Z below #[Value.ref b] s) (F0 m 284 ls []) := by
  obtain ⟨hx, hb, hml, hr, hlk, hown, hK, htr, hF, hLo, hRc, hRs⟩ := id hE
  unfold yw_Law_law_284 at h
  refine lv_aload_n hx hb d_Law_law_284 rfl (lv_at hl 1 rfl) ?_
  refine lv_aload_n hx hb d_Law_law_285 rfl (lv_at hl 0 rfl) ?_
  refine lv_iload hx hb d_Law_law_286 (lv_at hl 4 rfl) ?_
  refine lv_iconst (v := 1) hx hb d_Law_law_288 (by decide) ?_
  refine lv_iadd hx hb d_Law_law_289 ?_
  refine x_sld hx hb hX hgs hw h.1 d_Law_law_290 ?_
  replace h := h.2
  obtain ⟨hp, h⟩ := h
  have c9 := x_Cav (av' := [.ref b1_, .int ((xs (v4 + (1 : Int32)).toNatClampNeg))]) (by rw [hp.2.2]) (c_Led_argument (l := l) (L := L) (I := I) (k := ka) (n := na) hp.1 hp.2.1 h)
  refine x_goI (ls := ls) (rest := []) hE hw c9 (x_cd hK k_245) q_Led_argument (by decide) (by decide) hl.1 (Nat.le_of_ble_eq_true rfl) hbd d_Law_law_291 (x_toV (As := [.int ((xs (v4 + (1 : Int32)).toNatClampNeg))]) (b := b1_) hx hb hown hK (x_recv1 (c0 := 0) hK hw hp.2 rfl (by decide)) k_242 k_243 k_244 ⟨_, x_cd hK k_245⟩ q_Led_argument rfl rfl d_Law_law_291) (fun r87 L9 I88 k9 n9 H locs h hw hb9 => ?_) (fun _ _ _ _ _ _ _ h9 => h9.elim)
  clear c9
  obtain ⟨e1, e3, e4, h⟩ := h
  rw [e1] at hw
  rw [e3, e4]
  try dsimp only at h
  refine lv_aload_n hx hb d_Law_law_294 rfl (lv_at hl 2 rfl) ?_
  refine lv_aload_n hx hb d_Law_law_295 rfl (lv_at hl 0 rfl) ?_
  refine lv_iload hx hb d_Law_law_296 (lv_at hl 4 rfl) ?_
  refine lv_iconst (v := 1) hx hb d_Law_law_298 (by decide) ?_
  refine lv_iadd hx hb d_Law_law_299 ?_
  refine x_sld hx hb hX hgs hw h.1 d_Law_law_300 ?_
  replace h := h.2
  obtain ⟨hp, h⟩ := h
  have c9 := x_Cav (av' := [.ref b2_, .int ((xs (v4 + (1 : Int32)).toNatClampNeg))]) (by rw [hp.2.2]) (c_Mod_argument (l := l) (L := L) (I := I88) (k := ka) (n := na) hp.1 hp.2.1 h)
  refine x_goI (ls := ls) (rest := [.int r87]) hE hw c9 (x_cd hK k_933) q_Mod_argument (by decide) (by decide) hl.1 (Nat.le_of_ble_eq_true rfl) hbd d_Law_law_301 (x_toV (As := [.int ((xs (v4 + (1 : Int32)).toNatClampNeg))]) (b := b2_) hx hb hown hK (x_recv1 (c0 := 8) hK hw hp.2 rfl (by decide)) k_930 k_931 k_932 ⟨_, x_cd hK k_933⟩ q_Mod_argument rfl rfl d_Law_law_301) (fun r89 L9 I90 k9 n9 H locs h hw hb9 => ?_) (fun _ _ _ _ _ _ _ h9 => h9.elim)
  clear c9
  obtain ⟨e1, e3, e4, h⟩ := h
  rw [e1] at hw
  rw [e3, e4]
  try dsimp only at h
  refine lv_icmp_eq (tgt := 646) hx hb d_Law_law_304 (by decide) (fun c91 => ?_) (fun c91 => ?_)
  · replace h := h.1 c91
    obtain ⟨x92, e_x92⟩ : ∃ z : Int32, z = v4 + (5 : Int32) := ⟨_, rfl⟩
    replace h := h x92 e_x92
    refine lv_iinc (v := x92) (lv' := [(4, .int x92), (0, .ref b), (1, .ref b1_), (2, .ref b2_), (3, .ref b3_)]) hx hb d_Law_law_646 hl (k := 4) rfl (by rw [e_x92]; rfl) (by decide) rfl (fun ls hl => ?_)
    refine lv_goto (tgt := 23) hx hb d_Law_law_649 (by decide) ?_
    obtain ⟨nA, h⟩ := h
    exact hKK nA x92 Y L I90 ka na H locs ls h hw hbd (lv_sub hl [1, 2, 3, 4, 0] rfl)
  · replace h := h.2 c91
    refine lv_iconst (v := 0) hx hb d_Law_law_307 (by decide) ?_
    exact h.elim
def yw_Law_law_309 (g : x_G) (Lx : Nat) (xs : Nat → Int32) (KK : Nat → Int32 → x_Y → x_L → x_I → Nat → Nat → Prop) (nA b1_ b2_ b3_ : Nat) (v4 : Int32) (Y : x_Y) (L : x_L) (I : x_I) (ka na : Nat) : Prop :=
  vp_in (v4 + (1 : Int32)) Lx ∧
  vp_in (v4 + (2 : Int32)) Lx ∧
  vp_in (v4 + (3 : Int32)) Lx ∧
  vp_in (v4 + (4 : Int32)) Lx ∧
  (x_Y0 g Y ∧ x_Ls Y nA ∧ ¬ x_ok Y 18 0 ∧ ¬ x_ok Y 19 0 ∧ (x_ok Y 0 0 ∧ x_ad Y 0 0 = b1_) ∧ (x_ok Y 25 0 ∧ x_ad Y 25 0 = b3_)) ∧
  w_Law_transact (fun r94 L95 I96 k97 n97 =>
    vp_in (v4 + (1 : Int32)) Lx ∧
    vp_in (v4 + (2 : Int32)) Lx ∧
    vp_in (v4 + (3 : Int32)) Lx ∧
    vp_in (v4 + (4 : Int32)) Lx ∧
    (x_Y0 g Y ∧ (x_ok Y 30 0 ∧ x_ad Y 30 0 = b2_)) ∧
    w_Mod_transact (fun r98 I99 =>
      (x_Y0 g Y ∧ (x_ok Y 30 0 ∧ x_ad Y 30 0 = b2_)) ∧
      w_Mod_thrown (fun r100 =>
        ((r100 = r94 →
          ((¬ r94 = 0 →
            ∀ x103 : Int32, x103 = v4 + (5 : Int32) →
            ∃ nA : Nat, KK nA x103 Y L95 I99 k97 n97) ∧
          (r94 = 0 →
            ((x_ok Y 25 0 ∧ x_ad Y 25 0 = b3_) ∧ vp_in (0 : Int32) (x_n Y 25 0)) ∧
            (((lg_cmp (L95 25 0 (0 : Int32).toNatClampNeg) (r98.toInt64)) = 0 →
              ∀ x105 : Int32, x105 = v4 + (5 : Int32) →
              ∃ nA : Nat, KK nA x105 Y L95 I99 k97 n97) ∧
            (¬ (lg_cmp (L95 25 0 (0 : Int32).toNatClampNeg) (r98.toInt64)) = 0 →
              False))))) ∧
        (¬ r100 = r94 →
          False))) I99) ((xs (v4 + (1 : Int32)).toNatClampNeg)) ((xs (v4 + (2 : Int32)).toNatClampNeg)) ((xs (v4 + (3 : Int32)).toNatClampNeg)) ((xs (v4 + (4 : Int32)).toNatClampNeg)) I96) (x_PL 8) nA ((xs (v4 + (1 : Int32)).toNatClampNeg)) ((xs (v4 + (2 : Int32)).toNatClampNeg)) ((xs (v4 + (3 : Int32)).toNatClampNeg)) ((xs (v4 + (4 : Int32)).toNatClampNeg)) L I ka na
set_option maxRecDepth 100000 in
set_option maxHeartbeats 4000000 in
theorem yc_Law_law_309 {l : Launch} {g : x_G} {p : Program} {e : Env} {s : State} {m : MethodId} {below : List Frame} {meth : Method} {c : Code} {b Lx : Nat} {xs : Nat → Int32} (hE : x_E l g p e room_1 s m meth c "CallLedgerLaw" code 7 ret 101 0 0) (hX : va_X b Lx xs s s.heap) (hgs : s.heap = g.2.2.2.1) {KK : Nat → Int32 → x_Y → x_L → x_I → Nat → Nat → Prop} {nA b1_ b2_ b3_ : Nat} {v4 : Int32} {Y : x_Y} {L : x_L} {I : x_I} {ka na : Nat} {H : Heap} {locs : List Loc} {ls : Array Slot} (hKK : ∀ (nA : Nat) (v4 : Int32) (Y : x_Y) (L : x_L) (I : x_I) (k n : Nat) (H : Heap) (locs : List Loc) (ls : Array Slot), KK nA v4 Y L I k n → x_WL g Y L I H locs → x_bd 0 0 k n → lv_has ls 7 [(0, .ref b), (1, .ref b1_), (2, .ref b2_), (3, .ref b3_), (4, .int v4)] → W p l e room_1 s m #[Value.ref b] below meth c H locs (k - 0) (n - 0) (lw_Z below #[Value.ref b] s) (F0 m 23 ls []))
    (h : yw_Law_law_309 g Lx xs KK nA b1_ b2_ b3_ v4 Y L I ka na) (hw : x_WL g Y L I H locs) (hbd : x_bd 0 0 ka na) (hl : lv_has ls 7 [(0, .ref b), (1, .ref b1_), (2, .ref b2_), (3, .ref b3_), (4, .int v4)]) : W p l e room_1 s m #[Value.ref b] below meth c H locs (ka - 0) (na - 0) (lw_Z below #[Value.ref b] s) (F0 m 309 ls []) := by
  obtain ⟨hx, hb, hml, hr, hlk, hown, hK, htr, hF, hLo, hRc, hRs⟩ := id hE
  unfold yw_Law_law_309 at h
  refine lv_aload_n hx hb d_Law_law_309 rfl (lv_at hl 1 rfl) ?_
  refine lv_aload_n hx hb d_Law_law_310 rfl (lv_at hl 0 rfl) ?_
  refine lv_iload hx hb d_Law_law_311 (lv_at hl 4 rfl) ?_
  refine lv_iconst (v := 1) hx hb d_Law_law_313 (by decide) ?_
  refine lv_iadd hx hb d_Law_law_314 ?_
  refine x_sld hx hb hX hgs hw h.1 d_Law_law_315 ?_
  replace h := h.2
  refine lv_aload_n hx hb d_Law_law_316 rfl (lv_at hl 0 rfl) ?_
  refine lv_iload hx hb d_Law_law_317 (lv_at hl 4 rfl) ?_
  refine lv_iconst (v := 2) hx hb d_Law_law_319 (by decide) ?_
  refine lv_iadd hx hb d_Law_law_320 ?_
  refine x_sld hx hb hX hgs hw h.1 d_Law_law_321 ?_
  replace h := h.2
  refine lv_aload_n hx hb d_Law_law_322 rfl (lv_at hl 0 rfl) ?_
  refine lv_iload hx hb d_Law_law_323 (lv_at hl 4 rfl) ?_
  refine lv_iconst (v := 3) hx hb d_Law_law_325 (by decide) ?_
  refine lv_iadd hx hb d_Law_law_326 ?_
  refine x_sld hx hb hX hgs hw h.1 d_Law_law_327 ?_
  replace h := h.2
  refine lv_aload_n hx hb d_Law_law_328 rfl (lv_at hl 0 rfl) ?_
  refine lv_iload hx hb d_Law_law_329 (lv_at hl 4 rfl) ?_
  refine lv_iconst (v := 4) hx hb d_Law_law_331 (by decide) ?_
  refine lv_iadd hx hb d_Law_law_332 ?_
  refine x_sld hx hb hX hgs hw h.1 d_Law_law_333 ?_
  replace h := h.2
  refine lv_aload_n hx hb d_Law_law_334 rfl (lv_at hl 3 rfl) ?_
  obtain ⟨hp, h⟩ := h
  have c9 := x_Cav (av' := [.ref b1_, .int ((xs (v4 + (1 : Int32)).toNatClampNeg)), .int ((xs (v4 + (2 : Int32)).toNatClampNeg)), .int ((xs (v4 + (3 : Int32)).toNatClampNeg)), .int ((xs (v4 + (4 : Int32)).toNatClampNeg)), .ref b3_]) (by rw [hp.2.2.2.2.1.2, hp.2.2.2.2.2.2]) (c_Law_transact (l := l) (L := L) (I := I) (k := ka) (n := na) hp.1 hp.2.1 hp.2.2.1 hp.2.2.2.1 (Fp := 88) (fun ok9 h9 => c_PL hp.1 hp.2.1 hp.2.2.1 hp.2.2.2.1 8 ok9 h9) hp.2.2.2.2.1.1 hp.2.2.2.2.2.1 h)
  refine x_goI (ls := ls) (rest := []) hE hw c9 (x_cdW hK k_611) q_Law_transact (by decide) (by decide) hl.1 (Nat.le_of_ble_eq_true rfl) hbd d_Law_law_335 (x_toS (As := [.ref b1_, .int ((xs (v4 + (1 : Int32)).toNatClampNeg)), .int ((xs (v4 + (2 : Int32)).toNatClampNeg)), .int ((xs (v4 + (3 : Int32)).toNatClampNeg)), .int ((xs (v4 + (4 : Int32)).toNatClampNeg)), .ref b3_]) hx hb hown hK k_609 k_610 k_0 ⟨_, x_cdW hK k_611⟩ q_Law_transact rfl rfl d_Law_law_335) (fun r94 L95 I96 k97 n97 H locs h hw hb9 => ?_) (fun _ _ _ _ _ _ _ h9 => h9.elim)
  clear c9
  replace hbd := hbd.tr hb9
  try dsimp only at h
  refine lv_istore (lv' := [(5, .int r94), (0, .ref b), (1, .ref b1_), (2, .ref b2_), (3, .ref b3_), (4, .int v4)]) hx hb d_Law_law_338 hl (by decide) rfl (fun ls hl => ?_)
  refine lv_aload_n hx hb d_Law_law_340 rfl (lv_at hl 3 rfl) ?_
  refine lv_aload_n hx hb d_Law_law_341 rfl (lv_at hl 1 rfl) ?_
  refine lv_iload hx hb d_Law_law_342 (lv_at hl 5 rfl) ?_
  refine lv_iconst (v := 1) hx hb d_Law_law_344 (by decide) ?_
  refine lv_iadd hx hb d_Law_law_345 ?_
  refine x_sld hx hb hX hgs hw h.1 d_Law_law_346 ?_
  replace h := h.2
  refine lv_aload_n hx hb d_Law_law_347 rfl (lv_at hl 1 rfl) ?_
  refine lv_iload hx hb d_Law_law_348 (lv_at hl 5 rfl) ?_
  refine lv_iconst (v := 2) hx hb d_Law_law_350 (by decide) ?_
  refine lv_iadd hx hb d_Law_law_351 ?_
  refine x_sld hx hb hX hgs hw h.1 d_Law_law_352 ?_
  replace h := h.2
  refine lv_aload_n hx hb d_Law_law_353 rfl (lv_at hl 1 rfl) ?_
  refine lv_iload hx hb d_Law_law_354 (lv_at hl 5 rfl) ?_
  refine lv_iconst (v := 3) hx hb d_Law_law_356 (by decide) ?_
  refine lv_iadd hx hb d_Law_law_357 ?_
  refine x_sld hx hb hX hgs hw h.1 d_Law_law_358 ?_
  replace h := h.2
  refine lv_aload_n hx hb d_Law_law_359 rfl (lv_at hl 1 rfl) ?_
  refine lv_iload hx hb d_Law_law_360 (lv_at hl 5 rfl) ?_
  refine lv_iconst (v := 4) hx hb d_Law_law_362 (by decide) ?_
  refine lv_iadd hx hb d_Law_law_363 ?_
  refine x_sld hx hb hX hgs hw h.1 d_Law_law_364 ?_
  replace h := h.2
  obtain ⟨hp, h⟩ := h
  have c9 := x_Cav (av' := [.ref b2_, .int ((xs (v4 + (1 : Int32)).toNatClampNeg)), .int ((xs (v4 + (2 : Int32)).toNatClampNeg)), .int ((xs (v4 + (3 : Int32)).toNatClampNeg)), .int ((xs (v4 + (4 : Int32)).toNatClampNeg))]) (by rw [hp.2.2]) (c_Mod_transact (l := l) (L := L95) (I := I96) (k := k97) (n := n97) hp.1 hp.2.1 h)
  refine x_goI (ls := ls) (rest := []) hE hw c9 (x_cd hK k_973) q_Mod_transact (by decide) (by decide) hl.1 (Nat.le_of_ble_eq_true rfl) hbd d_Law_law_365 (x_toV (As := [.int ((xs (v4 + (1 : Int32)).toNatClampNeg)), .int ((xs (v4 + (2 : Int32)).toNatClampNeg)), .int ((xs (v4 + (3 : Int32)).toNatClampNeg)), .int ((xs (v4 + (4 : Int32)).toNatClampNeg))]) (b := b2_) hx hb hown hK (x_recv1 (c0 := 8) hK hw hp.2 rfl (by decide)) k_970 k_971 k_972 ⟨_, x_cd hK k_973⟩ q_Mod_transact rfl rfl d_Law_law_365) (fun r98 L9 I99 k9 n9 H locs h hw hb9 => ?_) (fun _ _ _ _ _ _ _ h9 => h9.elim)
  clear c9
  obtain ⟨e1, e3, e4, h⟩ := h
  rw [e1] at hw
  rw [e3, e4]
  try dsimp only at h
  refine lv_istore (lv' := [(6, .int r98), (5, .int r94), (0, .ref b), (1, .ref b1_), (2, .ref b2_), (3, .ref b3_), (4, .int v4)]) hx hb d_Law_law_368 hl (by decide) rfl (fun ls hl => ?_)
  refine lv_aload_n hx hb d_Law_law_370 rfl (lv_at hl 4 rfl) ?_
  obtain ⟨hp, h⟩ := h
  have c9 := x_Cav (av' := [.ref b2_]) (by rw [hp.2.2]) (c_Mod_thrown (l := l) (L := L95) (I := I99) (k := k97) (n := n97) hp.1 hp.2.1 h)
  refine x_goI (ls := ls) (rest := []) hE hw c9 (x_cd hK k_904) q_Mod_thrown (by decide) (by decide) hl.1 (Nat.le_of_ble_eq_true rfl) hbd d_Law_law_371 (x_toV (As := []) (b := b2_) hx hb hown hK (x_recv1 (c0 := 8) hK hw hp.2 rfl (by decide)) k_901 k_902 k_903 ⟨_, x_cd hK k_904⟩ q_Mod_thrown rfl rfl d_Law_law_371) (fun r100 L9 I9 k9 n9 H locs h hw hb9 => ?_) (fun _ _ _ _ _ _ _ h9 => h9.elim)
  clear c9
  obtain ⟨e1, e2, e3, e4, h⟩ := h
  rw [e1, e2] at hw
  rw [e3, e4]
  try dsimp only at h
  refine lv_iload hx hb d_Law_law_374 (lv_at hl 1 rfl) ?_
  refine lv_icmp_eq (tgt := 381) hx hb d_Law_law_376 (by decide) (fun c101 => ?_) (fun c101 => ?_)
  · replace h := h.1 c101
    refine lv_iload hx hb d_Law_law_381 (lv_at hl 1 rfl) ?_
    refine lv_if_ne (tgt := 398) hx hb d_Law_law_383 (by decide) (fun c102 => ?_) (fun c102 => ?_)
    · replace h := h.1 c102
      refine lv_goto (tgt := 646) hx hb d_Law_law_398 (by decide) ?_
      obtain ⟨x103, e_x103⟩ : ∃ z : Int32, z = v4 + (5 : Int32) := ⟨_, rfl⟩
      replace h := h x103 e_x103
      refine lv_iinc (v := x103) (lv' := [(4, .int x103), (6, .int r98), (5, .int r94), (0, .ref b), (1, .ref b1_), (2, .ref b2_), (3, .ref b3_)]) hx hb d_Law_law_646 hl (k := 6) rfl (by rw [e_x103]; rfl) (by decide) rfl (fun ls hl => ?_)
      refine lv_goto (tgt := 23) hx hb d_Law_law_649 (by decide) ?_
      obtain ⟨nA, h⟩ := h
      exact hKK nA x103 Y L95 I99 k97 n97 H locs ls h hw hbd (lv_sub hl [3, 4, 5, 6, 0] rfl)
    · replace h := h.2 c102
      refine lv_aload_n hx hb d_Law_law_386 rfl (lv_at hl 5 rfl) ?_
      refine lv_iconst (v := 0) hx hb d_Law_law_387 (by decide) ?_
      refine x_lald1 (t := 25) (i := 0) hx hb hK hw h.1.1 rfl h.1.2 d_Law_law_388 ?_
      replace h := h.2
      refine lv_iload hx hb d_Law_law_389 (lv_at hl 0 rfl) ?_
      refine lv_i2l hx hb d_Law_law_391 rfl ?_
      refine W.lcmp hx hb d_Law_law_392 ?_
      refine lv_if_eq (tgt := 398) hx hb d_Law_law_393 (by decide) (fun c104 => ?_) (fun c104 => ?_)
      · replace h := h.1 c104
        refine lv_goto (tgt := 646) hx hb d_Law_law_398 (by decide) ?_
        obtain ⟨x105, e_x105⟩ : ∃ z : Int32, z = v4 + (5 : Int32) := ⟨_, rfl⟩
        replace h := h x105 e_x105
        refine lv_iinc (v := x105) (lv' := [(4, .int x105), (6, .int r98), (5, .int r94), (0, .ref b), (1, .ref b1_), (2, .ref b2_), (3, .ref b3_)]) hx hb d_Law_law_646 hl (k := 6) rfl (by rw [e_x105]; rfl) (by decide) rfl (fun ls hl => ?_)
        refine lv_goto (tgt := 23) hx hb d_Law_law_649 (by decide) ?_
        obtain ⟨nA, h⟩ := h
        exact hKK nA x105 Y L95 I99 k97 n97 H locs ls h hw hbd (lv_sub hl [3, 4, 5, 6, 0] rfl)
      · replace h := h.2 c104
        refine lv_iconst (v := 0) hx hb d_Law_law_396 (by decide) ?_
        exact h.elim
  · replace h := h.2 c101
    refine lv_iconst (v := 0) hx hb d_Law_law_379 (by decide) ?_
    exact h.elim
def yw_Law_law_401 (g : x_G) (Lx : Nat) (xs : Nat → Int32) (KK : Nat → Int32 → x_Y → x_L → x_I → Nat → Nat → Prop) (nA b1_ b2_ b3_ : Nat) (v4 : Int32) (Y : x_Y) (L : x_L) (I : x_I) (ka na : Nat) : Prop :=
  (x_Y0 g Y ∧ (x_ok Y 0 0 ∧ x_ad Y 0 0 = b1_)) ∧
  w_Led_used (fun r107 =>
    (x_Y0 g Y ∧ (x_ok Y 30 0 ∧ x_ad Y 30 0 = b2_)) ∧
    w_Mod_used (fun r108 I109 =>
      ((r107 = r108 →
        ∀ x111 : Int32, x111 = v4 + (5 : Int32) →
        ∃ nA : Nat, KK nA x111 Y L I109 ka na) ∧
      (¬ r107 = r108 →
        False))) I) I
set_option maxRecDepth 100000 in
set_option maxHeartbeats 4000000 in
theorem yc_Law_law_401 {l : Launch} {g : x_G} {p : Program} {e : Env} {s : State} {m : MethodId} {below : List Frame} {meth : Method} {c : Code} {b Lx : Nat} {xs : Nat → Int32} (hE : x_E l g p e room_1 s m meth c "CallLedgerLaw" code 7 ret 101 0 0) (hX : va_X b Lx xs s s.heap) (hgs : s.heap = g.2.2.2.1) {KK : Nat → Int32 → x_Y → x_L → x_I → Nat → Nat → Prop} {nA b1_ b2_ b3_ : Nat} {v4 : Int32} {Y : x_Y} {L : x_L} {I : x_I} {ka na : Nat} {H : Heap} {locs : List Loc} {ls : Array Slot} (hKK : ∀ (nA : Nat) (v4 : Int32) (Y : x_Y) (L : x_L) (I : x_I) (k n : Nat) (H : Heap) (locs : List Loc) (ls : Array Slot), KK nA v4 Y L I k n → x_WL g Y L I H locs → x_bd 0 0 k n → lv_has ls 7 [(0, .ref b), (1, .ref b1_), (2, .ref b2_), (3, .ref b3_), (4, .int v4)] → W p l e room_1 s m #[Value.ref b] below meth c H locs (k - 0) (n - 0) (lw_Z below #[Value.ref b] s) (F0 m 23 ls []))
    (h : yw_Law_law_401 g Lx xs KK nA b1_ b2_ b3_ v4 Y L I ka na) (hw : x_WL g Y L I H locs) (hbd : x_bd 0 0 ka na) (hl : lv_has ls 7 [(0, .ref b), (1, .ref b1_), (2, .ref b2_), (3, .ref b3_), (4, .int v4)]) : W p l e room_1 s m #[Value.ref b] below meth c H locs (ka - 0) (na - 0) (lw_Z below #[Value.ref b] s) (F0 m 401 ls []) := by
  obtain ⟨hx, hb, hml, hr, hlk, hown, hK, htr, hF, hLo, hRc, hRs⟩ := id hE
  unfold yw_Law_law_401 at h
  refine lv_aload_n hx hb d_Law_law_401 rfl (lv_at hl 1 rfl) ?_
  obtain ⟨hp, h⟩ := h
  have c9 := x_Cav (av' := [.ref b1_]) (by rw [hp.2.2]) (c_Led_used (l := l) (L := L) (I := I) (k := ka) (n := na) hp.1 hp.2.1 h)
  refine x_goI (ls := ls) (rest := []) hE hw c9 (x_cd hK k_249) q_Led_used (by decide) (by decide) hl.1 (Nat.le_of_ble_eq_true rfl) hbd d_Law_law_402 (x_toV (As := []) (b := b1_) hx hb hown hK (x_recv1 (c0 := 0) hK hw hp.2 rfl (by decide)) k_246 k_247 k_248 ⟨_, x_cd hK k_249⟩ q_Led_used rfl rfl d_Law_law_402) (fun r107 L9 I9 k9 n9 H locs h hw hb9 => ?_) (fun _ _ _ _ _ _ _ h9 => h9.elim)
  clear c9
  obtain ⟨e1, e2, e3, e4, h⟩ := h
  rw [e1, e2] at hw
  rw [e3, e4]
  try dsimp only at h
  refine lv_aload_n hx hb d_Law_law_405 rfl (lv_at hl 2 rfl) ?_
  obtain ⟨hp, h⟩ := h
  have c9 := x_Cav (av' := [.ref b2_]) (by rw [hp.2.2]) (c_Mod_used (l := l) (L := L) (I := I) (k := ka) (n := na) hp.1 hp.2.1 h)
  refine x_goI (ls := ls) (rest := [.int r107]) hE hw c9 (x_cd hK k_965) q_Mod_used (by decide) (by decide) hl.1 (Nat.le_of_ble_eq_true rfl) hbd d_Law_law_406 (x_toV (As := []) (b := b2_) hx hb hown hK (x_recv1 (c0 := 8) hK hw hp.2 rfl (by decide)) k_962 k_963 k_964 ⟨_, x_cd hK k_965⟩ q_Mod_used rfl rfl d_Law_law_406) (fun r108 L9 I109 k9 n9 H locs h hw hb9 => ?_) (fun _ _ _ _ _ _ _ h9 => h9.elim)
  clear c9
  obtain ⟨e1, e3, e4, h⟩ := h
  rw [e1] at hw
  rw [e3, e4]
  try dsimp only at h
  refine lv_icmp_eq (tgt := 646) hx hb d_Law_law_409 (by decide) (fun c110 => ?_) (fun c110 => ?_)
  · replace h := h.1 c110
    obtain ⟨x111, e_x111⟩ : ∃ z : Int32, z = v4 + (5 : Int32) := ⟨_, rfl⟩
    replace h := h x111 e_x111
    refine lv_iinc (v := x111) (lv' := [(4, .int x111), (0, .ref b), (1, .ref b1_), (2, .ref b2_), (3, .ref b3_)]) hx hb d_Law_law_646 hl (k := 4) rfl (by rw [e_x111]; rfl) (by decide) rfl (fun ls hl => ?_)
    refine lv_goto (tgt := 23) hx hb d_Law_law_649 (by decide) ?_
    obtain ⟨nA, h⟩ := h
    exact hKK nA x111 Y L I109 ka na H locs ls h hw hbd (lv_sub hl [1, 2, 3, 4, 0] rfl)
  · replace h := h.2 c110
    refine lv_iconst (v := 0) hx hb d_Law_law_412 (by decide) ?_
    exact h.elim
def yw_Law_law_414 (g : x_G) (Lx : Nat) (xs : Nat → Int32) (KK : Nat → Int32 → x_Y → x_L → x_I → Nat → Nat → Prop) (nA b1_ b2_ b3_ : Nat) (v4 : Int32) (Y : x_Y) (L : x_L) (I : x_I) (ka na : Nat) : Prop :=
  (x_Y0 g Y ∧ (x_ok Y 0 0 ∧ x_ad Y 0 0 = b1_)) ∧
  w_Led_result (fun r113 =>
    (x_Y0 g Y ∧ (x_ok Y 30 0 ∧ x_ad Y 30 0 = b2_)) ∧
    w_Mod_result (fun r114 I115 =>
      ((r113 = r114 →
        ∀ x117 : Int32, x117 = v4 + (5 : Int32) →
        ∃ nA : Nat, KK nA x117 Y L I115 ka na) ∧
      (¬ r113 = r114 →
        False))) I) I
set_option maxRecDepth 100000 in
set_option maxHeartbeats 4000000 in
theorem yc_Law_law_414 {l : Launch} {g : x_G} {p : Program} {e : Env} {s : State} {m : MethodId} {below : List Frame} {meth : Method} {c : Code} {b Lx : Nat} {xs : Nat → Int32} (hE : x_E l g p e room_1 s m meth c "CallLedgerLaw" code 7 ret 101 0 0) (hX : va_X b Lx xs s s.heap) (hgs : s.heap = g.2.2.2.1) {KK : Nat → Int32 → x_Y → x_L → x_I → Nat → Nat → Prop} {nA b1_ b2_ b3_ : Nat} {v4 : Int32} {Y : x_Y} {L : x_L} {I : x_I} {ka na : Nat} {H : Heap} {locs : List Loc} {ls : Array Slot} (hKK : ∀ (nA : Nat) (v4 : Int32) (Y : x_Y) (L : x_L) (I : x_I) (k n : Nat) (H : Heap) (locs : List Loc) (ls : Array Slot), KK nA v4 Y L I k n → x_WL g Y L I H locs → x_bd 0 0 k n → lv_has ls 7 [(0, .ref b), (1, .ref b1_), (2, .ref b2_), (3, .ref b3_), (4, .int v4)] → W p l e room_1 s m #[Value.ref b] below meth c H locs (k - 0) (n - 0) (lw_Z below #[Value.ref b] s) (F0 m 23 ls []))
    (h : yw_Law_law_414 g Lx xs KK nA b1_ b2_ b3_ v4 Y L I ka na) (hw : x_WL g Y L I H locs) (hbd : x_bd 0 0 ka na) (hl : lv_has ls 7 [(0, .ref b), (1, .ref b1_), (2, .ref b2_), (3, .ref b3_), (4, .int v4)]) : W p l e room_1 s m #[Value.ref b] below meth c H locs (ka - 0) (na - 0) (lw_Z below #[Value.ref b] s) (F0 m 414 ls []) := by
  obtain ⟨hx, hb, hml, hr, hlk, hown, hK, htr, hF, hLo, hRc, hRs⟩ := id hE
  unfold yw_Law_law_414 at h
  refine lv_aload_n hx hb d_Law_law_414 rfl (lv_at hl 1 rfl) ?_
  obtain ⟨hp, h⟩ := h
  have c9 := x_Cav (av' := [.ref b1_]) (by rw [hp.2.2]) (c_Led_result (l := l) (L := L) (I := I) (k := ka) (n := na) hp.1 hp.2.1 h)
  refine x_goI (ls := ls) (rest := []) hE hw c9 (x_cd hK k_253) q_Led_result (by decide) (by decide) hl.1 (Nat.le_of_ble_eq_true rfl) hbd d_Law_law_415 (x_toV (As := []) (b := b1_) hx hb hown hK (x_recv1 (c0 := 0) hK hw hp.2 rfl (by decide)) k_250 k_251 k_252 ⟨_, x_cd hK k_253⟩ q_Led_result rfl rfl d_Law_law_415) (fun r113 L9 I9 k9 n9 H locs h hw hb9 => ?_) (fun _ _ _ _ _ _ _ h9 => h9.elim)
  clear c9
  obtain ⟨e1, e2, e3, e4, h⟩ := h
  rw [e1, e2] at hw
  rw [e3, e4]
  try dsimp only at h
  refine lv_aload_n hx hb d_Law_law_418 rfl (lv_at hl 2 rfl) ?_
  obtain ⟨hp, h⟩ := h
  have c9 := x_Cav (av' := [.ref b2_]) (by rw [hp.2.2]) (c_Mod_result (l := l) (L := L) (I := I) (k := ka) (n := na) hp.1 hp.2.1 h)
  refine x_goI (ls := ls) (rest := [.int r113]) hE hw c9 (x_cd hK k_969) q_Mod_result (by decide) (by decide) hl.1 (Nat.le_of_ble_eq_true rfl) hbd d_Law_law_419 (x_toV (As := []) (b := b2_) hx hb hown hK (x_recv1 (c0 := 8) hK hw hp.2 rfl (by decide)) k_966 k_967 k_968 ⟨_, x_cd hK k_969⟩ q_Mod_result rfl rfl d_Law_law_419) (fun r114 L9 I115 k9 n9 H locs h hw hb9 => ?_) (fun _ _ _ _ _ _ _ h9 => h9.elim)
  clear c9
  obtain ⟨e1, e3, e4, h⟩ := h
  rw [e1] at hw
  rw [e3, e4]
  try dsimp only at h
  refine lv_icmp_eq (tgt := 646) hx hb d_Law_law_422 (by decide) (fun c116 => ?_) (fun c116 => ?_)
  · replace h := h.1 c116
    obtain ⟨x117, e_x117⟩ : ∃ z : Int32, z = v4 + (5 : Int32) := ⟨_, rfl⟩
    replace h := h x117 e_x117
    refine lv_iinc (v := x117) (lv' := [(4, .int x117), (0, .ref b), (1, .ref b1_), (2, .ref b2_), (3, .ref b3_)]) hx hb d_Law_law_646 hl (k := 4) rfl (by rw [e_x117]; rfl) (by decide) rfl (fun ls hl => ?_)
    refine lv_goto (tgt := 23) hx hb d_Law_law_649 (by decide) ?_
    obtain ⟨nA, h⟩ := h
    exact hKK nA x117 Y L I115 ka na H locs ls h hw hbd (lv_sub hl [1, 2, 3, 4, 0] rfl)
  · replace h := h.2 c116
    refine lv_iconst (v := 0) hx hb d_Law_law_425 (by decide) ?_
    exact h.elim
def yw_Law_law_427 (g : x_G) (Lx : Nat) (xs : Nat → Int32) (KK : Nat → Int32 → x_Y → x_L → x_I → Nat → Nat → Prop) (nA b1_ b2_ b3_ : Nat) (v4 : Int32) (Y : x_Y) (L : x_L) (I : x_I) (ka na : Nat) : Prop :=
  vp_in (v4 + (1 : Int32)) Lx ∧
  (x_Y0 g Y ∧ x_Ls Y nA ∧ (x_ok Y 0 0 ∧ x_ad Y 0 0 = b1_) ∧ (x_ok Y 25 0 ∧ x_ad Y 25 0 = b3_)) ∧
  w_Law_balance (fun r119 L120 I121 k122 n122 =>
    vp_in (v4 + (1 : Int32)) Lx ∧
    (x_Y0 g Y ∧ (x_ok Y 30 0 ∧ x_ad Y 30 0 = b2_)) ∧
    w_Mod_balance (fun r123 I124 =>
      (x_Y0 g Y ∧ (x_ok Y 30 0 ∧ x_ad Y 30 0 = b2_)) ∧
      w_Mod_thrown (fun r125 =>
        ((r125 = r119 →
          ((¬ r119 = 0 →
            ∀ x128 : Int32, x128 = v4 + (5 : Int32) →
            ∃ nA : Nat, KK nA x128 Y L120 I124 k122 n122) ∧
          (r119 = 0 →
            ((x_ok Y 25 0 ∧ x_ad Y 25 0 = b3_) ∧ vp_in (0 : Int32) (x_n Y 25 0)) ∧
            (((lg_cmp (L120 25 0 (0 : Int32).toNatClampNeg) (r123.toInt64)) = 0 →
              ∀ x130 : Int32, x130 = v4 + (5 : Int32) →
              ∃ nA : Nat, KK nA x130 Y L120 I124 k122 n122) ∧
            (¬ (lg_cmp (L120 25 0 (0 : Int32).toNatClampNeg) (r123.toInt64)) = 0 →
              False))))) ∧
        (¬ r125 = r119 →
          False))) I124) ((xs (v4 + (1 : Int32)).toNatClampNeg)) I121) nA ((xs (v4 + (1 : Int32)).toNatClampNeg)) L I ka na
set_option maxRecDepth 100000 in
set_option maxHeartbeats 4000000 in
theorem yc_Law_law_427 {l : Launch} {g : x_G} {p : Program} {e : Env} {s : State} {m : MethodId} {below : List Frame} {meth : Method} {c : Code} {b Lx : Nat} {xs : Nat → Int32} (hE : x_E l g p e room_1 s m meth c "CallLedgerLaw" code 7 ret 101 0 0) (hX : va_X b Lx xs s s.heap) (hgs : s.heap = g.2.2.2.1) {KK : Nat → Int32 → x_Y → x_L → x_I → Nat → Nat → Prop} {nA b1_ b2_ b3_ : Nat} {v4 : Int32} {Y : x_Y} {L : x_L} {I : x_I} {ka na : Nat} {H : Heap} {locs : List Loc} {ls : Array Slot} (hKK : ∀ (nA : Nat) (v4 : Int32) (Y : x_Y) (L : x_L) (I : x_I) (k n : Nat) (H : Heap) (locs : List Loc) (ls : Array Slot), KK nA v4 Y L I k n → x_WL g Y L I H locs → x_bd 0 0 k n → lv_has ls 7 [(0, .ref b), (1, .ref b1_), (2, .ref b2_), (3, .ref b3_), (4, .int v4)] → W p l e room_1 s m #[Value.ref b] below meth c H locs (k - 0) (n - 0) (lw_Z below #[Value.ref b] s) (F0 m 23 ls []))
    (h : yw_Law_law_427 g Lx xs KK nA b1_ b2_ b3_ v4 Y L I ka na) (hw : x_WL g Y L I H locs) (hbd : x_bd 0 0 ka na) (hl : lv_has ls 7 [(0, .ref b), (1, .ref b1_), (2, .ref b2_), (3, .ref b3_), (4, .int v4)]) : W p l e room_1 s m #[Value.ref b] below meth c H locs (ka - 0) (na - 0) (lw_Z below #[Value.ref b] s) (F0 m 427 ls []) := by
  obtain ⟨hx, hb, hml, hr, hlk, hown, hK, htr, hF, hLo, hRc, hRs⟩ := id hE
  unfold yw_Law_law_427 at h
  refine lv_aload_n hx hb d_Law_law_427 rfl (lv_at hl 1 rfl) ?_
  refine lv_aload_n hx hb d_Law_law_428 rfl (lv_at hl 0 rfl) ?_
  refine lv_iload hx hb d_Law_law_429 (lv_at hl 4 rfl) ?_
  refine lv_iconst (v := 1) hx hb d_Law_law_431 (by decide) ?_
  refine lv_iadd hx hb d_Law_law_432 ?_
  refine x_sld hx hb hX hgs hw h.1 d_Law_law_433 ?_
  replace h := h.2
  refine lv_aload_n hx hb d_Law_law_434 rfl (lv_at hl 3 rfl) ?_
  obtain ⟨hp, h⟩ := h
  have c9 := x_Cav (av' := [.ref b1_, .int ((xs (v4 + (1 : Int32)).toNatClampNeg)), .ref b3_]) (by rw [hp.2.2.1.2, hp.2.2.2.2]) (c_Law_balance (l := l) (L := L) (I := I) (k := ka) (n := na) hp.1 hp.2.1 hp.2.2.1.1 hp.2.2.2.1 h)
  refine x_goI (ls := ls) (rest := []) hE hw c9 (x_cdW hK k_771) q_Law_balance (by decide) (by decide) hl.1 (Nat.le_of_ble_eq_true rfl) hbd d_Law_law_435 (x_toS (As := [.ref b1_, .int ((xs (v4 + (1 : Int32)).toNatClampNeg)), .ref b3_]) hx hb hown hK k_769 k_770 k_0 ⟨_, x_cdW hK k_771⟩ q_Law_balance rfl rfl d_Law_law_435) (fun r119 L120 I121 k122 n122 H locs h hw hb9 => ?_) (fun _ _ _ _ _ _ _ h9 => h9.elim)
  clear c9
  replace hbd := hbd.tr hb9
  try dsimp only at h
  refine lv_istore (lv' := [(5, .int r119), (0, .ref b), (1, .ref b1_), (2, .ref b2_), (3, .ref b3_), (4, .int v4)]) hx hb d_Law_law_438 hl (by decide) rfl (fun ls hl => ?_)
  refine lv_aload_n hx hb d_Law_law_440 rfl (lv_at hl 3 rfl) ?_
  refine lv_aload_n hx hb d_Law_law_441 rfl (lv_at hl 1 rfl) ?_
  refine lv_iload hx hb d_Law_law_442 (lv_at hl 5 rfl) ?_
  refine lv_iconst (v := 1) hx hb d_Law_law_444 (by decide) ?_
  refine lv_iadd hx hb d_Law_law_445 ?_
  refine x_sld hx hb hX hgs hw h.1 d_Law_law_446 ?_
  replace h := h.2
  obtain ⟨hp, h⟩ := h
  have c9 := x_Cav (av' := [.ref b2_, .int ((xs (v4 + (1 : Int32)).toNatClampNeg))]) (by rw [hp.2.2]) (c_Mod_balance (l := l) (L := L120) (I := I121) (k := k122) (n := n122) hp.1 hp.2.1 h)
  refine x_goI (ls := ls) (rest := []) hE hw c9 (x_cd hK k_937) q_Mod_balance (by decide) (by decide) hl.1 (Nat.le_of_ble_eq_true rfl) hbd d_Law_law_447 (x_toV (As := [.int ((xs (v4 + (1 : Int32)).toNatClampNeg))]) (b := b2_) hx hb hown hK (x_recv1 (c0 := 8) hK hw hp.2 rfl (by decide)) k_934 k_935 k_936 ⟨_, x_cd hK k_937⟩ q_Mod_balance rfl rfl d_Law_law_447) (fun r123 L9 I124 k9 n9 H locs h hw hb9 => ?_) (fun _ _ _ _ _ _ _ h9 => h9.elim)
  clear c9
  obtain ⟨e1, e3, e4, h⟩ := h
  rw [e1] at hw
  rw [e3, e4]
  try dsimp only at h
  refine lv_istore (lv' := [(6, .int r123), (5, .int r119), (0, .ref b), (1, .ref b1_), (2, .ref b2_), (3, .ref b3_), (4, .int v4)]) hx hb d_Law_law_450 hl (by decide) rfl (fun ls hl => ?_)
  refine lv_aload_n hx hb d_Law_law_452 rfl (lv_at hl 4 rfl) ?_
  obtain ⟨hp, h⟩ := h
  have c9 := x_Cav (av' := [.ref b2_]) (by rw [hp.2.2]) (c_Mod_thrown (l := l) (L := L120) (I := I124) (k := k122) (n := n122) hp.1 hp.2.1 h)
  refine x_goI (ls := ls) (rest := []) hE hw c9 (x_cd hK k_904) q_Mod_thrown (by decide) (by decide) hl.1 (Nat.le_of_ble_eq_true rfl) hbd d_Law_law_453 (x_toV (As := []) (b := b2_) hx hb hown hK (x_recv1 (c0 := 8) hK hw hp.2 rfl (by decide)) k_901 k_902 k_903 ⟨_, x_cd hK k_904⟩ q_Mod_thrown rfl rfl d_Law_law_453) (fun r125 L9 I9 k9 n9 H locs h hw hb9 => ?_) (fun _ _ _ _ _ _ _ h9 => h9.elim)
  clear c9
  obtain ⟨e1, e2, e3, e4, h⟩ := h
  rw [e1, e2] at hw
  rw [e3, e4]
  try dsimp only at h
  refine lv_iload hx hb d_Law_law_456 (lv_at hl 1 rfl) ?_
  refine lv_icmp_eq (tgt := 463) hx hb d_Law_law_458 (by decide) (fun c126 => ?_) (fun c126 => ?_)
  · replace h := h.1 c126
    refine lv_iload hx hb d_Law_law_463 (lv_at hl 1 rfl) ?_
    refine lv_if_ne (tgt := 480) hx hb d_Law_law_465 (by decide) (fun c127 => ?_) (fun c127 => ?_)
    · replace h := h.1 c127
      refine lv_goto (tgt := 646) hx hb d_Law_law_480 (by decide) ?_
      obtain ⟨x128, e_x128⟩ : ∃ z : Int32, z = v4 + (5 : Int32) := ⟨_, rfl⟩
      replace h := h x128 e_x128
      refine lv_iinc (v := x128) (lv' := [(4, .int x128), (6, .int r123), (5, .int r119), (0, .ref b), (1, .ref b1_), (2, .ref b2_), (3, .ref b3_)]) hx hb d_Law_law_646 hl (k := 6) rfl (by rw [e_x128]; rfl) (by decide) rfl (fun ls hl => ?_)
      refine lv_goto (tgt := 23) hx hb d_Law_law_649 (by decide) ?_
      obtain ⟨nA, h⟩ := h
      exact hKK nA x128 Y L120 I124 k122 n122 H locs ls h hw hbd (lv_sub hl [3, 4, 5, 6, 0] rfl)
    · replace h := h.2 c127
      refine lv_aload_n hx hb d_Law_law_468 rfl (lv_at hl 5 rfl) ?_
      refine lv_iconst (v := 0) hx hb d_Law_law_469 (by decide) ?_
      refine x_lald1 (t := 25) (i := 0) hx hb hK hw h.1.1 rfl h.1.2 d_Law_law_470 ?_
      replace h := h.2
      refine lv_iload hx hb d_Law_law_471 (lv_at hl 0 rfl) ?_
      refine lv_i2l hx hb d_Law_law_473 rfl ?_
      refine W.lcmp hx hb d_Law_law_474 ?_
      refine lv_if_eq (tgt := 480) hx hb d_Law_law_475 (by decide) (fun c129 => ?_) (fun c129 => ?_)
      · replace h := h.1 c129
        refine lv_goto (tgt := 646) hx hb d_Law_law_480 (by decide) ?_
        obtain ⟨x130, e_x130⟩ : ∃ z : Int32, z = v4 + (5 : Int32) := ⟨_, rfl⟩
        replace h := h x130 e_x130
        refine lv_iinc (v := x130) (lv' := [(4, .int x130), (6, .int r123), (5, .int r119), (0, .ref b), (1, .ref b1_), (2, .ref b2_), (3, .ref b3_)]) hx hb d_Law_law_646 hl (k := 6) rfl (by rw [e_x130]; rfl) (by decide) rfl (fun ls hl => ?_)
        refine lv_goto (tgt := 23) hx hb d_Law_law_649 (by decide) ?_
        obtain ⟨nA, h⟩ := h
        exact hKK nA x130 Y L120 I124 k122 n122 H locs ls h hw hbd (lv_sub hl [3, 4, 5, 6, 0] rfl)
      · replace h := h.2 c129
        refine lv_iconst (v := 0) hx hb d_Law_law_478 (by decide) ?_
        exact h.elim
  · replace h := h.2 c126
    refine lv_iconst (v := 0) hx hb d_Law_law_461 (by decide) ?_
    exact h.elim
def yw_Law_law_483 (g : x_G) (Lx : Nat) (xs : Nat → Int32) (KK : Nat → Int32 → x_Y → x_L → x_I → Nat → Nat → Prop) (nA b1_ b2_ b3_ : Nat) (v4 : Int32) (Y : x_Y) (L : x_L) (I : x_I) (ka na : Nat) : Prop :=
  vp_in (v4 + (1 : Int32)) Lx ∧
  vp_in (v4 + (2 : Int32)) Lx ∧
  (x_Y0 g Y ∧ x_Ls Y nA ∧ (x_ok Y 0 0 ∧ x_ad Y 0 0 = b1_) ∧ (x_ok Y 25 0 ∧ x_ad Y 25 0 = b3_)) ∧
  w_Law_storage (fun r132 L133 I134 k135 n135 =>
    vp_in (v4 + (1 : Int32)) Lx ∧
    vp_in (v4 + (2 : Int32)) Lx ∧
    (x_Y0 g Y ∧ (x_ok Y 30 0 ∧ x_ad Y 30 0 = b2_)) ∧
    w_Mod_storage (fun r136 I137 =>
      (x_Y0 g Y ∧ (x_ok Y 30 0 ∧ x_ad Y 30 0 = b2_)) ∧
      w_Mod_thrown (fun r138 =>
        ((r138 = r132 →
          ((¬ r132 = 0 →
            ∀ x141 : Int32, x141 = v4 + (5 : Int32) →
            ∃ nA : Nat, KK nA x141 Y L133 I137 k135 n135) ∧
          (r132 = 0 →
            ((x_ok Y 25 0 ∧ x_ad Y 25 0 = b3_) ∧ vp_in (0 : Int32) (x_n Y 25 0)) ∧
            (((lg_cmp (L133 25 0 (0 : Int32).toNatClampNeg) (r136.toInt64)) = 0 →
              ∀ x143 : Int32, x143 = v4 + (5 : Int32) →
              ∃ nA : Nat, KK nA x143 Y L133 I137 k135 n135) ∧
            (¬ (lg_cmp (L133 25 0 (0 : Int32).toNatClampNeg) (r136.toInt64)) = 0 →
              False))))) ∧
        (¬ r138 = r132 →
          False))) I137) ((xs (v4 + (1 : Int32)).toNatClampNeg)) ((xs (v4 + (2 : Int32)).toNatClampNeg)) I134) nA ((xs (v4 + (1 : Int32)).toNatClampNeg)) ((xs (v4 + (2 : Int32)).toNatClampNeg)) L I ka na
set_option maxRecDepth 100000 in
set_option maxHeartbeats 4000000 in
theorem yc_Law_law_483 {l : Launch} {g : x_G} {p : Program} {e : Env} {s : State} {m : MethodId} {below : List Frame} {meth : Method} {c : Code} {b Lx : Nat} {xs : Nat → Int32} (hE : x_E l g p e room_1 s m meth c "CallLedgerLaw" code 7 ret 101 0 0) (hX : va_X b Lx xs s s.heap) (hgs : s.heap = g.2.2.2.1) {KK : Nat → Int32 → x_Y → x_L → x_I → Nat → Nat → Prop} {nA b1_ b2_ b3_ : Nat} {v4 : Int32} {Y : x_Y} {L : x_L} {I : x_I} {ka na : Nat} {H : Heap} {locs : List Loc} {ls : Array Slot} (hKK : ∀ (nA : Nat) (v4 : Int32) (Y : x_Y) (L : x_L) (I : x_I) (k n : Nat) (H : Heap) (locs : List Loc) (ls : Array Slot), KK nA v4 Y L I k n → x_WL g Y L I H locs → x_bd 0 0 k n → lv_has ls 7 [(0, .ref b), (1, .ref b1_), (2, .ref b2_), (3, .ref b3_), (4, .int v4)] → W p l e room_1 s m #[Value.ref b] below meth c H locs (k - 0) (n - 0) (lw_Z below #[Value.ref b] s) (F0 m 23 ls []))
    (h : yw_Law_law_483 g Lx xs KK nA b1_ b2_ b3_ v4 Y L I ka na) (hw : x_WL g Y L I H locs) (hbd : x_bd 0 0 ka na) (hl : lv_has ls 7 [(0, .ref b), (1, .ref b1_), (2, .ref b2_), (3, .ref b3_), (4, .int v4)]) : W p l e room_1 s m #[Value.ref b] below meth c H locs (ka - 0) (na - 0) (lw_Z below #[Value.ref b] s) (F0 m 483 ls []) := by
  obtain ⟨hx, hb, hml, hr, hlk, hown, hK, htr, hF, hLo, hRc, hRs⟩ := id hE
  unfold yw_Law_law_483 at h
  refine lv_aload_n hx hb d_Law_law_483 rfl (lv_at hl 1 rfl) ?_
  refine lv_aload_n hx hb d_Law_law_484 rfl (lv_at hl 0 rfl) ?_
  refine lv_iload hx hb d_Law_law_485 (lv_at hl 4 rfl) ?_
  refine lv_iconst (v := 1) hx hb d_Law_law_487 (by decide) ?_
  refine lv_iadd hx hb d_Law_law_488 ?_
  refine x_sld hx hb hX hgs hw h.1 d_Law_law_489 ?_
  replace h := h.2
  refine lv_aload_n hx hb d_Law_law_490 rfl (lv_at hl 0 rfl) ?_
  refine lv_iload hx hb d_Law_law_491 (lv_at hl 4 rfl) ?_
  refine lv_iconst (v := 2) hx hb d_Law_law_493 (by decide) ?_
  refine lv_iadd hx hb d_Law_law_494 ?_
  refine x_sld hx hb hX hgs hw h.1 d_Law_law_495 ?_
  replace h := h.2
  refine lv_aload_n hx hb d_Law_law_496 rfl (lv_at hl 3 rfl) ?_
  obtain ⟨hp, h⟩ := h
  have c9 := x_Cav (av' := [.ref b1_, .int ((xs (v4 + (1 : Int32)).toNatClampNeg)), .int ((xs (v4 + (2 : Int32)).toNatClampNeg)), .ref b3_]) (by rw [hp.2.2.1.2, hp.2.2.2.2]) (c_Law_storage (l := l) (L := L) (I := I) (k := ka) (n := na) hp.1 hp.2.1 hp.2.2.1.1 hp.2.2.2.1 h)
  refine x_goI (ls := ls) (rest := []) hE hw c9 (x_cdW hK k_778) q_Law_storage (by decide) (by decide) hl.1 (Nat.le_of_ble_eq_true rfl) hbd d_Law_law_497 (x_toS (As := [.ref b1_, .int ((xs (v4 + (1 : Int32)).toNatClampNeg)), .int ((xs (v4 + (2 : Int32)).toNatClampNeg)), .ref b3_]) hx hb hown hK k_776 k_777 k_0 ⟨_, x_cdW hK k_778⟩ q_Law_storage rfl rfl d_Law_law_497) (fun r132 L133 I134 k135 n135 H locs h hw hb9 => ?_) (fun _ _ _ _ _ _ _ h9 => h9.elim)
  clear c9
  replace hbd := hbd.tr hb9
  try dsimp only at h
  refine lv_istore (lv' := [(5, .int r132), (0, .ref b), (1, .ref b1_), (2, .ref b2_), (3, .ref b3_), (4, .int v4)]) hx hb d_Law_law_500 hl (by decide) rfl (fun ls hl => ?_)
  refine lv_aload_n hx hb d_Law_law_502 rfl (lv_at hl 3 rfl) ?_
  refine lv_aload_n hx hb d_Law_law_503 rfl (lv_at hl 1 rfl) ?_
  refine lv_iload hx hb d_Law_law_504 (lv_at hl 5 rfl) ?_
  refine lv_iconst (v := 1) hx hb d_Law_law_506 (by decide) ?_
  refine lv_iadd hx hb d_Law_law_507 ?_
  refine x_sld hx hb hX hgs hw h.1 d_Law_law_508 ?_
  replace h := h.2
  refine lv_aload_n hx hb d_Law_law_509 rfl (lv_at hl 1 rfl) ?_
  refine lv_iload hx hb d_Law_law_510 (lv_at hl 5 rfl) ?_
  refine lv_iconst (v := 2) hx hb d_Law_law_512 (by decide) ?_
  refine lv_iadd hx hb d_Law_law_513 ?_
  refine x_sld hx hb hX hgs hw h.1 d_Law_law_514 ?_
  replace h := h.2
  obtain ⟨hp, h⟩ := h
  have c9 := x_Cav (av' := [.ref b2_, .int ((xs (v4 + (1 : Int32)).toNatClampNeg)), .int ((xs (v4 + (2 : Int32)).toNatClampNeg))]) (by rw [hp.2.2]) (c_Mod_storage (l := l) (L := L133) (I := I134) (k := k135) (n := n135) hp.1 hp.2.1 h)
  refine x_goI (ls := ls) (rest := []) hE hw c9 (x_cd hK k_941) q_Mod_storage (by decide) (by decide) hl.1 (Nat.le_of_ble_eq_true rfl) hbd d_Law_law_515 (x_toV (As := [.int ((xs (v4 + (1 : Int32)).toNatClampNeg)), .int ((xs (v4 + (2 : Int32)).toNatClampNeg))]) (b := b2_) hx hb hown hK (x_recv1 (c0 := 8) hK hw hp.2 rfl (by decide)) k_938 k_939 k_940 ⟨_, x_cd hK k_941⟩ q_Mod_storage rfl rfl d_Law_law_515) (fun r136 L9 I137 k9 n9 H locs h hw hb9 => ?_) (fun _ _ _ _ _ _ _ h9 => h9.elim)
  clear c9
  obtain ⟨e1, e3, e4, h⟩ := h
  rw [e1] at hw
  rw [e3, e4]
  try dsimp only at h
  refine lv_istore (lv' := [(6, .int r136), (5, .int r132), (0, .ref b), (1, .ref b1_), (2, .ref b2_), (3, .ref b3_), (4, .int v4)]) hx hb d_Law_law_518 hl (by decide) rfl (fun ls hl => ?_)
  refine lv_aload_n hx hb d_Law_law_520 rfl (lv_at hl 4 rfl) ?_
  obtain ⟨hp, h⟩ := h
  have c9 := x_Cav (av' := [.ref b2_]) (by rw [hp.2.2]) (c_Mod_thrown (l := l) (L := L133) (I := I137) (k := k135) (n := n135) hp.1 hp.2.1 h)
  refine x_goI (ls := ls) (rest := []) hE hw c9 (x_cd hK k_904) q_Mod_thrown (by decide) (by decide) hl.1 (Nat.le_of_ble_eq_true rfl) hbd d_Law_law_521 (x_toV (As := []) (b := b2_) hx hb hown hK (x_recv1 (c0 := 8) hK hw hp.2 rfl (by decide)) k_901 k_902 k_903 ⟨_, x_cd hK k_904⟩ q_Mod_thrown rfl rfl d_Law_law_521) (fun r138 L9 I9 k9 n9 H locs h hw hb9 => ?_) (fun _ _ _ _ _ _ _ h9 => h9.elim)
  clear c9
  obtain ⟨e1, e2, e3, e4, h⟩ := h
  rw [e1, e2] at hw
  rw [e3, e4]
  try dsimp only at h
  refine lv_iload hx hb d_Law_law_524 (lv_at hl 1 rfl) ?_
  refine lv_icmp_eq (tgt := 531) hx hb d_Law_law_526 (by decide) (fun c139 => ?_) (fun c139 => ?_)
  · replace h := h.1 c139
    refine lv_iload hx hb d_Law_law_531 (lv_at hl 1 rfl) ?_
    refine lv_if_ne (tgt := 548) hx hb d_Law_law_533 (by decide) (fun c140 => ?_) (fun c140 => ?_)
    · replace h := h.1 c140
      refine lv_goto (tgt := 646) hx hb d_Law_law_548 (by decide) ?_
      obtain ⟨x141, e_x141⟩ : ∃ z : Int32, z = v4 + (5 : Int32) := ⟨_, rfl⟩
      replace h := h x141 e_x141
      refine lv_iinc (v := x141) (lv' := [(4, .int x141), (6, .int r136), (5, .int r132), (0, .ref b), (1, .ref b1_), (2, .ref b2_), (3, .ref b3_)]) hx hb d_Law_law_646 hl (k := 6) rfl (by rw [e_x141]; rfl) (by decide) rfl (fun ls hl => ?_)
      refine lv_goto (tgt := 23) hx hb d_Law_law_649 (by decide) ?_
      obtain ⟨nA, h⟩ := h
      exact hKK nA x141 Y L133 I137 k135 n135 H locs ls h hw hbd (lv_sub hl [3, 4, 5, 6, 0] rfl)
    · replace h := h.2 c140
      refine lv_aload_n hx hb d_Law_law_536 rfl (lv_at hl 5 rfl) ?_
      refine lv_iconst (v := 0) hx hb d_Law_law_537 (by decide) ?_
      refine x_lald1 (t := 25) (i := 0) hx hb hK hw h.1.1 rfl h.1.2 d_Law_law_538 ?_
      replace h := h.2
      refine lv_iload hx hb d_Law_law_539 (lv_at hl 0 rfl) ?_
      refine lv_i2l hx hb d_Law_law_541 rfl ?_
      refine W.lcmp hx hb d_Law_law_542 ?_
      refine lv_if_eq (tgt := 548) hx hb d_Law_law_543 (by decide) (fun c142 => ?_) (fun c142 => ?_)
      · replace h := h.1 c142
        refine lv_goto (tgt := 646) hx hb d_Law_law_548 (by decide) ?_
        obtain ⟨x143, e_x143⟩ : ∃ z : Int32, z = v4 + (5 : Int32) := ⟨_, rfl⟩
        replace h := h x143 e_x143
        refine lv_iinc (v := x143) (lv' := [(4, .int x143), (6, .int r136), (5, .int r132), (0, .ref b), (1, .ref b1_), (2, .ref b2_), (3, .ref b3_)]) hx hb d_Law_law_646 hl (k := 6) rfl (by rw [e_x143]; rfl) (by decide) rfl (fun ls hl => ?_)
        refine lv_goto (tgt := 23) hx hb d_Law_law_649 (by decide) ?_
        obtain ⟨nA, h⟩ := h
        exact hKK nA x143 Y L133 I137 k135 n135 H locs ls h hw hbd (lv_sub hl [3, 4, 5, 6, 0] rfl)
      · replace h := h.2 c142
        refine lv_iconst (v := 0) hx hb d_Law_law_546 (by decide) ?_
        exact h.elim
  · replace h := h.2 c139
    refine lv_iconst (v := 0) hx hb d_Law_law_529 (by decide) ?_
    exact h.elim
def yw_Law_law_551 (g : x_G) (Lx : Nat) (xs : Nat → Int32) (KK : Nat → Int32 → x_Y → x_L → x_I → Nat → Nat → Prop) (nA b1_ b2_ b3_ : Nat) (v4 : Int32) (Y : x_Y) (L : x_L) (I : x_I) (ka na : Nat) : Prop :=
  (x_Y0 g Y ∧ (x_ok Y 0 0 ∧ x_ad Y 0 0 = b1_)) ∧
  w_Led_keys (fun r145 =>
    (x_Y0 g Y ∧ (x_ok Y 30 0 ∧ x_ad Y 30 0 = b2_)) ∧
    w_Mod_keys (fun r146 I147 =>
      ((r145 = r146 →
        ∀ x149 : Int32, x149 = v4 + (5 : Int32) →
        ∃ nA : Nat, KK nA x149 Y L I147 ka na) ∧
      (¬ r145 = r146 →
        False))) I) I
set_option maxRecDepth 100000 in
set_option maxHeartbeats 4000000 in
theorem yc_Law_law_551 {l : Launch} {g : x_G} {p : Program} {e : Env} {s : State} {m : MethodId} {below : List Frame} {meth : Method} {c : Code} {b Lx : Nat} {xs : Nat → Int32} (hE : x_E l g p e room_1 s m meth c "CallLedgerLaw" code 7 ret 101 0 0) (hX : va_X b Lx xs s s.heap) (hgs : s.heap = g.2.2.2.1) {KK : Nat → Int32 → x_Y → x_L → x_I → Nat → Nat → Prop} {nA b1_ b2_ b3_ : Nat} {v4 : Int32} {Y : x_Y} {L : x_L} {I : x_I} {ka na : Nat} {H : Heap} {locs : List Loc} {ls : Array Slot} (hKK : ∀ (nA : Nat) (v4 : Int32) (Y : x_Y) (L : x_L) (I : x_I) (k n : Nat) (H : Heap) (locs : List Loc) (ls : Array Slot), KK nA v4 Y L I k n → x_WL g Y L I H locs → x_bd 0 0 k n → lv_has ls 7 [(0, .ref b), (1, .ref b1_), (2, .ref b2_), (3, .ref b3_), (4, .int v4)] → W p l e room_1 s m #[Value.ref b] below meth c H locs (k - 0) (n - 0) (lw_Z below #[Value.ref b] s) (F0 m 23 ls []))
    (h : yw_Law_law_551 g Lx xs KK nA b1_ b2_ b3_ v4 Y L I ka na) (hw : x_WL g Y L I H locs) (hbd : x_bd 0 0 ka na) (hl : lv_has ls 7 [(0, .ref b), (1, .ref b1_), (2, .ref b2_), (3, .ref b3_), (4, .int v4)]) : W p l e room_1 s m #[Value.ref b] below meth c H locs (ka - 0) (na - 0) (lw_Z below #[Value.ref b] s) (F0 m 551 ls []) := by
  obtain ⟨hx, hb, hml, hr, hlk, hown, hK, htr, hF, hLo, hRc, hRs⟩ := id hE
  unfold yw_Law_law_551 at h
  refine lv_aload_n hx hb d_Law_law_551 rfl (lv_at hl 1 rfl) ?_
  obtain ⟨hp, h⟩ := h
  have c9 := x_Cav (av' := [.ref b1_]) (by rw [hp.2.2]) (c_Led_keys (l := l) (L := L) (I := I) (k := ka) (n := na) hp.1 hp.2.1 h)
  refine x_goI (ls := ls) (rest := []) hE hw c9 (x_cd hK k_257) q_Led_keys (by decide) (by decide) hl.1 (Nat.le_of_ble_eq_true rfl) hbd d_Law_law_552 (x_toV (As := []) (b := b1_) hx hb hown hK (x_recv1 (c0 := 0) hK hw hp.2 rfl (by decide)) k_254 k_255 k_256 ⟨_, x_cd hK k_257⟩ q_Led_keys rfl rfl d_Law_law_552) (fun r145 L9 I9 k9 n9 H locs h hw hb9 => ?_) (fun _ _ _ _ _ _ _ h9 => h9.elim)
  clear c9
  obtain ⟨e1, e2, e3, e4, h⟩ := h
  rw [e1, e2] at hw
  rw [e3, e4]
  try dsimp only at h
  refine lv_aload_n hx hb d_Law_law_555 rfl (lv_at hl 2 rfl) ?_
  obtain ⟨hp, h⟩ := h
  have c9 := x_Cav (av' := [.ref b2_]) (by rw [hp.2.2]) (c_Mod_keys (l := l) (L := L) (I := I) (k := ka) (n := na) hp.1 hp.2.1 h)
  refine x_goI (ls := ls) (rest := [.int r145]) hE hw c9 (x_cd hK k_953) q_Mod_keys (by decide) (by decide) hl.1 (Nat.le_of_ble_eq_true rfl) hbd d_Law_law_556 (x_toV (As := []) (b := b2_) hx hb hown hK (x_recv1 (c0 := 8) hK hw hp.2 rfl (by decide)) k_950 k_951 k_952 ⟨_, x_cd hK k_953⟩ q_Mod_keys rfl rfl d_Law_law_556) (fun r146 L9 I147 k9 n9 H locs h hw hb9 => ?_) (fun _ _ _ _ _ _ _ h9 => h9.elim)
  clear c9
  obtain ⟨e1, e3, e4, h⟩ := h
  rw [e1] at hw
  rw [e3, e4]
  try dsimp only at h
  refine lv_icmp_eq (tgt := 646) hx hb d_Law_law_559 (by decide) (fun c148 => ?_) (fun c148 => ?_)
  · replace h := h.1 c148
    obtain ⟨x149, e_x149⟩ : ∃ z : Int32, z = v4 + (5 : Int32) := ⟨_, rfl⟩
    replace h := h x149 e_x149
    refine lv_iinc (v := x149) (lv' := [(4, .int x149), (0, .ref b), (1, .ref b1_), (2, .ref b2_), (3, .ref b3_)]) hx hb d_Law_law_646 hl (k := 4) rfl (by rw [e_x149]; rfl) (by decide) rfl (fun ls hl => ?_)
    refine lv_goto (tgt := 23) hx hb d_Law_law_649 (by decide) ?_
    obtain ⟨nA, h⟩ := h
    exact hKK nA x149 Y L I147 ka na H locs ls h hw hbd (lv_sub hl [1, 2, 3, 4, 0] rfl)
  · replace h := h.2 c148
    refine lv_iconst (v := 0) hx hb d_Law_law_562 (by decide) ?_
    exact h.elim
def yw_Law_law_564 (g : x_G) (Lx : Nat) (xs : Nat → Int32) (KK : Nat → Int32 → x_Y → x_L → x_I → Nat → Nat → Prop) (nA b1_ b2_ b3_ : Nat) (v4 : Int32) (Y : x_Y) (L : x_L) (I : x_I) (ka na : Nat) : Prop :=
  (x_Y0 g Y ∧ (x_ok Y 0 0 ∧ x_ad Y 0 0 = b1_)) ∧
  w_Led_logged (fun r151 =>
    (x_Y0 g Y ∧ (x_ok Y 30 0 ∧ x_ad Y 30 0 = b2_)) ∧
    w_Mod_logged (fun r152 I153 =>
      ((r151 = r152 →
        ∀ x155 : Int32, x155 = v4 + (5 : Int32) →
        ∃ nA : Nat, KK nA x155 Y L I153 ka na) ∧
      (¬ r151 = r152 →
        False))) I) I
set_option maxRecDepth 100000 in
set_option maxHeartbeats 4000000 in
theorem yc_Law_law_564 {l : Launch} {g : x_G} {p : Program} {e : Env} {s : State} {m : MethodId} {below : List Frame} {meth : Method} {c : Code} {b Lx : Nat} {xs : Nat → Int32} (hE : x_E l g p e room_1 s m meth c "CallLedgerLaw" code 7 ret 101 0 0) (hX : va_X b Lx xs s s.heap) (hgs : s.heap = g.2.2.2.1) {KK : Nat → Int32 → x_Y → x_L → x_I → Nat → Nat → Prop} {nA b1_ b2_ b3_ : Nat} {v4 : Int32} {Y : x_Y} {L : x_L} {I : x_I} {ka na : Nat} {H : Heap} {locs : List Loc} {ls : Array Slot} (hKK : ∀ (nA : Nat) (v4 : Int32) (Y : x_Y) (L : x_L) (I : x_I) (k n : Nat) (H : Heap) (locs : List Loc) (ls : Array Slot), KK nA v4 Y L I k n → x_WL g Y L I H locs → x_bd 0 0 k n → lv_has ls 7 [(0, .ref b), (1, .ref b1_), (2, .ref b2_), (3, .ref b3_), (4, .int v4)] → W p l e room_1 s m #[Value.ref b] below meth c H locs (k - 0) (n - 0) (lw_Z below #[Value.ref b] s) (F0 m 23 ls []))
    (h : yw_Law_law_564 g Lx xs KK nA b1_ b2_ b3_ v4 Y L I ka na) (hw : x_WL g Y L I H locs) (hbd : x_bd 0 0 ka na) (hl : lv_has ls 7 [(0, .ref b), (1, .ref b1_), (2, .ref b2_), (3, .ref b3_), (4, .int v4)]) : W p l e room_1 s m #[Value.ref b] below meth c H locs (ka - 0) (na - 0) (lw_Z below #[Value.ref b] s) (F0 m 564 ls []) := by
  obtain ⟨hx, hb, hml, hr, hlk, hown, hK, htr, hF, hLo, hRc, hRs⟩ := id hE
  unfold yw_Law_law_564 at h
  refine lv_aload_n hx hb d_Law_law_564 rfl (lv_at hl 1 rfl) ?_
  obtain ⟨hp, h⟩ := h
  have c9 := x_Cav (av' := [.ref b1_]) (by rw [hp.2.2]) (c_Led_logged (l := l) (L := L) (I := I) (k := ka) (n := na) hp.1 hp.2.1 h)
  refine x_goI (ls := ls) (rest := []) hE hw c9 (x_cd hK k_261) q_Led_logged (by decide) (by decide) hl.1 (Nat.le_of_ble_eq_true rfl) hbd d_Law_law_565 (x_toV (As := []) (b := b1_) hx hb hown hK (x_recv1 (c0 := 0) hK hw hp.2 rfl (by decide)) k_258 k_259 k_260 ⟨_, x_cd hK k_261⟩ q_Led_logged rfl rfl d_Law_law_565) (fun r151 L9 I9 k9 n9 H locs h hw hb9 => ?_) (fun _ _ _ _ _ _ _ h9 => h9.elim)
  clear c9
  obtain ⟨e1, e2, e3, e4, h⟩ := h
  rw [e1, e2] at hw
  rw [e3, e4]
  try dsimp only at h
  refine lv_aload_n hx hb d_Law_law_568 rfl (lv_at hl 2 rfl) ?_
  obtain ⟨hp, h⟩ := h
  have c9 := x_Cav (av' := [.ref b2_]) (by rw [hp.2.2]) (c_Mod_logged (l := l) (L := L) (I := I) (k := ka) (n := na) hp.1 hp.2.1 h)
  refine x_goI (ls := ls) (rest := [.int r151]) hE hw c9 (x_cd hK k_957) q_Mod_logged (by decide) (by decide) hl.1 (Nat.le_of_ble_eq_true rfl) hbd d_Law_law_569 (x_toV (As := []) (b := b2_) hx hb hown hK (x_recv1 (c0 := 8) hK hw hp.2 rfl (by decide)) k_954 k_955 k_956 ⟨_, x_cd hK k_957⟩ q_Mod_logged rfl rfl d_Law_law_569) (fun r152 L9 I153 k9 n9 H locs h hw hb9 => ?_) (fun _ _ _ _ _ _ _ h9 => h9.elim)
  clear c9
  obtain ⟨e1, e3, e4, h⟩ := h
  rw [e1] at hw
  rw [e3, e4]
  try dsimp only at h
  refine lv_icmp_eq (tgt := 646) hx hb d_Law_law_572 (by decide) (fun c154 => ?_) (fun c154 => ?_)
  · replace h := h.1 c154
    obtain ⟨x155, e_x155⟩ : ∃ z : Int32, z = v4 + (5 : Int32) := ⟨_, rfl⟩
    replace h := h x155 e_x155
    refine lv_iinc (v := x155) (lv' := [(4, .int x155), (0, .ref b), (1, .ref b1_), (2, .ref b2_), (3, .ref b3_)]) hx hb d_Law_law_646 hl (k := 4) rfl (by rw [e_x155]; rfl) (by decide) rfl (fun ls hl => ?_)
    refine lv_goto (tgt := 23) hx hb d_Law_law_649 (by decide) ?_
    obtain ⟨nA, h⟩ := h
    exact hKK nA x155 Y L I153 ka na H locs ls h hw hbd (lv_sub hl [1, 2, 3, 4, 0] rfl)
  · replace h := h.2 c154
    refine lv_iconst (v := 0) hx hb d_Law_law_575 (by decide) ?_
    exact h.elim
def yw_Law_law_577 (g : x_G) (Lx : Nat) (xs : Nat → Int32) (KK : Nat → Int32 → x_Y → x_L → x_I → Nat → Nat → Prop) (nA b1_ b2_ b3_ : Nat) (v4 : Int32) (Y : x_Y) (L : x_L) (I : x_I) (ka na : Nat) : Prop :=
  vp_in (v4 + (1 : Int32)) Lx ∧
  (x_Y0 g Y ∧ (x_ok Y 0 0 ∧ x_ad Y 0 0 = b1_) ∧ (x_ok Y 25 0 ∧ x_ad Y 25 0 = b3_)) ∧
  w_Law_log (fun r157 L158 I159 k160 n160 =>
    vp_in (v4 + (1 : Int32)) Lx ∧
    (x_Y0 g Y ∧ (x_ok Y 30 0 ∧ x_ad Y 30 0 = b2_)) ∧
    w_Mod_log (fun r161 I162 =>
      (x_Y0 g Y ∧ (x_ok Y 30 0 ∧ x_ad Y 30 0 = b2_)) ∧
      w_Mod_thrown (fun r163 =>
        ((r163 = r157 →
          ((¬ r157 = 0 →
            ∀ x166 : Int32, x166 = v4 + (5 : Int32) →
            ∃ nA : Nat, KK nA x166 Y L158 I162 k160 n160) ∧
          (r157 = 0 →
            ((x_ok Y 25 0 ∧ x_ad Y 25 0 = b3_) ∧ vp_in (0 : Int32) (x_n Y 25 0)) ∧
            (((lg_cmp (L158 25 0 (0 : Int32).toNatClampNeg) (r161.toInt64)) = 0 →
              ∀ x168 : Int32, x168 = v4 + (5 : Int32) →
              ∃ nA : Nat, KK nA x168 Y L158 I162 k160 n160) ∧
            (¬ (lg_cmp (L158 25 0 (0 : Int32).toNatClampNeg) (r161.toInt64)) = 0 →
              False))))) ∧
        (¬ r163 = r157 →
          False))) I162) ((xs (v4 + (1 : Int32)).toNatClampNeg)) I159) ((xs (v4 + (1 : Int32)).toNatClampNeg)) L I ka na
set_option maxRecDepth 100000 in
set_option maxHeartbeats 4000000 in
theorem yc_Law_law_577 {l : Launch} {g : x_G} {p : Program} {e : Env} {s : State} {m : MethodId} {below : List Frame} {meth : Method} {c : Code} {b Lx : Nat} {xs : Nat → Int32} (hE : x_E l g p e room_1 s m meth c "CallLedgerLaw" code 7 ret 101 0 0) (hX : va_X b Lx xs s s.heap) (hgs : s.heap = g.2.2.2.1) {KK : Nat → Int32 → x_Y → x_L → x_I → Nat → Nat → Prop} {nA b1_ b2_ b3_ : Nat} {v4 : Int32} {Y : x_Y} {L : x_L} {I : x_I} {ka na : Nat} {H : Heap} {locs : List Loc} {ls : Array Slot} (hKK : ∀ (nA : Nat) (v4 : Int32) (Y : x_Y) (L : x_L) (I : x_I) (k n : Nat) (H : Heap) (locs : List Loc) (ls : Array Slot), KK nA v4 Y L I k n → x_WL g Y L I H locs → x_bd 0 0 k n → lv_has ls 7 [(0, .ref b), (1, .ref b1_), (2, .ref b2_), (3, .ref b3_), (4, .int v4)] → W p l e room_1 s m #[Value.ref b] below meth c H locs (k - 0) (n - 0) (lw_Z below #[Value.ref b] s) (F0 m 23 ls []))
    (h : yw_Law_law_577 g Lx xs KK nA b1_ b2_ b3_ v4 Y L I ka na) (hw : x_WL g Y L I H locs) (hbd : x_bd 0 0 ka na) (hl : lv_has ls 7 [(0, .ref b), (1, .ref b1_), (2, .ref b2_), (3, .ref b3_), (4, .int v4)]) : W p l e room_1 s m #[Value.ref b] below meth c H locs (ka - 0) (na - 0) (lw_Z below #[Value.ref b] s) (F0 m 577 ls []) := by
  obtain ⟨hx, hb, hml, hr, hlk, hown, hK, htr, hF, hLo, hRc, hRs⟩ := id hE
  unfold yw_Law_law_577 at h
  refine lv_aload_n hx hb d_Law_law_577 rfl (lv_at hl 1 rfl) ?_
  refine lv_aload_n hx hb d_Law_law_578 rfl (lv_at hl 0 rfl) ?_
  refine lv_iload hx hb d_Law_law_579 (lv_at hl 4 rfl) ?_
  refine lv_iconst (v := 1) hx hb d_Law_law_581 (by decide) ?_
  refine lv_iadd hx hb d_Law_law_582 ?_
  refine x_sld hx hb hX hgs hw h.1 d_Law_law_583 ?_
  replace h := h.2
  refine lv_aload_n hx hb d_Law_law_584 rfl (lv_at hl 3 rfl) ?_
  obtain ⟨hp, h⟩ := h
  have c9 := x_Cav (av' := [.ref b1_, .int ((xs (v4 + (1 : Int32)).toNatClampNeg)), .ref b3_]) (by rw [hp.2.1.2, hp.2.2.2]) (c_Law_log (l := l) (L := L) (I := I) (k := ka) (n := na) hp.1 hp.2.1.1 hp.2.2.1 h)
  refine x_goI (ls := ls) (rest := []) hE hw c9 (x_cdW hK k_786) q_Law_log (by decide) (by decide) hl.1 (Nat.le_of_ble_eq_true rfl) hbd d_Law_law_585 (x_toS (As := [.ref b1_, .int ((xs (v4 + (1 : Int32)).toNatClampNeg)), .ref b3_]) hx hb hown hK k_784 k_785 k_0 ⟨_, x_cdW hK k_786⟩ q_Law_log rfl rfl d_Law_law_585) (fun r157 L158 I159 k160 n160 H locs h hw hb9 => ?_) (fun _ _ _ _ _ _ _ h9 => h9.elim)
  clear c9
  replace hbd := hbd.tr hb9
  try dsimp only at h
  refine lv_istore (lv' := [(5, .int r157), (0, .ref b), (1, .ref b1_), (2, .ref b2_), (3, .ref b3_), (4, .int v4)]) hx hb d_Law_law_588 hl (by decide) rfl (fun ls hl => ?_)
  refine lv_aload_n hx hb d_Law_law_590 rfl (lv_at hl 3 rfl) ?_
  refine lv_aload_n hx hb d_Law_law_591 rfl (lv_at hl 1 rfl) ?_
  refine lv_iload hx hb d_Law_law_592 (lv_at hl 5 rfl) ?_
  refine lv_iconst (v := 1) hx hb d_Law_law_594 (by decide) ?_
  refine lv_iadd hx hb d_Law_law_595 ?_
  refine x_sld hx hb hX hgs hw h.1 d_Law_law_596 ?_
  replace h := h.2
  obtain ⟨hp, h⟩ := h
  have c9 := x_Cav (av' := [.ref b2_, .int ((xs (v4 + (1 : Int32)).toNatClampNeg))]) (by rw [hp.2.2]) (c_Mod_log (l := l) (L := L158) (I := I159) (k := k160) (n := n160) hp.1 hp.2.1 h)
  refine x_goI (ls := ls) (rest := []) hE hw c9 (x_cd hK k_961) q_Mod_log (by decide) (by decide) hl.1 (Nat.le_of_ble_eq_true rfl) hbd d_Law_law_597 (x_toV (As := [.int ((xs (v4 + (1 : Int32)).toNatClampNeg))]) (b := b2_) hx hb hown hK (x_recv1 (c0 := 8) hK hw hp.2 rfl (by decide)) k_958 k_959 k_960 ⟨_, x_cd hK k_961⟩ q_Mod_log rfl rfl d_Law_law_597) (fun r161 L9 I162 k9 n9 H locs h hw hb9 => ?_) (fun _ _ _ _ _ _ _ h9 => h9.elim)
  clear c9
  obtain ⟨e1, e3, e4, h⟩ := h
  rw [e1] at hw
  rw [e3, e4]
  try dsimp only at h
  refine lv_istore (lv' := [(6, .int r161), (5, .int r157), (0, .ref b), (1, .ref b1_), (2, .ref b2_), (3, .ref b3_), (4, .int v4)]) hx hb d_Law_law_600 hl (by decide) rfl (fun ls hl => ?_)
  refine lv_aload_n hx hb d_Law_law_602 rfl (lv_at hl 4 rfl) ?_
  obtain ⟨hp, h⟩ := h
  have c9 := x_Cav (av' := [.ref b2_]) (by rw [hp.2.2]) (c_Mod_thrown (l := l) (L := L158) (I := I162) (k := k160) (n := n160) hp.1 hp.2.1 h)
  refine x_goI (ls := ls) (rest := []) hE hw c9 (x_cd hK k_904) q_Mod_thrown (by decide) (by decide) hl.1 (Nat.le_of_ble_eq_true rfl) hbd d_Law_law_603 (x_toV (As := []) (b := b2_) hx hb hown hK (x_recv1 (c0 := 8) hK hw hp.2 rfl (by decide)) k_901 k_902 k_903 ⟨_, x_cd hK k_904⟩ q_Mod_thrown rfl rfl d_Law_law_603) (fun r163 L9 I9 k9 n9 H locs h hw hb9 => ?_) (fun _ _ _ _ _ _ _ h9 => h9.elim)
  clear c9
  obtain ⟨e1, e2, e3, e4, h⟩ := h
  rw [e1, e2] at hw
  rw [e3, e4]
  try dsimp only at h
  refine lv_iload hx hb d_Law_law_606 (lv_at hl 1 rfl) ?_
  refine lv_icmp_eq (tgt := 613) hx hb d_Law_law_608 (by decide) (fun c164 => ?_) (fun c164 => ?_)
  · replace h := h.1 c164
    refine lv_iload hx hb d_Law_law_613 (lv_at hl 1 rfl) ?_
    refine lv_if_ne (tgt := 630) hx hb d_Law_law_615 (by decide) (fun c165 => ?_) (fun c165 => ?_)
    · replace h := h.1 c165
      refine lv_goto (tgt := 646) hx hb d_Law_law_630 (by decide) ?_
      obtain ⟨x166, e_x166⟩ : ∃ z : Int32, z = v4 + (5 : Int32) := ⟨_, rfl⟩
      replace h := h x166 e_x166
      refine lv_iinc (v := x166) (lv' := [(4, .int x166), (6, .int r161), (5, .int r157), (0, .ref b), (1, .ref b1_), (2, .ref b2_), (3, .ref b3_)]) hx hb d_Law_law_646 hl (k := 6) rfl (by rw [e_x166]; rfl) (by decide) rfl (fun ls hl => ?_)
      refine lv_goto (tgt := 23) hx hb d_Law_law_649 (by decide) ?_
      obtain ⟨nA, h⟩ := h
      exact hKK nA x166 Y L158 I162 k160 n160 H locs ls h hw hbd (lv_sub hl [3, 4, 5, 6, 0] rfl)
    · replace h := h.2 c165
      refine lv_aload_n hx hb d_Law_law_618 rfl (lv_at hl 5 rfl) ?_
      refine lv_iconst (v := 0) hx hb d_Law_law_619 (by decide) ?_
      refine x_lald1 (t := 25) (i := 0) hx hb hK hw h.1.1 rfl h.1.2 d_Law_law_620 ?_
      replace h := h.2
      refine lv_iload hx hb d_Law_law_621 (lv_at hl 0 rfl) ?_
      refine lv_i2l hx hb d_Law_law_623 rfl ?_
      refine W.lcmp hx hb d_Law_law_624 ?_
      refine lv_if_eq (tgt := 630) hx hb d_Law_law_625 (by decide) (fun c167 => ?_) (fun c167 => ?_)
      · replace h := h.1 c167
        refine lv_goto (tgt := 646) hx hb d_Law_law_630 (by decide) ?_
        obtain ⟨x168, e_x168⟩ : ∃ z : Int32, z = v4 + (5 : Int32) := ⟨_, rfl⟩
        replace h := h x168 e_x168
        refine lv_iinc (v := x168) (lv' := [(4, .int x168), (6, .int r161), (5, .int r157), (0, .ref b), (1, .ref b1_), (2, .ref b2_), (3, .ref b3_)]) hx hb d_Law_law_646 hl (k := 6) rfl (by rw [e_x168]; rfl) (by decide) rfl (fun ls hl => ?_)
        refine lv_goto (tgt := 23) hx hb d_Law_law_649 (by decide) ?_
        obtain ⟨nA, h⟩ := h
        exact hKK nA x168 Y L158 I162 k160 n160 H locs ls h hw hbd (lv_sub hl [3, 4, 5, 6, 0] rfl)
      · replace h := h.2 c167
        refine lv_iconst (v := 0) hx hb d_Law_law_628 (by decide) ?_
        exact h.elim
  · replace h := h.2 c164
    refine lv_iconst (v := 0) hx hb d_Law_law_611 (by decide) ?_
    exact h.elim
def yw_Law_law_633 (g : x_G) (Lx : Nat) (xs : Nat → Int32) (KK : Nat → Int32 → x_Y → x_L → x_I → Nat → Nat → Prop) (nA b1_ b2_ b3_ : Nat) (v4 : Int32) (Y : x_Y) (L : x_L) (I : x_I) (ka na : Nat) : Prop :=
  (x_ok Y 0 0 ∧ x_ad Y 0 0 = b1_) ∧
  yw_Led_supply g (fun r170 Y172 L173 I174 k175 n175 =>
    (x_Y0 g Y172 ∧ (x_ok Y172 30 0 ∧ x_ad Y172 30 0 = b2_)) ∧
    w_Mod_supply (fun r176 I177 =>
      ((r170 = r176 →
        ∀ x179 : Int32, x179 = v4 + (5 : Int32) →
        ∃ nA : Nat, KK nA x179 Y172 L173 I177 k175 n175) ∧
      (¬ r170 = r176 →
        False))) I174) x_ynx b1_ Y L I ka na
set_option maxRecDepth 100000 in
set_option maxHeartbeats 4000000 in
theorem yc_Law_law_633 {l : Launch} {g : x_G} {p : Program} {e : Env} {s : State} {m : MethodId} {below : List Frame} {meth : Method} {c : Code} {b Lx : Nat} {xs : Nat → Int32} (hE : x_E l g p e room_1 s m meth c "CallLedgerLaw" code 7 ret 101 0 0) (hX : va_X b Lx xs s s.heap) (hgs : s.heap = g.2.2.2.1) {KK : Nat → Int32 → x_Y → x_L → x_I → Nat → Nat → Prop} {nA b1_ b2_ b3_ : Nat} {v4 : Int32} {Y : x_Y} {L : x_L} {I : x_I} {ka na : Nat} {H : Heap} {locs : List Loc} {ls : Array Slot} (hKK : ∀ (nA : Nat) (v4 : Int32) (Y : x_Y) (L : x_L) (I : x_I) (k n : Nat) (H : Heap) (locs : List Loc) (ls : Array Slot), KK nA v4 Y L I k n → x_WL g Y L I H locs → x_bd 0 0 k n → lv_has ls 7 [(0, .ref b), (1, .ref b1_), (2, .ref b2_), (3, .ref b3_), (4, .int v4)] → W p l e room_1 s m #[Value.ref b] below meth c H locs (k - 0) (n - 0) (lw_Z below #[Value.ref b] s) (F0 m 23 ls []))
    (h : yw_Law_law_633 g Lx xs KK nA b1_ b2_ b3_ v4 Y L I ka na) (hw : x_WL g Y L I H locs) (hbd : x_bd 0 0 ka na) (hl : lv_has ls 7 [(0, .ref b), (1, .ref b1_), (2, .ref b2_), (3, .ref b3_), (4, .int v4)]) : W p l e room_1 s m #[Value.ref b] below meth c H locs (ka - 0) (na - 0) (lw_Z below #[Value.ref b] s) (F0 m 633 ls []) := by
  obtain ⟨hx, hb, hml, hr, hlk, hown, hK, htr, hF, hLo, hRc, hRs⟩ := id hE
  unfold yw_Law_law_633 at h
  refine lv_aload_n hx hb d_Law_law_633 rfl (lv_at hl 1 rfl) ?_
  have o9 := h.1
  replace h := h.2
  refine x_ygI (ls := ls) (rest := []) hE hw (yc_Led_supply h) (x_cd hK k_265) q_Led_supply (by decide) (by decide) hl.1 (Nat.le_of_ble_eq_true rfl) hbd d_Law_law_634 (x_toV (As := []) (b := b1_) hx hb hown hK (x_recv1 (c0 := 0) hK hw o9 rfl (by decide)) k_262 k_263 k_264 ⟨_, x_cd hK k_265⟩ q_Led_supply rfl rfl d_Law_law_634) (fun r170 Y172 L173 I174 k175 n175 H locs h hw hb9 => ?_) (fun _ _ _ _ _ _ _ _ h9 => h9.elim)
  replace hbd := hbd.tr hb9
  try dsimp only at h
  refine lv_aload_n hx hb d_Law_law_637 rfl (lv_at hl 2 rfl) ?_
  obtain ⟨hp, h⟩ := h
  have c9 := x_Cav (av' := [.ref b2_]) (by rw [hp.2.2]) (c_Mod_supply (l := l) (L := L173) (I := I174) (k := k175) (n := n175) hp.1 hp.2.1 h)
  refine x_goI (ls := ls) (rest := [.int r170]) hE hw c9 (x_cd hK k_908) q_Mod_supply (by decide) (by decide) hl.1 (Nat.le_of_ble_eq_true rfl) hbd d_Law_law_638 (x_toV (As := []) (b := b2_) hx hb hown hK (x_recv1 (c0 := 8) hK hw hp.2 rfl (by decide)) k_905 k_906 k_907 ⟨_, x_cd hK k_908⟩ q_Mod_supply rfl rfl d_Law_law_638) (fun r176 L9 I177 k9 n9 H locs h hw hb9 => ?_) (fun _ _ _ _ _ _ _ h9 => h9.elim)
  clear c9
  obtain ⟨e1, e3, e4, h⟩ := h
  rw [e1] at hw
  rw [e3, e4]
  try dsimp only at h
  refine lv_icmp_eq (tgt := 646) hx hb d_Law_law_641 (by decide) (fun c178 => ?_) (fun c178 => ?_)
  · replace h := h.1 c178
    obtain ⟨x179, e_x179⟩ : ∃ z : Int32, z = v4 + (5 : Int32) := ⟨_, rfl⟩
    replace h := h x179 e_x179
    refine lv_iinc (v := x179) (lv' := [(4, .int x179), (0, .ref b), (1, .ref b1_), (2, .ref b2_), (3, .ref b3_)]) hx hb d_Law_law_646 hl (k := 4) rfl (by rw [e_x179]; rfl) (by decide) rfl (fun ls hl => ?_)
    refine lv_goto (tgt := 23) hx hb d_Law_law_649 (by decide) ?_
    obtain ⟨nA, h⟩ := h
    exact hKK nA x179 Y172 L173 I177 k175 n175 H locs ls h hw hbd (lv_sub hl [1, 2, 3, 4, 0] rfl)
  · replace h := h.2 c178
    refine lv_iconst (v := 0) hx hb d_Law_law_644 (by decide) ?_
    exact h.elim
def yw_Law_law_23 (g : x_G) (Lx : Nat) (xs : Nat → Int32) : Nat → Nat → Nat → Nat → Nat → Int32 → x_Y → x_L → x_I → Nat → Nat → Prop
  | 0, _, _, _, _, _, _, _, _, _, _ => False
  | fu + 1, nA, b1_, b2_, b3_, v4, Y, L, I, ka, na =>
    ((((nI Lx) - (5 : Int32)) < v4 →
      True) ∧
    (¬ ((nI Lx) - (5 : Int32)) < v4 →
      vp_in v4 Lx ∧
      ∀ x30 : Int32, x30 = ((xs v4.toNatClampNeg) &&& (15 : Int32)) →
      (x30 = 0 →
        yw_Law_law_104 g Lx xs (fun nA9 v9 Y9 L9 I9 k9 n9 => yw_Law_law_23 g Lx xs fu nA9 b1_ b2_ b3_ v9 Y9 L9 I9 k9 n9) nA b1_ b2_ b3_ v4 Y L I ka na) ∧
      (x30 = 1 →
        yw_Law_law_160 g Lx xs (fun nA9 v9 Y9 L9 I9 k9 n9 => yw_Law_law_23 g Lx xs fu nA9 b1_ b2_ b3_ v9 Y9 L9 I9 k9 n9) nA b1_ b2_ b3_ v4 Y L I ka na) ∧
      (x30 = 2 →
        yw_Law_law_228 g Lx xs (fun nA9 v9 Y9 L9 I9 k9 n9 => yw_Law_law_23 g Lx xs fu nA9 b1_ b2_ b3_ v9 Y9 L9 I9 k9 n9) nA b1_ b2_ b3_ v4 Y L I ka na) ∧
      (x30 = 3 →
        yw_Law_law_284 g Lx xs (fun nA9 v9 Y9 L9 I9 k9 n9 => yw_Law_law_23 g Lx xs fu nA9 b1_ b2_ b3_ v9 Y9 L9 I9 k9 n9) nA b1_ b2_ b3_ v4 Y L I ka na) ∧
      (x30 = 4 →
        yw_Law_law_309 g Lx xs (fun nA9 v9 Y9 L9 I9 k9 n9 => yw_Law_law_23 g Lx xs fu nA9 b1_ b2_ b3_ v9 Y9 L9 I9 k9 n9) nA b1_ b2_ b3_ v4 Y L I ka na) ∧
      (x30 = 5 →
        yw_Law_law_401 g Lx xs (fun nA9 v9 Y9 L9 I9 k9 n9 => yw_Law_law_23 g Lx xs fu nA9 b1_ b2_ b3_ v9 Y9 L9 I9 k9 n9) nA b1_ b2_ b3_ v4 Y L I ka na) ∧
      (x30 = 6 →
        yw_Law_law_414 g Lx xs (fun nA9 v9 Y9 L9 I9 k9 n9 => yw_Law_law_23 g Lx xs fu nA9 b1_ b2_ b3_ v9 Y9 L9 I9 k9 n9) nA b1_ b2_ b3_ v4 Y L I ka na) ∧
      (x30 = 7 →
        yw_Law_law_427 g Lx xs (fun nA9 v9 Y9 L9 I9 k9 n9 => yw_Law_law_23 g Lx xs fu nA9 b1_ b2_ b3_ v9 Y9 L9 I9 k9 n9) nA b1_ b2_ b3_ v4 Y L I ka na) ∧
      (x30 = 8 →
        yw_Law_law_483 g Lx xs (fun nA9 v9 Y9 L9 I9 k9 n9 => yw_Law_law_23 g Lx xs fu nA9 b1_ b2_ b3_ v9 Y9 L9 I9 k9 n9) nA b1_ b2_ b3_ v4 Y L I ka na) ∧
      (x30 = 9 →
        yw_Law_law_551 g Lx xs (fun nA9 v9 Y9 L9 I9 k9 n9 => yw_Law_law_23 g Lx xs fu nA9 b1_ b2_ b3_ v9 Y9 L9 I9 k9 n9) nA b1_ b2_ b3_ v4 Y L I ka na) ∧
      (x30 = 10 →
        yw_Law_law_564 g Lx xs (fun nA9 v9 Y9 L9 I9 k9 n9 => yw_Law_law_23 g Lx xs fu nA9 b1_ b2_ b3_ v9 Y9 L9 I9 k9 n9) nA b1_ b2_ b3_ v4 Y L I ka na) ∧
      (x30 = 11 →
        yw_Law_law_577 g Lx xs (fun nA9 v9 Y9 L9 I9 k9 n9 => yw_Law_law_23 g Lx xs fu nA9 b1_ b2_ b3_ v9 Y9 L9 I9 k9 n9) nA b1_ b2_ b3_ v4 Y L I ka na) ∧
      (x30 = 12 →
        yw_Law_law_633 g Lx xs (fun nA9 v9 Y9 L9 I9 k9 n9 => yw_Law_law_23 g Lx xs fu nA9 b1_ b2_ b3_ v9 Y9 L9 I9 k9 n9) nA b1_ b2_ b3_ v4 Y L I ka na) ∧
      (¬ x30 = 0 → ¬ x30 = 1 → ¬ x30 = 2 → ¬ x30 = 3 → ¬ x30 = 4 → ¬ x30 = 5 → ¬ x30 = 6 → ¬ x30 = 7 → ¬ x30 = 8 → ¬ x30 = 9 → ¬ x30 = 10 → ¬ x30 = 11 → ¬ x30 = 12 → 
        ∀ x180 : Int32, x180 = v4 + (5 : Int32) →
        ∃ nA : Nat, yw_Law_law_23 g Lx xs fu nA b1_ b2_ b3_ x180 Y L I ka na)))
def yw_Law_law (g : x_G) (Lx : Nat) (xs : Nat → Int32) (Y : x_Y) (L : x_L) (I : x_I) : Prop :=
  (0 + 1 ≤ 600288 ∧ 0 + x_nf 0 ≤ 7292554) ∧
  ∀ (b1 k2 n2 : Nat) (Y3 : x_Y) (L4 : x_L) (I5 : x_I), Y3 = x_yn Y 0 0 b1 (x_nf 0) (fun _ => none) → L4 = x_zl L 0 0 → I5 = x_zi I 0 0 → k2 = 0 + 1 → n2 = 0 + (x_nf 0) →
  yw_Led_init g (fun Y8 L9 I10 k11 n11 =>
    (k11 + 1 ≤ 600288 ∧ n11 + x_nf 8 ≤ 7292554) ∧
    ∀ (b12 k13 n13 : Nat) (Y14 : x_Y) (L15 : x_L) (I16 : x_I), Y14 = x_yn Y8 30 0 b12 (x_nf 8) (fun _ => none) → L15 = x_zl L9 30 0 → I16 = x_zi I10 30 0 → k13 = k11 + 1 → n13 = n11 + (x_nf 8) →
    yw_Mod_init g (fun Y19 L20 I21 k22 n22 =>
      (k22 + 1 ≤ 600288 ∧ n22 + 1 ≤ 7292554) ∧
      ∀ (b23 k24 n24 : Nat) (Y25 : x_Y) (L26 : x_L) (I27 : x_I), Y25 = x_yn Y19 25 0 b23 1 (fun _ => none) → L26 = x_zl L20 25 0 → I27 = x_zi I21 25 0 → k24 = k22 + 1 → n24 = n22 + 1 →
      ∀ x28 : Int32, x28 = (0 : Int32) →
      ∃ fu : Nat, yw_Law_law_23 g Lx xs fu 0 b1 b12 b23 x28 Y25 L26 I27 k24 n24) x_ynx b12 Y14 L15 I16 k13 n13) x_ynx b1 Y3 L4 I5 k2 n2
set_option maxRecDepth 100000 in
set_option maxHeartbeats 4000000 in
theorem yc_Law_law_23 {l : Launch} {g : x_G} {p : Program} {e : Env} {s : State} {m : MethodId} {below : List Frame} {meth : Method} {c : Code} {b Lx : Nat} {xs : Nat → Int32} (hE : x_E l g p e room_1 s m meth c "CallLedgerLaw" code 7 ret 101 0 0) (hX : va_X b Lx xs s s.heap) (hgs : s.heap = g.2.2.2.1) :
    ∀ (fu nA : Nat) (b1_ : Nat) (b2_ : Nat) (b3_ : Nat) (v4 : Int32) (Y : x_Y) (L : x_L) (I : x_I) (ka na : Nat) (H : Heap) (locs : List Loc) (ls : Array Slot), yw_Law_law_23 g Lx xs fu nA b1_ b2_ b3_ v4 Y L I ka na → x_WL g Y L I H locs → x_bd 0 0 ka na → lv_has ls 7 [(0, .ref b), (1, .ref b1_), (2, .ref b2_), (3, .ref b3_), (4, .int v4)] → W p l e room_1 s m #[Value.ref b] below meth c H locs (ka - 0) (na - 0) (lw_Z below #[Value.ref b] s) (F0 m 23 ls []) := by
  obtain ⟨hx, hb, hml, hr, hlk, hown, hK, htr, hF, hLo, hRc, hRs⟩ := id hE
  intro fu
  induction fu with
  | zero =>
    intro nA b1_ b2_ b3_ v4 Y L I ka na H locs ls h
    exact h.elim
  | succ fu ih =>
    intro nA b1_ b2_ b3_ v4 Y L I ka na H locs ls h hw hbd hl
    unfold yw_Law_law_23 at h
    refine lv_iload hx hb d_Law_law_23 (lv_at hl 4 rfl) ?_
    refine lv_aload_n hx hb d_Law_law_25 rfl (lv_at hl 0 rfl) ?_
    refine x_slen hx hb hX hgs hw d_Law_law_26 ?_
    refine lv_iconst (v := 5) hx hb d_Law_law_27 (by decide) ?_
    refine lv_isub hx hb d_Law_law_28 ?_
    refine lv_icmp_gt (tgt := 652) hx hb d_Law_law_29 (by decide) (fun c29 => ?_) (fun c29 => ?_)
    · replace h := h.1 c29
      refine lv_iconst (v := 1) hx hb d_Law_law_652 (by decide) ?_
      exact x_lwEnd hE hgs hw hbd d_Law_law_653
    · replace h := h.2 c29
      refine lv_aload_n hx hb d_Law_law_32 rfl (lv_at hl 0 rfl) ?_
      refine lv_iload hx hb d_Law_law_33 (lv_at hl 4 rfl) ?_
      refine x_sld hx hb hX hgs hw h.1 d_Law_law_35 ?_
      replace h := h.2
      refine lv_bipush (v := 15) hx hb d_Law_law_36 (by decide) ?_
      refine lv_iand hx hb d_Law_law_38 ?_
      refine lv_topi (fun x30 e_x30 => ?_)
      replace h := h x30 e_x30
      by_cases c31 : x30 = 0
      · replace h := h.1 c31
        refine lv_tableIn (off := 65) (tgt := 104) hx hb d_Law_law_39 (by rw [c31]; decide) (by rw [c31]; decide) (by rw [c31]; rfl) (by decide) ?_
        exact yc_Law_law_104 hE hX hgs (fun nA9 v9 Y9 L9 I9 k9 n9 H9 locs9 ls9 h9 hw9 hbd9 hl9 => ih nA9 b1_ b2_ b3_ v9 Y9 L9 I9 k9 n9 H9 locs9 ls9 h9 hw9 hbd9 hl9) h hw hbd (lv_sub hl [0, 1, 2, 3, 4] rfl)
      · replace h := h.2
        by_cases c60 : x30 = 1
        · replace h := h.1 c60
          refine lv_tableIn (off := 121) (tgt := 160) hx hb d_Law_law_39 (by rw [c60]; decide) (by rw [c60]; decide) (by rw [c60]; rfl) (by decide) ?_
          exact yc_Law_law_160 hE hX hgs (fun nA9 v9 Y9 L9 I9 k9 n9 H9 locs9 ls9 h9 hw9 hbd9 hl9 => ih nA9 b1_ b2_ b3_ v9 Y9 L9 I9 k9 n9 H9 locs9 ls9 h9 hw9 hbd9 hl9) h hw hbd (lv_sub hl [0, 1, 2, 3, 4] rfl)
        · replace h := h.2
          by_cases c73 : x30 = 2
          · replace h := h.1 c73
            refine lv_tableIn (off := 189) (tgt := 228) hx hb d_Law_law_39 (by rw [c73]; decide) (by rw [c73]; decide) (by rw [c73]; rfl) (by decide) ?_
            exact yc_Law_law_228 hE hX hgs (fun nA9 v9 Y9 L9 I9 k9 n9 H9 locs9 ls9 h9 hw9 hbd9 hl9 => ih nA9 b1_ b2_ b3_ v9 Y9 L9 I9 k9 n9 H9 locs9 ls9 h9 hw9 hbd9 hl9) h hw hbd (lv_sub hl [0, 1, 2, 3, 4] rfl)
          · replace h := h.2
            by_cases c86 : x30 = 3
            · replace h := h.1 c86
              refine lv_tableIn (off := 245) (tgt := 284) hx hb d_Law_law_39 (by rw [c86]; decide) (by rw [c86]; decide) (by rw [c86]; rfl) (by decide) ?_
              exact yc_Law_law_284 hE hX hgs (fun nA9 v9 Y9 L9 I9 k9 n9 H9 locs9 ls9 h9 hw9 hbd9 hl9 => ih nA9 b1_ b2_ b3_ v9 Y9 L9 I9 k9 n9 H9 locs9 ls9 h9 hw9 hbd9 hl9) h hw hbd (lv_sub hl [0, 1, 2, 3, 4] rfl)
            · replace h := h.2
              by_cases c93 : x30 = 4
              · replace h := h.1 c93
                refine lv_tableIn (off := 270) (tgt := 309) hx hb d_Law_law_39 (by rw [c93]; decide) (by rw [c93]; decide) (by rw [c93]; rfl) (by decide) ?_
                exact yc_Law_law_309 hE hX hgs (fun nA9 v9 Y9 L9 I9 k9 n9 H9 locs9 ls9 h9 hw9 hbd9 hl9 => ih nA9 b1_ b2_ b3_ v9 Y9 L9 I9 k9 n9 H9 locs9 ls9 h9 hw9 hbd9 hl9) h hw hbd (lv_sub hl [0, 1, 2, 3, 4] rfl)
              · replace h := h.2
                by_cases c106 : x30 = 5
                · replace h := h.1 c106
                  refine lv_tableIn (off := 362) (tgt := 401) hx hb d_Law_law_39 (by rw [c106]; decide) (by rw [c106]; decide) (by rw [c106]; rfl) (by decide) ?_
                  exact yc_Law_law_401 hE hX hgs (fun nA9 v9 Y9 L9 I9 k9 n9 H9 locs9 ls9 h9 hw9 hbd9 hl9 => ih nA9 b1_ b2_ b3_ v9 Y9 L9 I9 k9 n9 H9 locs9 ls9 h9 hw9 hbd9 hl9) h hw hbd (lv_sub hl [0, 1, 2, 3, 4] rfl)
                · replace h := h.2
                  by_cases c112 : x30 = 6
                  · replace h := h.1 c112
                    refine lv_tableIn (off := 375) (tgt := 414) hx hb d_Law_law_39 (by rw [c112]; decide) (by rw [c112]; decide) (by rw [c112]; rfl) (by decide) ?_
                    exact yc_Law_law_414 hE hX hgs (fun nA9 v9 Y9 L9 I9 k9 n9 H9 locs9 ls9 h9 hw9 hbd9 hl9 => ih nA9 b1_ b2_ b3_ v9 Y9 L9 I9 k9 n9 H9 locs9 ls9 h9 hw9 hbd9 hl9) h hw hbd (lv_sub hl [0, 1, 2, 3, 4] rfl)
                  · replace h := h.2
                    by_cases c118 : x30 = 7
                    · replace h := h.1 c118
                      refine lv_tableIn (off := 388) (tgt := 427) hx hb d_Law_law_39 (by rw [c118]; decide) (by rw [c118]; decide) (by rw [c118]; rfl) (by decide) ?_
                      exact yc_Law_law_427 hE hX hgs (fun nA9 v9 Y9 L9 I9 k9 n9 H9 locs9 ls9 h9 hw9 hbd9 hl9 => ih nA9 b1_ b2_ b3_ v9 Y9 L9 I9 k9 n9 H9 locs9 ls9 h9 hw9 hbd9 hl9) h hw hbd (lv_sub hl [0, 1, 2, 3, 4] rfl)
                    · replace h := h.2
                      by_cases c131 : x30 = 8
                      · replace h := h.1 c131
                        refine lv_tableIn (off := 444) (tgt := 483) hx hb d_Law_law_39 (by rw [c131]; decide) (by rw [c131]; decide) (by rw [c131]; rfl) (by decide) ?_
                        exact yc_Law_law_483 hE hX hgs (fun nA9 v9 Y9 L9 I9 k9 n9 H9 locs9 ls9 h9 hw9 hbd9 hl9 => ih nA9 b1_ b2_ b3_ v9 Y9 L9 I9 k9 n9 H9 locs9 ls9 h9 hw9 hbd9 hl9) h hw hbd (lv_sub hl [0, 1, 2, 3, 4] rfl)
                      · replace h := h.2
                        by_cases c144 : x30 = 9
                        · replace h := h.1 c144
                          refine lv_tableIn (off := 512) (tgt := 551) hx hb d_Law_law_39 (by rw [c144]; decide) (by rw [c144]; decide) (by rw [c144]; rfl) (by decide) ?_
                          exact yc_Law_law_551 hE hX hgs (fun nA9 v9 Y9 L9 I9 k9 n9 H9 locs9 ls9 h9 hw9 hbd9 hl9 => ih nA9 b1_ b2_ b3_ v9 Y9 L9 I9 k9 n9 H9 locs9 ls9 h9 hw9 hbd9 hl9) h hw hbd (lv_sub hl [0, 1, 2, 3, 4] rfl)
                        · replace h := h.2
                          by_cases c150 : x30 = 10
                          · replace h := h.1 c150
                            refine lv_tableIn (off := 525) (tgt := 564) hx hb d_Law_law_39 (by rw [c150]; decide) (by rw [c150]; decide) (by rw [c150]; rfl) (by decide) ?_
                            exact yc_Law_law_564 hE hX hgs (fun nA9 v9 Y9 L9 I9 k9 n9 H9 locs9 ls9 h9 hw9 hbd9 hl9 => ih nA9 b1_ b2_ b3_ v9 Y9 L9 I9 k9 n9 H9 locs9 ls9 h9 hw9 hbd9 hl9) h hw hbd (lv_sub hl [0, 1, 2, 3, 4] rfl)
                          · replace h := h.2
                            by_cases c156 : x30 = 11
                            · replace h := h.1 c156
                              refine lv_tableIn (off := 538) (tgt := 577) hx hb d_Law_law_39 (by rw [c156]; decide) (by rw [c156]; decide) (by rw [c156]; rfl) (by decide) ?_
                              exact yc_Law_law_577 hE hX hgs (fun nA9 v9 Y9 L9 I9 k9 n9 H9 locs9 ls9 h9 hw9 hbd9 hl9 => ih nA9 b1_ b2_ b3_ v9 Y9 L9 I9 k9 n9 H9 locs9 ls9 h9 hw9 hbd9 hl9) h hw hbd (lv_sub hl [0, 1, 2, 3, 4] rfl)
                            · replace h := h.2
                              by_cases c169 : x30 = 12
                              · replace h := h.1 c169
                                refine lv_tableIn (off := 594) (tgt := 633) hx hb d_Law_law_39 (by rw [c169]; decide) (by rw [c169]; decide) (by rw [c169]; rfl) (by decide) ?_
                                exact yc_Law_law_633 hE hX hgs (fun nA9 v9 Y9 L9 I9 k9 n9 H9 locs9 ls9 h9 hw9 hbd9 hl9 => ih nA9 b1_ b2_ b3_ v9 Y9 L9 I9 k9 n9 H9 locs9 ls9 h9 hw9 hbd9 hl9) h hw hbd (lv_sub hl [0, 1, 2, 3, 4] rfl)
                              · replace h := h.2
                                replace h := h c31 c60 c73 c86 c93 c106 c112 c118 c131 c144 c150 c156 c169
                                by_cases hlo : x30.toInt < 0
                                · refine lv_tableOut (tgt := 646) hx hb d_Law_law_39 (Or.inl hlo) (by decide) ?_
                                  obtain ⟨x180, e_x180⟩ : ∃ z : Int32, z = v4 + (5 : Int32) := ⟨_, rfl⟩
                                  replace h := h x180 e_x180
                                  refine lv_iinc (v := x180) (lv' := [(4, .int x180), (0, .ref b), (1, .ref b1_), (2, .ref b2_), (3, .ref b3_)]) hx hb d_Law_law_646 hl (k := 4) rfl (by rw [e_x180]; rfl) (by decide) rfl (fun ls hl => ?_)
                                  refine lv_goto (tgt := 23) hx hb d_Law_law_649 (by decide) ?_
                                  obtain ⟨nA, h⟩ := h
                                  exact ih nA b1_ b2_ b3_ x180 Y L I ka na H locs ls h hw hbd (lv_sub hl [1, 2, 3, 4, 0] rfl)
                                · by_cases hhi : 12 < x30.toInt
                                  · refine lv_tableOut (tgt := 646) hx hb d_Law_law_39 (Or.inr hhi) (by decide) ?_
                                    obtain ⟨x180, e_x180⟩ : ∃ z : Int32, z = v4 + (5 : Int32) := ⟨_, rfl⟩
                                    replace h := h x180 e_x180
                                    refine lv_iinc (v := x180) (lv' := [(4, .int x180), (0, .ref b), (1, .ref b1_), (2, .ref b2_), (3, .ref b3_)]) hx hb d_Law_law_646 hl (k := 4) rfl (by rw [e_x180]; rfl) (by decide) rfl (fun ls hl => ?_)
                                    refine lv_goto (tgt := 23) hx hb d_Law_law_649 (by decide) ?_
                                    obtain ⟨nA, h⟩ := h
                                    exact ih nA b1_ b2_ b3_ x180 Y L I ka na H locs ls h hw hbd (lv_sub hl [1, 2, 3, 4, 0] rfl)
                                  · exfalso
                                    have z0 := lv_neT (a := 0) c31 (by decide)
                                    have z1 := lv_neT (a := 1) c60 (by decide)
                                    have z2 := lv_neT (a := 2) c73 (by decide)
                                    have z3 := lv_neT (a := 3) c86 (by decide)
                                    have z4 := lv_neT (a := 4) c93 (by decide)
                                    have z5 := lv_neT (a := 5) c106 (by decide)
                                    have z6 := lv_neT (a := 6) c112 (by decide)
                                    have z7 := lv_neT (a := 7) c118 (by decide)
                                    have z8 := lv_neT (a := 8) c131 (by decide)
                                    have z9 := lv_neT (a := 9) c144 (by decide)
                                    have z10 := lv_neT (a := 10) c150 (by decide)
                                    have z11 := lv_neT (a := 11) c156 (by decide)
                                    have z12 := lv_neT (a := 12) c169 (by decide)
                                    omega
set_option maxRecDepth 100000 in
set_option maxHeartbeats 4000000 in
theorem yc_Law_law {l : Launch} {g : x_G} {p : Program} {e : Env} {s : State} {m : MethodId} {below : List Frame} {meth : Method} {c : Code} {b Lx : Nat} {xs : Nat → Int32} (hE : x_E l g p e room_1 s m meth c "CallLedgerLaw" code 7 ret 101 0 0) (hX : va_X b Lx xs s s.heap) (hgs : s.heap = g.2.2.2.1) {Y : x_Y} {L : x_L} {I : x_I} {ls : Array Slot} {H : Heap} {locs : List Loc} (h : yw_Law_law g Lx xs Y L I) (hw : x_WL g Y L I H locs) (hl : lv_has ls 7 [(0, .ref b)]) : W p l e room_1 s m #[Value.ref b] below meth c H locs (0 - 0) (0 - 0) (lw_Z below #[Value.ref b] s) (F0 m 0 ls []) := by
  obtain ⟨hx, hb, hml, hr, hlk, hown, hK, htr, hF, hLo, hRc, hRs⟩ := id hE
  have hbd : x_bd 0 0 0 0 := ⟨Nat.le_refl _, by decide, Nat.le_refl _, by decide⟩
  unfold yw_Law_law at h
  refine x_newO (t := 0) (i := 0) hx hb hK hw hown rfl (by decide) k_28 k_29 k_1 hRc hRs hbd h.1.1 h.1.2 d_Law_law_0 (fun b1 k2 n2 Y3 L4 I5 H q1 q2 q3 q4 q5 hw hbd => ?_)
  replace h := h.2 b1 k2 n2 Y3 L4 I5 q1 q2 q3 q4 q5
  clear q1 q2 q3 q4 q5
  refine lv_dup hx hb d_Law_law_3 rfl ?_
  refine x_ygV (ls := ls) (rest := [.ref b1]) hE hw (yc_Led_init h) (x_cd hK k_32) q_Led_init (by decide) (by decide) hl.1 (Nat.le_of_ble_eq_true rfl) hbd d_Law_law_4 (x_toI (As := []) (b := b1) hx hb hown hK rfl k_30 k_31 k_32 q_Led_init rfl rfl d_Law_law_4) (fun Y8 L9 I10 k11 n11 H locs h hw hb9 => ?_) (fun _ _ _ _ _ _ _ _ h9 => h9.elim)
  replace hbd := hbd.tr hb9
  try dsimp only at h
  refine lv_astore_n (lv' := [(1, .ref b1), (0, .ref b)]) hx hb d_Law_law_7 rfl hl (by decide) rfl (fun ls hl => ?_)
  refine x_newO (t := 30) (i := 0) hx hb hK hw hown rfl (by decide) k_792 k_793 k_11 hRc hRs hbd h.1.1 h.1.2 d_Law_law_8 (fun b12 k13 n13 Y14 L15 I16 H q1 q2 q3 q4 q5 hw hbd => ?_)
  replace h := h.2 b12 k13 n13 Y14 L15 I16 q1 q2 q3 q4 q5
  clear q1 q2 q3 q4 q5
  refine lv_dup hx hb d_Law_law_11 rfl ?_
  refine x_ygV (ls := ls) (rest := [.ref b12]) hE hw (yc_Mod_init h) (x_cd hK k_796) q_Mod_init (by decide) (by decide) hl.1 (Nat.le_of_ble_eq_true rfl) hbd d_Law_law_12 (x_toI (As := []) (b := b12) hx hb hown hK rfl k_794 k_795 k_796 q_Mod_init rfl rfl d_Law_law_12) (fun Y19 L20 I21 k22 n22 H locs h hw hb9 => ?_) (fun _ _ _ _ _ _ _ _ h9 => h9.elim)
  replace hbd := hbd.tr hb9
  try dsimp only at h
  refine lv_astore_n (lv' := [(2, .ref b12), (1, .ref b1), (0, .ref b)]) hx hb d_Law_law_15 rfl hl (by decide) rfl (fun ls hl => ?_)
  refine lv_iconst (v := 1) hx hb d_Law_law_16 (by decide) ?_
  refine x_newA1 (t := 25) (i := 0) hx hb hK hw rfl (by decide) (at0 := .long) rfl k_95 (by decide) (by decide) hRc hRs hbd h.1.1 h.1.2 d_Law_law_17 (fun b23 k24 n24 Y25 L26 I27 H q1 q2 q3 q4 q5 hw hbd => ?_)
  replace h := h.2 b23 k24 n24 Y25 L26 I27 q1 q2 q3 q4 q5
  clear q1 q2 q3 q4 q5
  refine lv_astore_n (lv' := [(3, .ref b23), (2, .ref b12), (1, .ref b1), (0, .ref b)]) hx hb d_Law_law_19 rfl hl (by decide) rfl (fun ls hl => ?_)
  refine lv_iconst (v := 0) hx hb d_Law_law_20 (by decide) ?_
  refine lv_topi (fun x28 e_x28 => ?_)
  replace h := h x28 e_x28
  refine lv_istore (lv' := [(4, .int x28), (3, .ref b23), (2, .ref b12), (1, .ref b1), (0, .ref b)]) hx hb d_Law_law_21 hl (by decide) rfl (fun ls hl => ?_)
  obtain ⟨fu, h⟩ := h
  exact yc_Law_law_23 hE hX hgs fu 0 b1 b12 b23 x28 Y25 L26 I27 k24 n24 H locs ls h hw hbd (lv_sub hl [4, 3, 2, 1, 0] rfl)
