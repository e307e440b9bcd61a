/-- plays, nested so deep at most -/
def x_PL : Nat → (Int32 → x_L → x_I → Nat → Nat → Prop) → Nat → Nat → Int32 → x_L → x_I → Nat → Nat → Prop
  | 0 => fun _ _ _ _ _ _ _ _ => False
  | f + 1 => fun Q nA d q1 L I k n => w_Run_plays Q (x_PL f) nA d q1 L I k n
theorem c_PL {l : Launch} {g : x_G} {Y : x_Y} (hY : x_Y0 g Y) {nA : Nat} (hLs : x_Ls Y nA) (hT18 : ¬ x_ok Y 18 0) (hT19 : ¬ x_ok Y 19 0) : ∀ (f : Nat) {Q' : Int32 → x_L → x_I → Nat → Nat → Prop} {d' : Nat} {q1 : Int32} {L' : x_L} {I' : x_I} {k' n' : Nat}, x_ok Y 20 d' → x_PL f Q' nA d' q1 L' I' k' n' → x_C l y_Run_plays (11 * f) g [.ref (x_ad Y 20 d'), .int q1] Y L' I' k' n' (x_pI Y Q' x_nx)
  | 0 => fun _ h => h.elim
  | f + 1 => fun hok h => c_Run_plays hY hLs hT18 hT19 (Fp := 11 * f) (fun ok h => c_PL hY hLs hT18 hT19 f ok h) hok h
