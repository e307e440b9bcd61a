/-! THE WORLD: every cell that matters has a name (tag t, index i). Y: which exist, where, how long, what their reference slots hold. L, I: their longs and ints. -/
abbrev x_I : Type := Nat → Nat → Nat → Int32
abbrev x_L : Type := Nat → Nat → Nat → Int64
abbrev x_Y : Type := Nat → Nat → Prop × Nat × Nat × (Nat → Option Nat)
def x_ok (Y : x_Y) (t i : Nat) : Prop := (Y t i).1
def x_ad (Y : x_Y) (t i : Nat) : Nat := (Y t i).2.1
def x_n (Y : x_Y) (t i : Nat) : Nat := (Y t i).2.2.1
def x_r (Y : x_Y) (t i j : Nat) : Option Nat := (Y t i).2.2.2 j
def x_u (I : x_I) (t i j : Nat) (v : Int32) : x_I := fun a b c => if a = t ∧ b = i ∧ c = j then v else I a b c
def x_ul (L : x_L) (t i j : Nat) (v : Int64) : x_L := fun a b c => if a = t ∧ b = i ∧ c = j then v else L a b c
def x_vl (k : Nat) (r : Option Nat) (l : Int64) (i : Int32) : Value := match k with
  | 0 => .int i
  | 1 => .long l
  | _ => va_rf r
/-- class numbers to ids; fields to slots; array kinds to ids; the heap at the law's entry; the enum's constants -/
abbrev x_G : Type := (Nat → ClassId) × (Nat → Nat → Nat) × (Nat → ClassId) × Heap × (Nat → Nat)
def x_z (g : x_G) : Nat := g.2.2.2.1.size
def x_cn (c : Nat) : String := match c with
  | 0 => "CallLedger"
  | 1 => "CallLedger$Book"
  | 2 => "java/util/ArrayList"
  | 3 => "CallLedger$Table"
  | 4 => "CallLedger$Journal"
  | 5 => "CallLedger$Run"
  | 6 => "java/util/ArrayList$Itr"
  | 7 => "CallLedger$Account"
  | _ => "CallLedgerModel"
def x_nf (c : Nat) : Nat := match c with
  | 0 => 7
  | 1 => 5
  | 2 => 3
  | 3 => 5
  | 4 => 5
  | 5 => 14
  | 6 => 4
  | 7 => 4
  | _ => 34
/-- the fields of a class: declaring class, name, descriptor, final -/
def x_fl (c : Nat) : List (String × String × String × Bool) := match c with
  | 0 => [("CallLedger", "book", "LCallLedger$Book;", true), ("CallLedger", "instructions", "[LCallLedger$Instruction;", true), ("CallLedger", "runs", "[LCallLedger$Run;", true), ("CallLedger", "arguments", "[I", true), ("CallLedger", "many", "I", false), ("CallLedger", "used", "I", false), ("CallLedger", "result", "I", false)]
  | 1 => [("CallLedger$Book", "accounts", "Ljava/util/List;", true), ("CallLedger$Book", "storage", "LCallLedger$Table;", true), ("CallLedger$Book", "journal", "LCallLedger$Journal;", true), ("CallLedger$Book", "log", "[I", true), ("CallLedger$Book", "logged", "I", false)]
  | 2 => [("java/util/ArrayList", "elementData", "[Ljava/lang/Object;", false), ("java/util/ArrayList", "size", "I", false), ("java/util/AbstractList", "modCount", "I", false)]
  | 3 => [("CallLedger$Table", "keys", "[J", true), ("CallLedger$Table", "values", "[I", true), ("CallLedger$Table", "marks", "[B", true), ("CallLedger$Table", "many", "I", false), ("CallLedger$Table", "marked", "I", false)]
  | 4 => [("CallLedger$Journal", "accounts", "[B", true), ("CallLedger$Journal", "stored", "[Z", true), ("CallLedger$Journal", "keys", "[I", true), ("CallLedger$Journal", "values", "[I", true), ("CallLedger$Journal", "size", "I", false)]
  | 5 => [("CallLedger$Run", "book", "LCallLedger$Book;", true), ("CallLedger$Run", "all", "[LCallLedger$Instruction;", true), ("CallLedger$Run", "runs", "[LCallLedger$Run;", true), ("CallLedger$Run", "depth", "I", true), ("CallLedger$Run", "self", "I", false), ("CallLedger$Run", "caller", "I", false), ("CallLedger$Run", "value", "I", false), ("CallLedger$Run", "arguments", "[I", true), ("CallLedger$Run", "stack", "[I", true), ("CallLedger$Run", "top", "I", false), ("CallLedger$Run", "place", "I", false), ("CallLedger$Run", "gas", "I", false), ("CallLedger$Run", "result", "I", false), ("CallLedger$Run", "end", "I", false)]
  | 6 => [("java/util/ArrayList$Itr", "cursor", "I", false), ("java/util/ArrayList$Itr", "lastRet", "I", false), ("java/util/ArrayList$Itr", "expectedModCount", "I", false), ("java/util/ArrayList$Itr", "this$0", "Ljava/util/ArrayList;", true)]
  | 7 => [("CallLedger$Account", "balance", "I", false), ("CallLedger$Account", "words", "[I", true), ("CallLedger$Account", "size", "I", false), ("CallLedger$Account", "sealed", "Z", false)]
  | _ => [("CallLedgerModel", "thrown", "I", false), ("CallLedgerModel", "accounts", "I", false), ("CallLedgerModel", "balances", "[I", true), ("CallLedgerModel", "codes", "[I", true), ("CallLedgerModel", "lengths", "[I", true), ("CallLedgerModel", "sealed0", "[Z", true), ("CallLedgerModel", "keyAccounts", "[I", true), ("CallLedgerModel", "keyNames", "[I", true), ("CallLedgerModel", "keyValues", "[I", true), ("CallLedgerModel", "keys", "I", false), ("CallLedgerModel", "log", "[I", true), ("CallLedgerModel", "logged", "I", false), ("CallLedgerModel", "oldBalances", "[I", true), ("CallLedgerModel", "oldAccounts", "[I", true), ("CallLedgerModel", "oldNames", "[I", true), ("CallLedgerModel", "oldValues", "[I", true), ("CallLedgerModel", "oldKeys", "[I", true), ("CallLedgerModel", "oldLogged", "[I", true), ("CallLedgerModel", "depth", "I", false), ("CallLedgerModel", "stacks", "[I", true), ("CallLedgerModel", "heights", "[I", true), ("CallLedgerModel", "places", "[I", true), ("CallLedgerModel", "givens", "[I", true), ("CallLedgerModel", "givenCounts", "[I", true), ("CallLedgerModel", "callers", "[I", true), ("CallLedgerModel", "values", "[I", true), ("CallLedgerModel", "gases", "[I", true), ("CallLedgerModel", "runAccounts", "[I", true), ("CallLedgerModel", "arguments", "[I", true), ("CallLedgerModel", "argumentCount", "I", false), ("CallLedgerModel", "ended", "I", false), ("CallLedgerModel", "result", "I", false), ("CallLedgerModel", "left", "I", false), ("CallLedgerModel", "used", "I", false)]
def x_F (c : Nat) : u_T := fun k => (x_fl c).getD k ("", "", "", false)
/-- the kind of a descriptor: 0 an int, 1 a long, 2 a reference -/
def x_dk (d : String) : Nat := if d = "I" ∨ d = "Z" then 0 else 2
def x_dt (d : String) : FieldType := (parseFieldDescriptor d).getD .int
/-- a tag's kind: (0, class number) or (1, array kind) -/
def x_kd (t : Nat) : Nat × Nat := match t with
  | 0 => (0, 0)
  | 1 => (0, 1)
  | 2 => (0, 2)
  | 3 => (1, 4)
  | 4 => (0, 3)
  | 5 => (1, 1)
  | 6 => (1, 0)
  | 7 => (1, 2)
  | 8 => (0, 4)
  | 9 => (1, 2)
  | 10 => (1, 3)
  | 11 => (1, 0)
  | 12 => (1, 0)
  | 13 => (1, 0)
  | 14 => (1, 6)
  | 15 => (1, 5)
  | 16 => (1, 0)
  | 17 => (0, 6)
  | 18 => (1, 1)
  | 19 => (1, 0)
  | 20 => (0, 5)
  | 21 => (1, 0)
  | 22 => (1, 0)
  | 23 => (0, 7)
  | 24 => (1, 0)
  | 25 => (1, 1)
  | 30 => (0, 8)
  | 45 => (1, 3)
  | _ => (1, 0)
/-- array kinds -/
def x_et (e : Nat) : FieldType := match e with
  | 0 => .int
  | 1 => .long
  | 2 => .byte
  | 3 => .boolean
  | 4 => .object "java/lang/Object"
  | 5 => .object "CallLedger$Run"
  | _ => .object "CallLedger$Instruction"
def x_ek (e : Nat) : Nat := match e with
  | 0 => 0
  | 1 => 1
  | 2 => 0
  | 3 => 0
  | _ => 2
def x_sk (t j : Nat) : Nat := if (x_kd t).1 = 0 then x_dk (x_F (x_kd t).2 j).2.2.1 else x_ek (x_kd t).2
def x_V (Y : x_Y) (L : x_L) (I : x_I) (t i j : Nat) : Value := x_vl (x_sk t j) (x_r Y t i j) (L t i j) (I t i j)
def x_at (g : x_G) (t a n : Nat) (V : Nat → Value) (H : Heap) : Prop :=
  if (x_kd t).1 = 0 then t_OB a (g.1 (x_kd t).2) (x_nf (x_kd t).2) (g.2.1 (x_kd t).2) H V else H[a]? = some (arrV (g.2.2.1 (x_kd t).2) n V)
/-- the heap holds the world; below the law's entry nothing has changed -/
def x_W (g : x_G) (Y : x_Y) (L : x_L) (I : x_I) (H : Heap) : Prop :=
  x_z g ≤ H.size ∧ (∀ q, q < x_z g → H[q]? = g.2.2.2.1[q]?) ∧
  (∀ t i, x_ok Y t i → x_z g ≤ x_ad Y t i ∧ x_at g t (x_ad Y t i) (x_n Y t i) (x_V Y L I t i) H) ∧
  (∀ t i t' i', x_ok Y t i → x_ok Y t' i' → x_ad Y t i = x_ad Y t' i' → t = t' ∧ i = i')
def x_WL (g : x_G) (Y : x_Y) (L : x_L) (I : x_I) (H : Heap) (locs : List Loc) : Prop := x_W g Y L I H ∧ ∀ q ∈ locs, x_z g ≤ q.base
abbrev x_rm : String × List String := ("CallLedger$Instruction", ["END", "PUSH", "POP", "COPY", "SWAP", "ADD", "SUB", "MUL", "DIV", "REM", "LESS", "SAME", "NOT", "AND", "OR", "XOR", "JUMP", "JUMP_IF", "LOAD", "STORE", "ARGUMENT", "CALLER", "VALUE", "SELF", "BALANCE", "LOG", "RETURN", "CALL", "GAS", "REVERT"])
/-- what is known of the tables and of the heap at the law's entry -/
def x_K (g : x_G) (U : State) : Prop := ∃ (s0 : State) (a0 : Array Value),
  (Jvm.Cond.and given_1 narrow_1).before a0 s0 = true ∧ (∀ w ∈ lw_tbl, w.before a0 s0 = true) ∧ s0.heap = g.2.2.2.1 ∧ s0.WarmedH U.vm ∧
  (∀ c, c < 9 → u_Kn s0 (x_cn c) (x_F c) (x_nf c) (g.1 c) (g.2.1 c)) ∧ (∀ e, e < 7 → ArrOfT s0 (g.2.2.1 e) (x_et e) ∧ va_RA s0 (g.2.2.1 e) (x_et e)) ∧
  (∀ i, i < 30 → (Term.static x_rm.1 (x_rm.2.getD i "") "LCallLedger$Instruction;").eval a0 s0 none [] s0 = some (.ref (g.2.2.2.2 i))) ∧
  (Term.static "java/util/ArrayList" "DEFAULTCAPACITY_EMPTY_ELEMENTDATA" "[Ljava/lang/Object;").eval a0 s0 none [] s0 = some (.ref (g.2.2.2.2 30)) ∧ (Term.static "CallLedger$Instruction" "$VALUES" "[LCallLedger$Instruction;").eval a0 s0 none [] s0 = some (.ref (g.2.2.2.2 31)) ∧ va_Mi "[Ljava/lang/Object;" (g.2.2.2.2 32) s0
theorem x_K.moved {g : x_G} {s U : State} (h : x_K g s) (hW : s.WarmedH U.vm) : x_K g U := by
  obtain ⟨s0, a0, h1, h2, h3, h4, h5⟩ := h
  exact ⟨s0, a0, h1, h2, h3, State.WarmedH.trans h4 hW, h5⟩
theorem x_K.cls {g : x_G} {s : State} (h : x_K g s) {c : Nat} (hc : c < 9) : u_Kn s (x_cn c) (x_F c) (x_nf c) (g.1 c) (g.2.1 c) := by
  obtain ⟨s0, a0, h1, h2, h3, h4, h5, h6⟩ := h
  exact u_Kn_moved h4.alike (h5 c hc)
theorem x_K.arr {g : x_G} {s : State} (h : x_K g s) {e : Nat} (he : e < 7) : ArrOfT s (g.2.2.1 e) (x_et e) ∧ va_RA s (g.2.2.1 e) (x_et e) := by
  obtain ⟨s0, a0, h1, h2, h3, h4, h5, h6, h7⟩ := h
  exact ⟨arrOfT_moved h4.alike (h6 e he).1, (h6 e he).2.moved h4.alike⟩
/-- a steady word of the tables, wherever a method stands -/
theorem x_wd {g : x_G} {s : State} {args : Array Value} {w : Cond} (h : x_K g s) (hm : w ∈ lw_tbl) (hc : (w.onTables && w.keeps) = true) : w.before args s = true := by
  obtain ⟨s0, a0, h1, h2, h3, h4, h5⟩ := h
  exact word_at h4 (Or.inl hc) (h2 w hm)
theorem x_wdA {g : x_G} {s : State} {args : Array Value} {ty : FieldType} (h : x_K g s) (hm : Cond.arrayClass ty ∈ lw_tbl) : (Cond.arrayClass ty).before args s = true := by
  obtain ⟨s0, a0, h1, h2, h3, h4, h5⟩ := h
  exact word_at h4 (Or.inr ⟨ty, rfl⟩) (h2 _ hm)
theorem x_wdF {g : x_G} {s : State} {args : Array Value} {a b n d hs : String} {i : Nat} (h : x_K g s) (hm : Cond.fieldLinkNest a i b n d hs ∈ lw_tbl) : (Cond.fieldLinkNest a i b n d hs).before args s = true := by
  obtain ⟨s0, a0, h1, h2, h3, h4, h5⟩ := h
  exact va_Nw.use rfl (va_Nw.warmF h4 (va_Nw.of rfl (h2 _ hm)))
theorem x_wdM {g : x_G} {s : State} {args : Array Value} {a hs : String} {i : Nat} {y : MethodName} (h : x_K g s) (hm : Cond.methodLinkNest a i y hs ∈ lw_tbl) : (Cond.methodLinkNest a i y hs).before args s = true := by
  obtain ⟨s0, a0, h1, h2, h3, h4, h5⟩ := h
  exact va_Nw.use rfl (va_Nw.warmM h4 (va_Nw.of rfl (h2 _ hm)))
theorem x_wdI {g : x_G} {s : State} {C : String} {x y : MethodName} (h : x_K g s) (hx : x.cls ≠ "java/lang/invoke/MethodHandle" ∧ x.cls ≠ "java/lang/invoke/VarHandle")
    (m1 : Cond.declares x ∈ lw_tbl) (m2 : Cond.interfaceMethod x.cls x.cls x.name x.desc ∈ lw_tbl) (m3 : Cond.publicMethod y ∈ lw_tbl) (m4 : Cond.unhidden C x.name x.desc ∈ lw_tbl) (m5 : Cond.castable C x.cls ∈ lw_tbl) : va_Fw C x y s := by
  obtain ⟨s0, a0, h1, h2, h3, h4, h5⟩ := h
  exact (va_Fw.of (h2 _ m1) (h2 _ m2) (h2 _ m3) (h2 _ m4) (h2 _ m5)).moved hx h4.alike
/-- every word of a class's fields is in the tables, and is steady -/
theorem x_lin : ∀ c, c < 9 → ∀ k, k < x_nf c → u_lay (x_cn c) (x_F c) k ∈ lw_tbl := by decide +kernel
theorem x_lkeep (C : String) (T : u_T) (k : Nat) : ((u_lay C T k).onTables && (u_lay C T k).keeps) = true := by
  unfold u_lay
  split <;> rfl
theorem x_lay {g : x_G} {s : State} {args : Array Value} (h : x_K g s) {c : Nat} (hc : c < 9) : ∀ w ∈ u_ws (x_cn c) (x_F c) (x_nf c), w.before args s = true := by
  intro w hw
  obtain ⟨k, hk, rfl⟩ := List.mem_map.mp hw
  exact x_wd h (x_lin c hc k (List.mem_range.mp hk)) (x_lkeep _ _ _)
theorem x_nm : ∀ c, c < 9 → ∀ a, a < x_nf c → ∀ b, b < x_nf c → a ≠ b → (x_F c a).2.1 ≠ (x_F c b).2.1 := by decide +kernel
theorem x_ty : ∀ c, c < 9 → ∀ k, k < x_nf c → parseFieldDescriptor (x_F c k).2.2.1 = some (x_dt (x_F c k).2.2.1) := by decide +kernel
