section
-- ===== PART A: goes FIRST, ahead of the names: the tables' words, and 'selects' of the private methods out of them =====
/-- a private method of a class that the tables say can be made, by its rows of tables_1 -/
def lw_okq (q : MethodName × Nat) : Prop := (q.1.cls ≠ "java/lang/invoke/MethodHandle" ∧ q.1.cls ≠ "java/lang/invoke/VarHandle") ∧ Cond.instantiable q.1.cls q.2 ∈ tables_1 ∧ Cond.privateMethod q.1 ∈ tables_1 ∧ Cond.instanceMethod q.1 ∈ tables_1
theorem lw_p0 : lw_okq (⟨"ClauseSolver", "keep", "(II)I"⟩, 10) := ⟨⟨by decide +kernel, by decide +kernel⟩, List.mem_of_getElem? (i := 8) (by decide +kernel), List.mem_of_getElem? (i := 153) (by decide +kernel), List.mem_of_getElem? (i := 154) (by decide +kernel)⟩
theorem lw_p1 : lw_okq (⟨"ClauseSolver$Solver", "set", "(II)V"⟩, 23) := ⟨⟨by decide +kernel, by decide +kernel⟩, List.mem_of_getElem? (i := 16) (by decide +kernel), List.mem_of_getElem? (i := 194) (by decide +kernel), List.mem_of_getElem? (i := 195) (by decide +kernel)⟩
theorem lw_p2 : lw_okq (⟨"ClauseSolver$Solver", "keep", "(Z)I"⟩, 23) := ⟨⟨by decide +kernel, by decide +kernel⟩, List.mem_of_getElem? (i := 16) (by decide +kernel), List.mem_of_getElem? (i := 198) (by decide +kernel), List.mem_of_getElem? (i := 199) (by decide +kernel)⟩
theorem lw_p3 : lw_okq (⟨"ClauseSolver$Solver", "forget", "()V"⟩, 23) := ⟨⟨by decide +kernel, by decide +kernel⟩, List.mem_of_getElem? (i := 16) (by decide +kernel), List.mem_of_getElem? (i := 202) (by decide +kernel), List.mem_of_getElem? (i := 203) (by decide +kernel)⟩
theorem lw_p4 : lw_okq (⟨"ClauseSolver$Solver", "watchBest", "(II)V"⟩, 23) := ⟨⟨by decide +kernel, by decide +kernel⟩, List.mem_of_getElem? (i := 16) (by decide +kernel), List.mem_of_getElem? (i := 206) (by decide +kernel), List.mem_of_getElem? (i := 207) (by decide +kernel)⟩
theorem lw_p5 : lw_okq (⟨"ClauseSolver$Solver", "rank", "(I)I"⟩, 23) := ⟨⟨by decide +kernel, by decide +kernel⟩, List.mem_of_getElem? (i := 16) (by decide +kernel), List.mem_of_getElem? (i := 210) (by decide +kernel), List.mem_of_getElem? (i := 211) (by decide +kernel)⟩
theorem lw_p6 : lw_okq (⟨"ClauseSolver$Solver", "look", "(II)V"⟩, 23) := ⟨⟨by decide +kernel, by decide +kernel⟩, List.mem_of_getElem? (i := 16) (by decide +kernel), List.mem_of_getElem? (i := 214) (by decide +kernel), List.mem_of_getElem? (i := 215) (by decide +kernel)⟩
theorem lw_p7 : lw_okq (⟨"ClauseSolver$Solver", "settle", "()Z"⟩, 23) := ⟨⟨by decide +kernel, by decide +kernel⟩, List.mem_of_getElem? (i := 16) (by decide +kernel), List.mem_of_getElem? (i := 222) (by decide +kernel), List.mem_of_getElem? (i := 223) (by decide +kernel)⟩
theorem lw_p8 : lw_okq (⟨"ClauseSolver$Solver", "propagate", "()I"⟩, 23) := ⟨⟨by decide +kernel, by decide +kernel⟩, List.mem_of_getElem? (i := 16) (by decide +kernel), List.mem_of_getElem? (i := 226) (by decide +kernel), List.mem_of_getElem? (i := 227) (by decide +kernel)⟩
theorem lw_p9 : lw_okq (⟨"ClauseSolver$Solver", "rest", "(II)V"⟩, 23) := ⟨⟨by decide +kernel, by decide +kernel⟩, List.mem_of_getElem? (i := 16) (by decide +kernel), List.mem_of_getElem? (i := 230) (by decide +kernel), List.mem_of_getElem? (i := 231) (by decide +kernel)⟩
theorem lw_p10 : lw_okq (⟨"ClauseSolver$Solver", "learn", "(I)Z"⟩, 23) := ⟨⟨by decide +kernel, by decide +kernel⟩, List.mem_of_getElem? (i := 16) (by decide +kernel), List.mem_of_getElem? (i := 234) (by decide +kernel), List.mem_of_getElem? (i := 235) (by decide +kernel)⟩
theorem lw_p11 : lw_okq (⟨"ClauseSolver$Solver", "back", "(I)V"⟩, 23) := ⟨⟨by decide +kernel, by decide +kernel⟩, List.mem_of_getElem? (i := 16) (by decide +kernel), List.mem_of_getElem? (i := 239) (by decide +kernel), List.mem_of_getElem? (i := 240) (by decide +kernel)⟩
theorem lw_p12 : lw_okq (⟨"ClauseSolver$Solver", "open", "()I"⟩, 23) := ⟨⟨by decide +kernel, by decide +kernel⟩, List.mem_of_getElem? (i := 16) (by decide +kernel), List.mem_of_getElem? (i := 246) (by decide +kernel), List.mem_of_getElem? (i := 247) (by decide +kernel)⟩
theorem lw_p13 : lw_okq (⟨"ClauseSolverModel", "is", "(I)Z"⟩, 9) := ⟨⟨by decide +kernel, by decide +kernel⟩, List.mem_of_getElem? (i := 268) (by decide +kernel), List.mem_of_getElem? (i := 306) (by decide +kernel), List.mem_of_getElem? (i := 307) (by decide +kernel)⟩
theorem lw_p14 : lw_okq (⟨"ClauseSolverModel", "search", "(II)I"⟩, 9) := ⟨⟨by decide +kernel, by decide +kernel⟩, List.mem_of_getElem? (i := 268) (by decide +kernel), List.mem_of_getElem? (i := 334) (by decide +kernel), List.mem_of_getElem? (i := 335) (by decide +kernel)⟩
theorem lw_p15 : lw_okq (⟨"ClauseSolverModel", "holds", "(II)Z"⟩, 9) := ⟨⟨by decide +kernel, by decide +kernel⟩, List.mem_of_getElem? (i := 268) (by decide +kernel), List.mem_of_getElem? (i := 338) (by decide +kernel), List.mem_of_getElem? (i := 339) (by decide +kernel)⟩
def lw_privs_1 : List (MethodName × Nat) := [(⟨"ClauseSolver", "keep", "(II)I"⟩, 10), (⟨"ClauseSolver$Solver", "set", "(II)V"⟩, 23), (⟨"ClauseSolver$Solver", "keep", "(Z)I"⟩, 23), (⟨"ClauseSolver$Solver", "forget", "()V"⟩, 23), (⟨"ClauseSolver$Solver", "watchBest", "(II)V"⟩, 23), (⟨"ClauseSolver$Solver", "rank", "(I)I"⟩, 23), (⟨"ClauseSolver$Solver", "look", "(II)V"⟩, 23), (⟨"ClauseSolver$Solver", "settle", "()Z"⟩, 23), (⟨"ClauseSolver$Solver", "propagate", "()I"⟩, 23), (⟨"ClauseSolver$Solver", "rest", "(II)V"⟩, 23), (⟨"ClauseSolver$Solver", "learn", "(I)Z"⟩, 23), (⟨"ClauseSolver$Solver", "back", "(I)V"⟩, 23), (⟨"ClauseSolver$Solver", "open", "()I"⟩, 23), (⟨"ClauseSolverModel", "is", "(I)Z"⟩, 9), (⟨"ClauseSolverModel", "search", "(II)I"⟩, 9), (⟨"ClauseSolverModel", "holds", "(II)Z"⟩, 9)]
theorem lw_r1 : ∀ q ∈ lw_privs_1, lw_okq q := List.forall_mem_cons.mpr ⟨lw_p0, List.forall_mem_cons.mpr ⟨lw_p1, List.forall_mem_cons.mpr ⟨lw_p2, List.forall_mem_cons.mpr ⟨lw_p3, List.forall_mem_cons.mpr ⟨lw_p4, List.forall_mem_cons.mpr ⟨lw_p5, List.forall_mem_cons.mpr ⟨lw_p6, List.forall_mem_cons.mpr ⟨lw_p7, List.forall_mem_cons.mpr ⟨lw_p8, List.forall_mem_cons.mpr ⟨lw_p9, List.forall_mem_cons.mpr ⟨lw_p10, List.forall_mem_cons.mpr ⟨lw_p11, List.forall_mem_cons.mpr ⟨lw_p12, List.forall_mem_cons.mpr ⟨lw_p13, List.forall_mem_cons.mpr ⟨lw_p14, List.forall_mem_cons.mpr ⟨lw_p15, fun _ h => absurd h List.not_mem_nil⟩⟩⟩⟩⟩⟩⟩⟩⟩⟩⟩⟩⟩⟩⟩⟩
def lw_privs : List (MethodName × Nat) := lw_privs_1
def lw_tbl : List Cond := k2_sels lw_privs ++ tables_1
theorem lw_privs_ok : ∀ q ∈ lw_privs, lw_okq q := lw_r1
-- ===== end of PART A; then your names; then what follows =====
/-- the words of the tables that a call keeps -/
def tblG : List Cond := lw_tbl.filter goodWord
theorem tblG_in : ∀ w ∈ tblG, w ∈ lw_tbl := fun _ h => (List.mem_filter.mp h).1
theorem tblG_good : ∀ w ∈ tblG, goodWord w = true := fun _ h => (List.mem_filter.mp h).2
theorem good_sub {big : List Cond} (ws : List Cond) (h : ∀ w ∈ ws, w ∈ tblG) (hb : ∀ w ∈ tblG, w ∈ big) : GoodIn big ws := fun w hw => ⟨hb w (h w hw), good_of_word (tblG_good w (h w hw))⟩
-- NAMES: the classes, their fields
def R_law : String := "ClauseSolverLaw"
def R_Sv : String := "ClauseSolver$Solver"
def F_Sv : u_T := fun k => match k with
  | 0 => ("ClauseSolver$Solver", "variables", "I", false)
  | 1 => ("ClauseSolver$Solver", "wish", "[Z", true)
  | 2 => ("ClauseSolver$Solver", "literal", "[I", true)
  | 3 => ("ClauseSolver$Solver", "start", "[I", true)
  | 4 => ("ClauseSolver$Solver", "next", "[I", true)
  | 5 => ("ClauseSolver$Solver", "taught", "[Z", true)
  | 6 => ("ClauseSolver$Solver", "clauses", "I", false)
  | 7 => ("ClauseSolver$Solver", "literals", "I", false)
  | 8 => ("ClauseSolver$Solver", "lessons", "I", false)
  | 9 => ("ClauseSolver$Solver", "stays", "[I", true)
  | 10 => ("ClauseSolver$Solver", "watch", "[I", true)
  | 11 => ("ClauseSolver$Solver", "value", "[I", true)
  | 12 => ("ClauseSolver$Solver", "level", "[I", true)
  | 13 => ("ClauseSolver$Solver", "reason", "[I", true)
  | 14 => ("ClauseSolver$Solver", "trail", "[I", true)
  | 15 => ("ClauseSolver$Solver", "begins", "[I", true)
  | 16 => ("ClauseSolver$Solver", "many", "I", false)
  | 17 => ("ClauseSolver$Solver", "levels", "I", false)
  | 18 => ("ClauseSolver$Solver", "done", "I", false)
  | 19 => ("ClauseSolver$Solver", "dead", "Z", false)
  | 20 => ("ClauseSolver$Solver", "made", "[I", true)
  | 21 => ("ClauseSolver$Solver", "madeMany", "I", false)
  | _ => ("ClauseSolver$Solver", "marked", "[Z", true)
def t_Sv : Nat → FieldType := fun k => match k with
  | 0 => .int | 1 => .array .boolean | 2 => .array .int | 3 => .array .int | 4 => .array .int | 5 => .array .boolean
  | 6 => .int | 7 => .int | 8 => .int | 9 => .array .int | 10 => .array .int | 11 => .array .int | 12 => .array .int | 13 => .array .int
  | 14 => .array .int | 15 => .array .int | 16 => .int | 17 => .int | 18 => .int | 19 => .boolean | 20 => .array .int | 21 => .int
  | _ => .array .boolean
def R_Ou : String := "ClauseSolver"
def F_Ou : u_T := fun k => match k with
  | 0 => ("ClauseSolver", "solver", "LClauseSolver$Solver;", true)
  | 1 => ("ClauseSolver", "yes", "[I", true)
  | 2 => ("ClauseSolver", "no", "[I", true)
  | 3 => ("ClauseSolver", "clauses", "I", false)
  | 4 => ("ClauseSolver", "yesMade", "I", false)
  | 5 => ("ClauseSolver", "noMade", "I", false)
  | 6 => ("ClauseSolver", "variables", "I", false)
  | 7 => ("ClauseSolver", "wish", "[Z", true)
  | 8 => ("ClauseSolver", "known", "Z", false)
  | _ => ("ClauseSolver", "found", "Z", false)
def t_Ou : Nat → FieldType := fun k => match k with
  | 0 => .object "ClauseSolver$Solver" | 1 => .array .int | 2 => .array .int | 3 => .int | 4 => .int | 5 => .int | 6 => .int | 7 => .array .boolean | 8 => .boolean
  | _ => .boolean
def R_Mo : String := "ClauseSolverModel"
def F_Mo : u_T := fun k => match k with
  | 0 => ("ClauseSolverModel", "variables", "I", true)
  | 1 => ("ClauseSolverModel", "wish", "[Z", true)
  | 2 => ("ClauseSolverModel", "yes", "[I", true)
  | 3 => ("ClauseSolverModel", "no", "[I", true)
  | 4 => ("ClauseSolverModel", "count", "I", false)
  | 5 => ("ClauseSolverModel", "ownYes", "I", false)
  | 6 => ("ClauseSolverModel", "ownNo", "I", false)
  | 7 => ("ClauseSolverModel", "found", "I", false)
  | _ => ("ClauseSolverModel", "known", "Z", false)
def t_Mo : Nat → FieldType := fun k => match k with
  | 0 => .int | 1 => .array .boolean | 2 => .array .int | 3 => .array .int | 4 => .int | 5 => .int | 6 => .int | 7 => .int
  | _ => .boolean
abbrev classes : List vw_C := [(R_Sv, F_Sv, 23), (R_Ou, F_Ou, 10), (R_Mo, F_Mo, 9)]
theorem n_Sv : ∀ a, a < 23 → ∀ b, b < 23 → a ≠ b → (F_Sv a).2.1 ≠ (F_Sv b).2.1 := by decide +kernel
theorem t_Sv_ok : ∀ k, k < 23 → parseFieldDescriptor (F_Sv k).2.2.1 = some (t_Sv k) := by decide +kernel
theorem n_Ou : ∀ a, a < 10 → ∀ b, b < 10 → a ≠ b → (F_Ou a).2.1 ≠ (F_Ou b).2.1 := by decide +kernel
theorem t_Ou_ok : ∀ k, k < 10 → parseFieldDescriptor (F_Ou k).2.2.1 = some (t_Ou k) := by decide +kernel
theorem n_Mo : ∀ a, a < 9 → ∀ b, b < 9 → a ≠ b → (F_Mo a).2.1 ≠ (F_Mo b).2.1 := by decide +kernel
theorem t_Mo_ok : ∀ k, k < 9 → parseFieldDescriptor (F_Mo k).2.2.1 = some (t_Mo k) := by decide +kernel
set_option maxRecDepth 20000 in
theorem i_Sv : ∀ w ∈ u_ws R_Sv F_Sv 23, w ∈ tblG := by decide +kernel
set_option maxRecDepth 20000 in
theorem i_Ou : ∀ w ∈ u_ws R_Ou F_Ou 10, w ∈ tblG := by decide +kernel
set_option maxRecDepth 20000 in
theorem i_Mo : ∀ w ∈ u_ws R_Mo F_Mo 9, w ∈ tblG := by decide +kernel
/-- where a class's own file names its fields -/
def ix_Sv : Nat → Nat := fun k => match k with
  | 0 => 55 | 1 => 11 | 2 => 15 | 3 => 19 | 4 => 22 | 5 => 25 | 6 => 59 | 7 => 62 | 8 => 65 | 9 => 28 | 10 => 31 | 11 => 34 | 12 => 37 | 13 => 40
  | 14 => 43 | 15 => 46 | 16 => 68 | 17 => 71 | 18 => 74 | 19 => 77 | 20 => 49 | 21 => 81 | _ => 52
def ix_Ou : Nat → Nat := fun k => match k with
  | 0 => 10 | 1 => 16 | 2 => 20 | 3 => 60 | 4 => 48 | 5 => 51 | 6 => 36 | 7 => 23 | 8 => 44 | _ => 66
def ix_Mo : Nat → Nat := fun k => match k with
  | 0 => 20 | 1 => 7 | 2 => 13 | 3 => 17 | 4 => 42 | 5 => 32 | 6 => 35 | 7 => 56 | _ => 28
set_option maxRecDepth 20000 in
theorem k_Sv : ∀ k, k < 23 → Cond.fieldLink R_Sv (ix_Sv k) (F_Sv k).1 (F_Sv k).2.1 (F_Sv k).2.2.1 ∈ tblG := by decide +kernel
set_option maxRecDepth 20000 in
theorem k_Ou : ∀ k, k < 10 → Cond.fieldLink R_Ou (ix_Ou k) (F_Ou k).1 (F_Ou k).2.1 (F_Ou k).2.2.1 ∈ tblG := by decide +kernel
set_option maxRecDepth 20000 in
theorem k_Mo : ∀ k, k < 9 → Cond.fieldLink R_Mo (ix_Mo k) (F_Mo k).1 (F_Mo k).2.1 (F_Mo k).2.2.1 ∈ tblG := by decide +kernel
end
section
/-! whole numbers as Java's ints; the judgement J: the machine at a place of a method's body, over a picture of its cells -/
def jI (x : Int) : Int32 := Int32.ofInt x
abbrev jv (x : Int) : Value := .int (jI x)
def rg (x : Int) : Prop := -2147483648 ≤ x ∧ x < 2147483648
theorem jI_toInt {x : Int} (h : rg x) : (jI x).toInt = x := Int32.toInt_ofInt_of_le (by have := h.1; omega) (by have := h.2; omega)
theorem jI_add (a b : Int) : jI a + jI b = jI (a + b) := (Int32.ofInt_add a b).symm
theorem jI_sub (a b : Int) : jI a - jI b = jI (a - b) := (Int32.ofInt_sub a b).symm
theorem jI_mul (a b : Int) : jI a * jI b = jI (a * b) := (Int32.ofInt_mul a b).symm
theorem jI_neg (a : Int) : - jI a = jI (-a) := (Int32.ofInt_neg a).symm
theorem jI_lt {a b : Int} (ha : rg a) (hb : rg b) : jI a < jI b ↔ a < b := by rw [Int32.lt_iff_toInt_lt, jI_toInt ha, jI_toInt hb]
theorem jI_le {a b : Int} (ha : rg a) (hb : rg b) : jI a ≤ jI b ↔ a ≤ b := by rw [Int32.le_iff_toInt_le, jI_toInt ha, jI_toInt hb]
theorem jI_eq {a b : Int} (ha : rg a) (hb : rg b) : jI a = jI b ↔ a = b := ⟨fun h => by have := congrArg Int32.toInt h; rwa [jI_toInt ha, jI_toInt hb] at this, fun h => by rw [h]⟩
theorem rg0 : rg 0 := by unfold rg; omega
theorem jI_0 : jI 0 = 0 := rfl
theorem jI_in {x : Int} {n : Nat} (h0 : 0 ≤ x) (h : x < n) (hn : n < 2147483648) : vp_in (jI x) n := by
  have : rg x := ⟨by omega, by omega⟩
  exact vp_in_iff.mpr (by rw [jI_toInt this]; exact ⟨h0, h⟩)
theorem jI_cl {x : Int} (h0 : 0 ≤ x) (h : x < 2147483648) : (jI x).toNatClampNeg = x.toNat := by
  have : rg x := ⟨by omega, by omega⟩
  show (jI x).toInt.toNat = _
  rw [jI_toInt this]
/-- the context of a method's body: machine, launch, environment, room, the state at its start, itself, its arguments, the frames below, its code, the classes' numbers, the arrays' classes, the cells that it may change, cells and slots made, its end, its locals -/
abbrev Cx : Type := Program × Launch × Env × Room × State × MethodId × Array Value × List Frame × Method × Code × va_G × List (ClassId × FieldType) × (Nat → Prop) × Nat × Nat × (State → Prop) × Nat
abbrev xp (K : Cx) : Program := K.1
abbrev xl (K : Cx) : Launch := K.2.1
abbrev xe (K : Cx) : Env := K.2.2.1
abbrev xR (K : Cx) : Room := K.2.2.2.1
abbrev xs (K : Cx) : State := K.2.2.2.2.1
abbrev xm (K : Cx) : MethodId := K.2.2.2.2.2.1
abbrev xa (K : Cx) : Array Value := K.2.2.2.2.2.2.1
abbrev xb (K : Cx) : List Frame := K.2.2.2.2.2.2.2.1
abbrev xM (K : Cx) : Method := K.2.2.2.2.2.2.2.2.1
abbrev xc (K : Cx) : Code := K.2.2.2.2.2.2.2.2.2.1
abbrev xD (K : Cx) : va_G := K.2.2.2.2.2.2.2.2.2.2.1
abbrev xt (K : Cx) : List (ClassId × FieldType) := K.2.2.2.2.2.2.2.2.2.2.2.1
abbrev xA (K : Cx) : Nat → Prop := K.2.2.2.2.2.2.2.2.2.2.2.2.1
abbrev xn (K : Cx) : Nat := K.2.2.2.2.2.2.2.2.2.2.2.2.2.1
abbrev xk (K : Cx) : Nat := K.2.2.2.2.2.2.2.2.2.2.2.2.2.2.1
abbrev xQ (K : Cx) : State → Prop := K.2.2.2.2.2.2.2.2.2.2.2.2.2.2.2.1
abbrev xL (K : Cx) : Nat := K.2.2.2.2.2.2.2.2.2.2.2.2.2.2.2.2
def J (K : Cx) (ws : va_W) (pc : Nat) (lv : List (Nat × Value)) (st : List Value) : Prop :=
  ∀ (H : Heap) (locs : List Loc) (ls : Array Slot), va_P (xD K) classes ws H → va_D (xA K) ws → va_S (xA K) (xs K).heap H locs → lv_has ls (xL K) lv → W (xp K) (xl K) (xe K) (xR K) (xs K) (xm K) (xa K) (xb K) (xM K) (xc K) H locs (xn K) (xk K) (xQ K) (F0 (xm K) pc ls st)
/-- what a body's context gives: own class, own code -/
def Ok (K : Cx) (own : String) (cc : ByteArray) : Prop :=
  (xp K).tables.exec = Jvm.exec ∧ (xc K).code = cc ∧ (xc K).maxLocals = xL K ∧ (xs K).vm.findClass own = some (xm K).cls ∧ (∀ w ∈ tblG, w.before (xa K) (xs K) = true) ∧ va_K (xD K) classes (xt K) (xs K) ∧ (xM K).locks = false ∧ ∀ q : Nat, (xs K).heap.size ≤ q → xA K q
section ROWS
variable {K : Cx} {own : String} {cc : ByteArray} {ws : va_W} {pc : Nat} {lv : List (Nat × Value)} {st : List Value}
theorem j_iconst (C : Ok K own cc) {n : Int} (hd : decode cc pc = .ok (.iconst n, 1)) (kk : J K ws (pc + 1) lv (jv n :: st)) : J K ws pc lv st := fun H locs ls hP hD hS hl => lv_iconst (v := jI n) C.1 C.2.1 hd rfl (kk H locs ls hP hD hS hl)
theorem j_bipush (C : Ok K own cc) {n : Int} (hd : decode cc pc = .ok (.bipush n, 2)) (hv : (Int8.ofInt n).toInt32 = jI n) (kk : J K ws (pc + 2) lv (jv n :: st)) : J K ws pc lv st := fun H locs ls hP hD hS hl => lv_bipush (v := jI n) C.1 C.2.1 hd hv (kk H locs ls hP hD hS hl)
theorem j_sipush (C : Ok K own cc) {n : Int} (hd : decode cc pc = .ok (.sipush n, 3)) (hv : (Int16.ofInt n).toInt32 = jI n) (kk : J K ws (pc + 3) lv (jv n :: st)) : J K ws pc lv st := fun H locs ls hP hD hS hl => lv_sipush (v := jI n) C.1 C.2.1 hd hv (kk H locs ls hP hD hS hl)
theorem j_iload_n (C : Ok K own cc) {k : Fin 4} {i : Nat} {x : Int32} (j : Nat) (hd : decode cc pc = .ok (.iload_n k, 1)) (hi : (k : Nat) = i) (hj : lv[j]? = some (i, .int x)) (kk : J K ws (pc + 1) lv (.int x :: st)) : J K ws pc lv st := fun H locs ls hP hD hS hl => lv_iload_n C.1 C.2.1 hd hi (lv_at hl j hj) (kk H locs ls hP hD hS hl)
theorem j_iload (C : Ok K own cc) {i : Nat} {x : Int32} (j : Nat) (hd : decode cc pc = .ok (.iload i, 2)) (hj : lv[j]? = some (i, .int x)) (kk : J K ws (pc + 2) lv (.int x :: st)) : J K ws pc lv st := fun H locs ls hP hD hS hl => lv_iload C.1 C.2.1 hd (lv_at hl j hj) (kk H locs ls hP hD hS hl)
theorem j_aload_n (C : Ok K own cc) {k : Fin 4} {i : Nat} {x : Nat} (j : Nat) (hd : decode cc pc = .ok (.aload_n k, 1)) (hi : (k : Nat) = i) (hj : lv[j]? = some (i, .ref x)) (kk : J K ws (pc + 1) lv (.ref x :: st)) : J K ws pc lv st := fun H locs ls hP hD hS hl => lv_aload_n C.1 C.2.1 hd hi (lv_at hl j hj) (kk H locs ls hP hD hS hl)
/-- a local is written: its place in the list, or the list's end -/
def lvset : List (Nat × Value) → Nat → Value → List (Nat × Value)
  | [], i, v => [(i, v)]
  | q :: r, i, v => if q.1 = i then (i, v) :: r else q :: lvset r i v
theorem lvset_mem {i : Nat} {v : Value} : ∀ (l : List (Nat × Value)), (l.map (·.1)).Nodup → ∀ q, q ∈ lvset l i v → q = (i, v) ∨ (q ∈ l ∧ q.1 ≠ i)
  | [], _, q, h => Or.inl (by simpa [lvset] using h)
  | a :: r, hn, q, h => by
    have hn' : (r.map (·.1)).Nodup := (List.nodup_cons.mp hn).2
    have ha : a.1 ∉ r.map (·.1) := (List.nodup_cons.mp hn).1
    by_cases e : a.1 = i
    · simp only [lvset, if_pos e] at h
      rcases List.mem_cons.mp h with h | h
      · exact Or.inl h
      · exact Or.inr ⟨List.mem_cons_of_mem _ h, fun z => ha (by rw [e, ← z]; exact List.mem_map.mpr ⟨q, h, rfl⟩)⟩
    · simp only [lvset, if_neg e] at h
      rcases List.mem_cons.mp h with h | h
      · exact Or.inr ⟨by rw [h]; exact List.mem_cons_self, by rw [h]; exact e⟩
      · rcases lvset_mem r hn' q h with h1 | h1
        · exact Or.inl h1
        · exact Or.inr ⟨List.mem_cons_of_mem _ h1.1, h1.2⟩
theorem lvset_has {ls : Array Slot} {nL i : Nat} {v : Value} {lv lv' : List (Nat × Value)} (h : lv_has ls nL ((i, v) :: lv.filter (fun q => !(q.1 == i) && !(q.1 + 1 == i && q.2.category == 2)))) (h1 : ∀ q ∈ lv, q.2.category = 1) (hn : (lv.map (·.1)).Nodup) (e : lvset lv i v = lv') : lv_has ls nL lv' := by
  refine ⟨h.1, h.2.1, fun q hq => ?_⟩
  rw [← e] at hq
  rcases lvset_mem lv hn q hq with hq | hq
  · rw [hq]; exact h.2.2 _ List.mem_cons_self
  · refine h.2.2 q (List.mem_cons_of_mem _ (List.mem_filter.mpr ⟨hq.1, ?_⟩))
    have := h1 q hq.1
    simp [hq.2, this]
/-- the locals' list is plain: one row a local, none of two words -/
def lvok (lv : List (Nat × Value)) : Bool := lv.all (fun q => q.2.category == 1) && decide ((lv.map (·.1)).Nodup)
theorem lvok_1 {lv : List (Nat × Value)} (h : lvok lv = true) : ∀ q ∈ lv, q.2.category = 1 := by
  simp only [lvok, Bool.and_eq_true, List.all_eq_true, beq_iff_eq] at h
  exact h.1
theorem lvok_2 {lv : List (Nat × Value)} (h : lvok lv = true) : (lv.map (·.1)).Nodup := by
  simp only [lvok, Bool.and_eq_true, decide_eq_true_eq] at h
  exact h.2
theorem j_istore_n (C : Ok K own cc) {k : Fin 4} {i : Nat} {x : Int32} {lv' : List (Nat × Value)} (hd : decode cc pc = .ok (.istore_n k, 1)) (hi : (k : Nat) = i) (hn : i < xL K) (ho : lvok lv = true) (hl' : lvset lv i (.int x) = lv') (kk : J K ws (pc + 1) lv' st) : J K ws pc lv (.int x :: st) := fun H locs ls hP hD hS hl => lv_istore_n C.1 C.2.1 hd hi hl hn rfl (fun ls' h' => kk H locs ls' hP hD hS (lvset_has h' (lvok_1 ho) (lvok_2 ho) hl'))
theorem j_istore (C : Ok K own cc) {i : Nat} {x : Int32} {lv' : List (Nat × Value)} (hd : decode cc pc = .ok (.istore i, 2)) (hn : i < xL K) (ho : lvok lv = true) (hl' : lvset lv i (.int x) = lv') (kk : J K ws (pc + 2) lv' st) : J K ws pc lv (.int x :: st) := fun H locs ls hP hD hS hl => lv_istore C.1 C.2.1 hd hl hn rfl (fun ls' h' => kk H locs ls' hP hD hS (lvset_has h' (lvok_1 ho) (lvok_2 ho) hl'))
theorem j_iinc (C : Ok K own cc) {i : Nat} {n x : Int} {lv' : List (Nat × Value)} (j : Nat) (hd : decode cc pc = .ok (.iinc i n, 3)) (hj : lv[j]? = some (i, jv x)) (hn : i < xL K) (ho : lvok lv = true) (hl' : lvset lv i (jv (x + n)) = lv') (kk : J K ws (pc + 3) lv' st) : J K ws pc lv st := fun H locs ls hP hD hS hl => lv_iinc (v := jI (x + n)) C.1 C.2.1 hd hl hj (jI_add x n) hn rfl (fun ls' h' => kk H locs ls' hP hD hS (lvset_has h' (lvok_1 ho) (lvok_2 ho) hl'))
theorem j_iadd (C : Ok K own cc) {x y : Int} (hd : decode cc pc = .ok (.iadd, 1)) (kk : J K ws (pc + 1) lv (jv (x + y) :: st)) : J K ws pc lv (jv y :: jv x :: st) := fun H locs ls hP hD hS hl => lv_iadd C.1 C.2.1 hd (by rw [jI_add]; exact kk H locs ls hP hD hS hl)
theorem j_isub (C : Ok K own cc) {x y : Int} (hd : decode cc pc = .ok (.isub, 1)) (kk : J K ws (pc + 1) lv (jv (x - y) :: st)) : J K ws pc lv (jv y :: jv x :: st) := fun H locs ls hP hD hS hl => lv_isub C.1 C.2.1 hd (by rw [jI_sub]; exact kk H locs ls hP hD hS hl)
theorem j_imul (C : Ok K own cc) {x y : Int} (hd : decode cc pc = .ok (.imul, 1)) (kk : J K ws (pc + 1) lv (jv (x * y) :: st)) : J K ws pc lv (jv y :: jv x :: st) := fun H locs ls hP hD hS hl => lv_imul C.1 C.2.1 hd (by rw [jI_mul]; exact kk H locs ls hP hD hS hl)
theorem j_ineg (C : Ok K own cc) {x : Int} (hd : decode cc pc = .ok (.ineg, 1)) (kk : J K ws (pc + 1) lv (jv (-x) :: st)) : J K ws pc lv (jv x :: st) := fun H locs ls hP hD hS hl => lv_ineg C.1 C.2.1 hd (by rw [jI_neg]; exact kk H locs ls hP hD hS hl)
/-- other arithmetic: the result, said in whole numbers -/
theorem j_iand (C : Ok K own cc) {x y z : Int} (hd : decode cc pc = .ok (.iand, 1)) (hz : jI x &&& jI y = jI z) (kk : J K ws (pc + 1) lv (jv z :: st)) : J K ws pc lv (jv y :: jv x :: st) := fun H locs ls hP hD hS hl => lv_iand C.1 C.2.1 hd (by rw [hz]; exact kk H locs ls hP hD hS hl)
theorem j_ior (C : Ok K own cc) {x y z : Int} (hd : decode cc pc = .ok (.ior, 1)) (hz : jI x ||| jI y = jI z) (kk : J K ws (pc + 1) lv (jv z :: st)) : J K ws pc lv (jv y :: jv x :: st) := fun H locs ls hP hD hS hl => lv_ior C.1 C.2.1 hd (by rw [hz]; exact kk H locs ls hP hD hS hl)
theorem j_ixor (C : Ok K own cc) {x y z : Int} (hd : decode cc pc = .ok (.ixor, 1)) (hz : jI x ^^^ jI y = jI z) (kk : J K ws (pc + 1) lv (jv z :: st)) : J K ws pc lv (jv y :: jv x :: st) := fun H locs ls hP hD hS hl => lv_ixor C.1 C.2.1 hd (by rw [hz]; exact kk H locs ls hP hD hS hl)
theorem j_ishr (C : Ok K own cc) {x y z : Int} (hd : decode cc pc = .ok (.ishr, 1)) (hz : jI x >>> (jI y &&& 31) = jI z) (kk : J K ws (pc + 1) lv (jv z :: st)) : J K ws pc lv (jv y :: jv x :: st) := fun H locs ls hP hD hS hl => lv_ishr C.1 C.2.1 hd (by rw [hz]; exact kk H locs ls hP hD hS hl)
theorem j_ishl (C : Ok K own cc) {x y z : Int} (hd : decode cc pc = .ok (.ishl, 1)) (hz : jI x <<< (jI y &&& 31) = jI z) (kk : J K ws (pc + 1) lv (jv z :: st)) : J K ws pc lv (jv y :: jv x :: st) := fun H locs ls hP hD hS hl => lv_ishl C.1 C.2.1 hd (by rw [hz]; exact kk H locs ls hP hD hS hl)
theorem j_dup (C : Ok K own cc) {v : Value} (hd : decode cc pc = .ok (.dup, 1)) (hv : v.category = 1) (kk : J K ws (pc + 1) lv (v :: v :: st)) : J K ws pc lv (v :: st) := fun H locs ls hP hD hS hl => lv_dup C.1 C.2.1 hd hv (kk H locs ls hP hD hS hl)
theorem j_pop (C : Ok K own cc) {v : Value} (hd : decode cc pc = .ok (.pop, 1)) (hv : v.category = 1) (kk : J K ws (pc + 1) lv st) : J K ws pc lv (v :: st) := fun H locs ls hP hD hS hl => lv_pop C.1 C.2.1 hd hv (kk H locs ls hP hD hS hl)
theorem j_dup_x1 (C : Ok K own cc) {v w : Value} (hd : decode cc pc = .ok (.dup_x1, 1)) (hv : v.category = 1) (hw : w.category = 1) (kk : J K ws (pc + 1) lv (v :: w :: v :: st)) : J K ws pc lv (v :: w :: st) := fun H locs ls hP hD hS hl => lv_dup_x1 C.1 C.2.1 hd hv hw (kk H locs ls hP hD hS hl)
theorem j_goto (C : Ok K own cc) {off : Int} {tgt : Nat} (hd : decode cc pc = .ok (.goto off, 3)) (ht : (pc : Int) + off = (tgt : Int)) (kk : J K ws tgt lv st) : J K ws pc lv st := fun H locs ls hP hD hS hl => lv_goto C.1 C.2.1 hd ht (kk H locs ls hP hD hS hl)
theorem j_top {x : Int} (kk : ∀ y, y = x → J K ws pc lv (jv y :: st)) : J K ws pc lv (jv x :: st) := kk x rfl
theorem j_if_eq (C : Ok K own cc) {x : Int} {off : Int} {tgt : Nat} (hd : decode cc pc = .ok (.ifCond .eq off, 3)) (ht : (pc : Int) + off = (tgt : Int)) (hx : rg x) (kt : x = 0 → J K ws tgt lv st) (kf : ¬ x = 0 → J K ws (pc + 3) lv st) : J K ws pc lv (jv x :: st) := fun H locs ls hP hD hS hl => lv_if_eq C.1 C.2.1 hd ht (fun h => kt ((jI_eq hx rg0).mp h) H locs ls hP hD hS hl) (fun h => kf (fun q => h ((jI_eq hx rg0).mpr q)) H locs ls hP hD hS hl)
theorem j_if_ne (C : Ok K own cc) {x : Int} {off : Int} {tgt : Nat} (hd : decode cc pc = .ok (.ifCond .ne off, 3)) (ht : (pc : Int) + off = (tgt : Int)) (hx : rg x) (kt : ¬ x = 0 → J K ws tgt lv st) (kf : x = 0 → J K ws (pc + 3) lv st) : J K ws pc lv (jv x :: st) := fun H locs ls hP hD hS hl => lv_if_ne C.1 C.2.1 hd ht (fun h => kt (fun q => h ((jI_eq hx rg0).mpr q)) H locs ls hP hD hS hl) (fun h => kf ((jI_eq hx rg0).mp h) H locs ls hP hD hS hl)
theorem j_if_lt (C : Ok K own cc) {x : Int} {off : Int} {tgt : Nat} (hd : decode cc pc = .ok (.ifCond .lt off, 3)) (ht : (pc : Int) + off = (tgt : Int)) (hx : rg x) (kt : x < 0 → J K ws tgt lv st) (kf : ¬ x < 0 → J K ws (pc + 3) lv st) : J K ws pc lv (jv x :: st) := fun H locs ls hP hD hS hl => lv_if_lt C.1 C.2.1 hd ht (fun h => kt ((jI_lt hx rg0).mp h) H locs ls hP hD hS hl) (fun h => kf (fun q => h ((jI_lt hx rg0).mpr q)) H locs ls hP hD hS hl)
theorem j_if_ge (C : Ok K own cc) {x : Int} {off : Int} {tgt : Nat} (hd : decode cc pc = .ok (.ifCond .ge off, 3)) (ht : (pc : Int) + off = (tgt : Int)) (hx : rg x) (kt : 0 ≤ x → J K ws tgt lv st) (kf : ¬ 0 ≤ x → J K ws (pc + 3) lv st) : J K ws pc lv (jv x :: st) := fun H locs ls hP hD hS hl => lv_if_ge C.1 C.2.1 hd ht (fun h => kt ((jI_le rg0 hx).mp h) H locs ls hP hD hS hl) (fun h => kf (fun q => h ((jI_le rg0 hx).mpr q)) H locs ls hP hD hS hl)
theorem j_if_gt (C : Ok K own cc) {x : Int} {off : Int} {tgt : Nat} (hd : decode cc pc = .ok (.ifCond .gt off, 3)) (ht : (pc : Int) + off = (tgt : Int)) (hx : rg x) (kt : 0 < x → J K ws tgt lv st) (kf : ¬ 0 < x → J K ws (pc + 3) lv st) : J K ws pc lv (jv x :: st) := fun H locs ls hP hD hS hl => lv_if_gt C.1 C.2.1 hd ht (fun h => kt ((jI_lt rg0 hx).mp h) H locs ls hP hD hS hl) (fun h => kf (fun q => h ((jI_lt rg0 hx).mpr q)) H locs ls hP hD hS hl)
theorem j_if_le (C : Ok K own cc) {x : Int} {off : Int} {tgt : Nat} (hd : decode cc pc = .ok (.ifCond .le off, 3)) (ht : (pc : Int) + off = (tgt : Int)) (hx : rg x) (kt : x ≤ 0 → J K ws tgt lv st) (kf : ¬ x ≤ 0 → J K ws (pc + 3) lv st) : J K ws pc lv (jv x :: st) := fun H locs ls hP hD hS hl => lv_if_le C.1 C.2.1 hd ht (fun h => kt ((jI_le hx rg0).mp h) H locs ls hP hD hS hl) (fun h => kf (fun q => h ((jI_le hx rg0).mpr q)) H locs ls hP hD hS hl)
theorem j_icmp_eq (C : Ok K own cc) {x y : Int} {off : Int} {tgt : Nat} (hd : decode cc pc = .ok (.if_icmp .eq off, 3)) (ht : (pc : Int) + off = (tgt : Int)) (hx : rg x) (hy : rg y) (kt : x = y → J K ws tgt lv st) (kf : ¬ x = y → J K ws (pc + 3) lv st) : J K ws pc lv (jv y :: jv x :: st) := fun H locs ls hP hD hS hl => lv_icmp_eq C.1 C.2.1 hd ht (fun h => kt ((jI_eq hx hy).mp h) H locs ls hP hD hS hl) (fun h => kf (fun q => h ((jI_eq hx hy).mpr q)) H locs ls hP hD hS hl)
theorem j_icmp_ne (C : Ok K own cc) {x y : Int} {off : Int} {tgt : Nat} (hd : decode cc pc = .ok (.if_icmp .ne off, 3)) (ht : (pc : Int) + off = (tgt : Int)) (hx : rg x) (hy : rg y) (kt : ¬ x = y → J K ws tgt lv st) (kf : x = y → J K ws (pc + 3) lv st) : J K ws pc lv (jv y :: jv x :: st) := fun H locs ls hP hD hS hl => lv_icmp_ne C.1 C.2.1 hd ht (fun h => kt (fun q => h ((jI_eq hx hy).mpr q)) H locs ls hP hD hS hl) (fun h => kf ((jI_eq hx hy).mp h) H locs ls hP hD hS hl)
theorem j_icmp_lt (C : Ok K own cc) {x y : Int} {off : Int} {tgt : Nat} (hd : decode cc pc = .ok (.if_icmp .lt off, 3)) (ht : (pc : Int) + off = (tgt : Int)) (hx : rg x) (hy : rg y) (kt : x < y → J K ws tgt lv st) (kf : ¬ x < y → J K ws (pc + 3) lv st) : J K ws pc lv (jv y :: jv x :: st) := fun H locs ls hP hD hS hl => lv_icmp_lt C.1 C.2.1 hd ht (fun h => kt ((jI_lt hx hy).mp h) H locs ls hP hD hS hl) (fun h => kf (fun q => h ((jI_lt hx hy).mpr q)) H locs ls hP hD hS hl)
theorem j_icmp_ge (C : Ok K own cc) {x y : Int} {off : Int} {tgt : Nat} (hd : decode cc pc = .ok (.if_icmp .ge off, 3)) (ht : (pc : Int) + off = (tgt : Int)) (hx : rg x) (hy : rg y) (kt : y ≤ x → J K ws tgt lv st) (kf : ¬ y ≤ x → J K ws (pc + 3) lv st) : J K ws pc lv (jv y :: jv x :: st) := fun H locs ls hP hD hS hl => lv_icmp_ge C.1 C.2.1 hd ht (fun h => kt ((jI_le hy hx).mp h) H locs ls hP hD hS hl) (fun h => kf (fun q => h ((jI_le hy hx).mpr q)) H locs ls hP hD hS hl)
theorem j_icmp_gt (C : Ok K own cc) {x y : Int} {off : Int} {tgt : Nat} (hd : decode cc pc = .ok (.if_icmp .gt off, 3)) (ht : (pc : Int) + off = (tgt : Int)) (hx : rg x) (hy : rg y) (kt : y < x → J K ws tgt lv st) (kf : ¬ y < x → J K ws (pc + 3) lv st) : J K ws pc lv (jv y :: jv x :: st) := fun H locs ls hP hD hS hl => lv_icmp_gt C.1 C.2.1 hd ht (fun h => kt ((jI_lt hy hx).mp h) H locs ls hP hD hS hl) (fun h => kf (fun q => h ((jI_lt hy hx).mpr q)) H locs ls hP hD hS hl)
theorem j_icmp_le (C : Ok K own cc) {x y : Int} {off : Int} {tgt : Nat} (hd : decode cc pc = .ok (.if_icmp .le off, 3)) (ht : (pc : Int) + off = (tgt : Int)) (hx : rg x) (hy : rg y) (kt : x ≤ y → J K ws tgt lv st) (kf : ¬ x ≤ y → J K ws (pc + 3) lv st) : J K ws pc lv (jv y :: jv x :: st) := fun H locs ls hP hD hS hl => lv_icmp_le C.1 C.2.1 hd ht (fun h => kt ((jI_le hx hy).mp h) H locs ls hP hD hS hl) (fun h => kf (fun q => h ((jI_le hx hy).mpr q)) H locs ls hP hD hS hl)
end ROWS
end
section
/-! an object with its arrays: its picture S (field, index) of whole numbers; rows for its fields and arrays -/
abbrev Sv : Type := Nat → Int → Int
def up (f : Int → Int) (i v : Int) : Int → Int := fun j => if j = i then v else f j
def u2 (S : Sv) (k : Nat) (i v : Int) : Sv := fun k' => if k' = k then up (S k) i v else S k'
theorem up_s (f : Int → Int) (i v : Int) : up f i v i = v := by simp [up]
theorem up_n (f : Int → Int) {i j : Int} (v : Int) (h : j ≠ i) : up f i v j = f j := by simp [up, h]
theorem u2_s (S : Sv) (k : Nat) (i v : Int) : u2 S k i v k = up (S k) i v := by simp [u2]
theorem u2_n (S : Sv) {k k' : Nat} (i v : Int) (h : k' ≠ k) : u2 S k i v k' = S k' := by simp [u2, h]
/-- a layout: its number among the classes, its fields, which are references, which of them are own arrays, their lengths and types -/
abbrev Lay : Type := Nat × Nat × (Nat → Bool) × List Nat × (Nat → Nat) × (Nat → FieldType)
def fl (Y : Lay) (ad : Nat → Nat) (S : Sv) : List Value := (List.range Y.2.1).map (fun k => if Y.2.2.1 k = true then Value.ref (ad k) else jv (S k 0))
def ar (Y : Lay) (ad : Nat → Nat) (cA : Nat → ClassId) (S : Sv) (k : Nat) : Nat × va_E := (ad k, .inl (cA k, Y.2.2.2.2.1 k, .inl (fun i : Nat => jI (S k (i : Int)))))
def ow (Y : Lay) (h0 : Nat) (ad : Nat → Nat) (cA : Nat → ClassId) (S : Sv) : va_W := (h0, .inr (Y.1, fl Y ad S)) :: Y.2.2.2.1.map (ar Y ad cA S)
def oty (Y : Lay) (cA : Nat → ClassId) : List (ClassId × FieldType) := Y.2.2.2.1.map (fun k => (cA k, Y.2.2.2.2.2 k))
def LayOk (Y : Lay) : Prop := Y.2.2.2.1.Nodup ∧ (∀ k ∈ Y.2.2.2.1, Y.2.2.1 k = true ∧ Y.2.2.2.2.1 k < 2147483648) ∧ ∃ C T, classes[Y.1]? = some (C, T, Y.2.1)
/-- what a world must give of an object in it -/
def Ln (w : Sv → va_W) (tys : List (ClassId × FieldType)) (Y : Lay) (h0 : Nat) (ad : Nat → Nat) (cA : Nat → ClassId) : Prop :=
  (∃ p0 : Nat, (∀ S, (w S)[p0]? = some (h0, .inr (Y.1, fl Y ad S))) ∧ ∀ (S : Sv) (k : Nat) (x : Int), Y.2.2.1 k = false → k < Y.2.1 → (w S).set p0 (h0, .inr (Y.1, (fl Y ad S).set k (jv x))) = w (u2 S k 0 x)) ∧
  ∀ k ∈ Y.2.2.2.1, ∃ q0 t0 : Nat, tys[t0]? = some (cA k, Y.2.2.2.2.2 k) ∧ (∀ S, (w S)[q0]? = some (ar Y ad cA S k)) ∧ ∀ (S : Sv) (i x : Int), 0 ≤ i → (w S).set q0 (ar Y ad cA (u2 S k i x) k) = w (u2 S k i x)
theorem fl_len (Y : Lay) (ad : Nat → Nat) (S : Sv) : (fl Y ad S).length = Y.2.1 := by simp [fl]
theorem fl_at (Y : Lay) (ad : Nat → Nat) (S : Sv) {k : Nat} (h : k < Y.2.1) : (fl Y ad S)[k]? = some (if Y.2.2.1 k = true then Value.ref (ad k) else jv (S k 0)) := by simp [fl, h]
theorem fl_u2a (Y : Lay) (ad : Nat → Nat) (S : Sv) {k : Nat} (i x : Int) (h : Y.2.2.1 k = true) : fl Y ad (u2 S k i x) = fl Y ad S := by
  unfold fl
  apply List.map_congr_left
  intro j _
  by_cases e : j = k
  · subst e; simp [h]
  · rw [u2_n S i x e]
theorem fl_u2s (Y : Lay) (ad : Nat → Nat) (S : Sv) {k : Nat} (x : Int) (h : Y.2.2.1 k = false) (hk : k < Y.2.1) : (fl Y ad S).set k (jv x) = fl Y ad (u2 S k 0 x) := by
  apply List.ext_getElem?
  intro j
  by_cases hj : j < Y.2.1
  · by_cases e : j = k
    · subst e
      rw [List.getElem?_set_self (by rw [fl_len]; exact hk), fl_at _ _ _ hk, u2_s, up_s]
      simp [h]
    · rw [List.getElem?_set_ne (fun q => e q.symm), fl_at _ _ _ hj, fl_at _ _ _ hj, u2_n S 0 x e]
  · rw [List.getElem?_eq_none (by rw [List.length_set, fl_len]; omega), List.getElem?_eq_none (by rw [fl_len]; omega)]
theorem ar_ne (Y : Lay) (ad : Nat → Nat) (cA : Nat → ClassId) (S : Sv) {k j : Nat} (i x : Int) (h : j ≠ k) : ar Y ad cA (u2 S k i x) j = ar Y ad cA S j := by
  unfold ar; rw [u2_n S i x h]
theorem map_set_one {α β : Type} (f g : α → β) : ∀ (l : List α) (q : Nat) (k : α), l.Nodup → l[q]? = some k → (∀ j ∈ l, j ≠ k → g j = f j) → (l.map f).set q (g k) = l.map g
  | [], q, k, _, h, _ => by simp at h
  | a :: r, 0, k, hn, h, hf => by
    simp only [List.getElem?_cons_zero, Option.some.injEq] at h
    subst h
    simp only [List.map_cons, List.set_cons_zero]
    congr 1
    apply List.map_congr_left
    intro j hj
    exact (hf j (List.mem_cons_of_mem _ hj) (fun e => (List.nodup_cons.mp hn).1 (e ▸ hj))).symm
  | a :: r, q + 1, k, hn, h, hf => by
    simp only [List.getElem?_cons_succ] at h
    have hk : k ∈ r := List.mem_of_getElem? h
    simp only [List.map_cons, List.set_cons_succ]
    rw [map_set_one f g r q k (List.nodup_cons.mp hn).2 h (fun j hj => hf j (List.mem_cons_of_mem _ hj)), hf a List.mem_cons_self (fun e => (List.nodup_cons.mp hn).1 (e ▸ hk))]
theorem set_app {α : Type} (X M Z : List α) (q : Nat) (v : α) (h : q < M.length) : (X ++ (M ++ Z)).set (X.length + q) v = X ++ (M.set q v ++ Z) := by
  rw [List.set_append_right _ _ (by omega), show X.length + q - X.length = q by omega, List.set_append_left _ _ h]
theorem get_app {α : Type} (X M Z : List α) (q : Nat) (h : q < M.length) : (X ++ (M ++ Z))[X.length + q]? = M[q]? := by
  rw [List.getElem?_append_right (by omega), show X.length + q - X.length = q by omega, List.getElem?_append_left h]
theorem ow_len (Y : Lay) (h0 : Nat) (ad : Nat → Nat) (cA : Nat → ClassId) (S : Sv) : (ow Y h0 ad cA S).length = Y.2.2.2.1.length + 1 := by simp [ow]
/-- an object among others: before it X, behind it Z -/
theorem Ln_mid {Y : Lay} (hY : LayOk Y) (X Z : va_W) {tys : List (ClassId × FieldType)} {h0 : Nat} {ad : Nat → Nat} {cA : Nat → ClassId} (ht : ∀ q ∈ oty Y cA, q ∈ tys) : Ln (fun S => X ++ (ow Y h0 ad cA S ++ Z)) tys Y h0 ad cA := by
  refine ⟨⟨X.length + 0, fun S => ?_, fun S k x h hk => ?_⟩, fun k hk => ?_⟩
  · rw [get_app _ _ _ _ (by rw [ow_len]; omega)]; rfl
  · rw [set_app _ _ _ _ _ (by rw [ow_len]; omega)]
    show X ++ (((h0, Sum.inr (Y.1, (fl Y ad S).set k (jv x))) :: Y.2.2.2.1.map (ar Y ad cA S)) ++ Z) = _
    rw [fl_u2s Y ad S x h hk]
    show _ = X ++ (((h0, Sum.inr (Y.1, fl Y ad (u2 S k 0 x))) :: Y.2.2.2.1.map (ar Y ad cA (u2 S k 0 x))) ++ Z)
    rw [show Y.2.2.2.1.map (ar Y ad cA (u2 S k 0 x)) = Y.2.2.2.1.map (ar Y ad cA S) from List.map_congr_left (fun j hj => ar_ne Y ad cA S 0 x (fun e => by have := (hY.2.1 j hj).1; rw [e, h] at this; cases this))]
  · obtain ⟨q, hq⟩ := List.getElem?_of_mem hk
    have hql : q < Y.2.2.2.1.length := (List.getElem?_eq_some_iff.mp hq).1
    obtain ⟨t0, ht0⟩ := List.getElem?_of_mem (ht _ (List.mem_map.mpr ⟨k, hk, rfl⟩))
    refine ⟨X.length + (q + 1), t0, ht0, fun S => ?_, fun S i x hi => ?_⟩
    · rw [get_app _ _ _ _ (by rw [ow_len]; omega)]
      show (Y.2.2.2.1.map (ar Y ad cA S))[q]? = _
      rw [List.getElem?_map, hq]; rfl
    · rw [set_app _ _ _ _ _ (by rw [ow_len]; omega)]
      show X ++ (((h0, Sum.inr (Y.1, fl Y ad S)) :: (Y.2.2.2.1.map (ar Y ad cA S)).set q (ar Y ad cA (u2 S k i x) k)) ++ Z) = X ++ (((h0, Sum.inr (Y.1, fl Y ad (u2 S k i x))) :: Y.2.2.2.1.map (ar Y ad cA (u2 S k i x))) ++ Z)
      rw [fl_u2a Y ad S i x (hY.2.1 k hk).1, map_set_one (ar Y ad cA S) (ar Y ad cA (u2 S k i x)) _ q k hY.1 hq (fun j _ e => ar_ne Y ad cA S i x e)]
theorem Ln_own {Y : Lay} (hY : LayOk Y) {tys : List (ClassId × FieldType)} {h0 : Nat} {ad : Nat → Nat} {cA : Nat → ClassId} (ht : ∀ q ∈ oty Y cA, q ∈ tys) : Ln (ow Y h0 ad cA) tys Y h0 ad cA := by
  have h := Ln_mid hY [] [] (h0 := h0) (ad := ad) ht
  have e : (fun S => ([] : va_W) ++ (ow Y h0 ad cA S ++ [])) = ow Y h0 ad cA := by funext S; simp
  rw [e] at h
  exact h
theorem upd_ar (f : Int → Int) (i x : Int) (h : 0 ≤ i) : upd (fun j : Nat => jI (f (j : Int))) i.toNat (jI x) = fun j : Nat => jI (up f i x (j : Int)) := by
  funext j
  unfold upd up
  by_cases e : j = i.toNat
  · rw [if_pos e, if_pos (by omega)]
  · rw [if_neg e, if_neg (by omega)]
section ROWS
variable {K : Cx} {own : String} {cc : ByteArray} {w : Sv → va_W} {S : Sv} {pc : Nat} {lv : List (Nat × Value)} {st : List Value} {Y : Lay} {h0 : Nat} {ad : Nat → Nat} {cA : Nat → ClassId} {CN : String} {T : u_T} {index : Nat}
/-- a field that is a number -/
theorem j_get (C : Ok K own cc) (L : Ln w (xt K) Y h0 ad cA) (hc : classes[Y.1]? = some (CN, T, Y.2.1)) (hin : ∀ q ∈ u_ws CN T Y.2.1, q ∈ tblG) (k : Nat) (hk : k < Y.2.1) (hr : Y.2.2.1 k = false) (hlink : Cond.fieldLink own index (T k).1 (T k).2.1 (T k).2.2.1 ∈ tblG) {v : Int} (hv : S k 0 = v) (hd : decode cc pc = .ok (.getfield index, 3)) (kk : J K (w S) (pc + 3) lv (jv v :: st)) : J K (w S) pc lv (.ref h0 :: st) := by
  intro H locs ls hP hD hS hl
  obtain ⟨p0, hp, -⟩ := L.1
  refine va_get (D := xD K) C.1 C.2.1 C.2.2.2.2.1 hin C.2.2.2.1 C.2.2.2.2.2.1 hP p0 (hp S) hc k hk (C.2.2.2.2.1 _ hlink) (fun _ h => h) (v := jv v) ?_ hd (kk H locs ls hP hD hS hl)
  rw [fl_at Y ad S hk, hr, hv]; rfl
/-- a field that is a reference -/
theorem j_getA (C : Ok K own cc) (L : Ln w (xt K) Y h0 ad cA) (hc : classes[Y.1]? = some (CN, T, Y.2.1)) (hin : ∀ q ∈ u_ws CN T Y.2.1, q ∈ tblG) (k : Nat) (hk : k < Y.2.1) (hr : Y.2.2.1 k = true) (hlink : Cond.fieldLink own index (T k).1 (T k).2.1 (T k).2.2.1 ∈ tblG) (hd : decode cc pc = .ok (.getfield index, 3)) (kk : J K (w S) (pc + 3) lv (.ref (ad k) :: st)) : J K (w S) pc lv (.ref h0 :: st) := by
  intro H locs ls hP hD hS hl
  obtain ⟨p0, hp, -⟩ := L.1
  refine va_get (D := xD K) C.1 C.2.1 C.2.2.2.2.1 hin C.2.2.2.1 C.2.2.2.2.2.1 hP p0 (hp S) hc k hk (C.2.2.2.2.1 _ hlink) (fun _ h => h) (v := .ref (ad k)) ?_ hd (kk H locs ls hP hD hS hl)
  rw [fl_at Y ad S hk, hr]; rfl
/-- a field that is a number is written -/
theorem j_put (C : Ok K own cc) (L : Ln w (xt K) Y h0 ad cA) (hc : classes[Y.1]? = some (CN, T, Y.2.1)) (hin : ∀ q ∈ u_ws CN T Y.2.1, q ∈ tblG) (ty0 : Nat → FieldType) (hty : ∀ k, k < Y.2.1 → parseFieldDescriptor (T k).2.2.1 = some (ty0 k)) (hnm : ∀ a, a < Y.2.1 → ∀ b, b < Y.2.1 → a ≠ b → (T a).2.1 ≠ (T b).2.1) (k : Nat) (hk : k < Y.2.1) (hr : Y.2.2.1 k = false) (hlink : Cond.fieldLink own index (T k).1 (T k).2.1 (T k).2.2.1 ∈ tblG) (hfin : (T k).2.2.2 = false) {x : Int} (hn : narrow (ty0 k) (jv x) = jv x) (hfit : fits (ty0 k) (jv x) = true) (hd : decode cc pc = .ok (.putfield index, 3)) (kk : J K (w (u2 S k 0 x)) (pc + 3) lv st) : J K (w S) pc lv (jv x :: .ref h0 :: st) := by
  intro H locs ls hP hD hS hl
  obtain ⟨p0, hp, hs⟩ := L.1
  refine va_put (D := xD K) C.1 C.2.1 C.2.2.2.2.1 hin ty0 hty hnm C.2.2.2.1 C.2.2.2.2.2.1 hP hD hS p0 (hp S) hc k hk (C.2.2.2.2.1 _ hlink) (fun _ h => h) hfin (ty := ty0 k) (v := jv x) (hty k hk) hn hfit (by rw [fl_len]; exact hk) hd (fun H1 locs1 hP1 hD1 hS1 => ?_)
  rw [hs S k x hr hk] at hP1 hD1
  exact kk H1 locs1 ls hP1 hD1 hS1 hl
theorem j_iald (C : Ok K own cc) (L : Ln w (xt K) Y h0 ad cA) (k : Nat) (hk : k ∈ Y.2.2.2.1) (ht : Y.2.2.2.2.2 k = .int) {i v : Int} (h1 : 0 ≤ i) (h2 : i < Y.2.2.2.2.1 k) (hN : Y.2.2.2.2.1 k < 2147483648) (hv : S k i = v) (hd : decode cc pc = .ok (.iaload, 1)) (kk : J K (w S) (pc + 1) lv (jv v :: st)) : J K (w S) pc lv (jv i :: .ref (ad k) :: st) := by
  intro H locs ls hP hD hS hl
  obtain ⟨q0, t0, ht0, hq, -⟩ := L.2 k hk
  rw [ht] at ht0
  refine va_iald (D := xD K) C.1 C.2.1 C.2.2.2.2.2.1 hP q0 t0 (hq S) ht0 (jI_in h1 h2 hN) hd ?_
  rw [jI_cl h1 (by omega), show ((i.toNat : Nat) : Int) = i by omega, hv]
  exact kk H locs ls hP hD hS hl
theorem j_zald (C : Ok K own cc) (L : Ln w (xt K) Y h0 ad cA) (k : Nat) (hk : k ∈ Y.2.2.2.1) (ht : Y.2.2.2.2.2 k = .boolean) {i v : Int} (h1 : 0 ≤ i) (h2 : i < Y.2.2.2.2.1 k) (hN : Y.2.2.2.2.1 k < 2147483648) (hv : S k i = v) (hd : decode cc pc = .ok (.baload, 1)) (kk : J K (w S) (pc + 1) lv (jv v :: st)) : J K (w S) pc lv (jv i :: .ref (ad k) :: st) := by
  intro H locs ls hP hD hS hl
  obtain ⟨q0, t0, ht0, hq, -⟩ := L.2 k hk
  rw [ht] at ht0
  refine va_zald (D := xD K) C.1 C.2.1 C.2.2.2.2.2.1 hP q0 t0 (hq S) ht0 (jI_in h1 h2 hN) hd ?_
  rw [jI_cl h1 (by omega), show ((i.toNat : Nat) : Int) = i by omega, hv]
  exact kk H locs ls hP hD hS hl
theorem j_iast (C : Ok K own cc) (L : Ln w (xt K) Y h0 ad cA) (k : Nat) (hk : k ∈ Y.2.2.2.1) (ht : Y.2.2.2.2.2 k = .int) {i x : Int} (h1 : 0 ≤ i) (h2 : i < Y.2.2.2.2.1 k) (hN : Y.2.2.2.2.1 k < 2147483648) (hd : decode cc pc = .ok (.iastore, 1)) (kk : J K (w (u2 S k i x)) (pc + 1) lv st) : J K (w S) pc lv (jv x :: jv i :: .ref (ad k) :: st) := by
  intro H locs ls hP hD hS hl
  obtain ⟨q0, t0, ht0, hq, hs⟩ := L.2 k hk
  rw [ht] at ht0
  refine va_iast (D := xD K) C.1 C.2.1 C.2.2.2.2.2.1 hP hD hS q0 t0 (hq S) ht0 (jI_in h1 h2 hN) hd (fun H1 locs1 hP1 hD1 hS1 => ?_)
  have e : (w S).set q0 (ad k, Sum.inl (cA k, Y.2.2.2.2.1 k, Sum.inl (upd (fun i : Nat => jI (S k (i : Int))) (jI i).toNatClampNeg (jI x)))) = w (u2 S k i x) := by
    rw [jI_cl h1 (by omega), upd_ar _ _ _ h1, ← u2_s]
    exact hs S i x h1
  rw [e] at hP1 hD1
  exact kk H1 locs1 ls hP1 hD1 hS1 hl
theorem j_zast (C : Ok K own cc) (L : Ln w (xt K) Y h0 ad cA) (k : Nat) (hk : k ∈ Y.2.2.2.1) (ht : Y.2.2.2.2.2 k = .boolean) {i x : Int} (h1 : 0 ≤ i) (h2 : i < Y.2.2.2.2.1 k) (hN : Y.2.2.2.2.1 k < 2147483648) (hx : x = 0 ∨ x = 1) (hd : decode cc pc = .ok (.bastore, 1)) (kk : J K (w (u2 S k i x)) (pc + 1) lv st) : J K (w S) pc lv (jv x :: jv i :: .ref (ad k) :: st) := by
  intro H locs ls hP hD hS hl
  obtain ⟨q0, t0, ht0, hq, hs⟩ := L.2 k hk
  rw [ht] at ht0
  refine va_zast (D := xD K) C.1 C.2.1 C.2.2.2.2.2.1 hP hD hS q0 t0 (hq S) ht0 (jI_in h1 h2 hN) hd (fun H1 locs1 hP1 hD1 hS1 => ?_)
  have e : (w S).set q0 (ad k, Sum.inl (cA k, Y.2.2.2.2.1 k, Sum.inl (upd (fun i : Nat => jI (S k (i : Int))) (jI i).toNatClampNeg (vp_nar .boolean (jI x))))) = w (u2 S k i x) := by
    rw [show vp_nar .boolean (jI x) = jI x by rcases hx with rfl | rfl <;> decide, jI_cl h1 (by omega), upd_ar _ _ _ h1, ← u2_s]
    exact hs S i x h1
  rw [e] at hP1 hD1
  exact kk H1 locs1 ls hP1 hD1 hS1 hl
end ROWS
end
section
/-! contracts over J, and calls by contract -/
def rmL (d : Nat) : Room := { frames := d, cells := 0, slots := 0, locals := 40 * d }
def PcW (D : va_G) (tys : List (ClassId × FieldType)) (av : List Value) (ws : va_W) (sz : Nat) : Array Value → State → Prop := va_Pc av (fun U => U.heap.size = sz ∧ va_P D classes ws U.heap ∧ va_K D classes tys U ∧ va_D (fun _ => True) ws)
def BW (D : va_G) (tys : List (ClassId × FieldType)) (A : Nat → Prop) {σ : Type} (w : σ → va_W) : σ → State → Prop := fun u t => va_P D classes (w u) t.heap ∧ va_K D classes tys t ∧ va_D A (w u)
/-- a contract with an answer: from the picture u0 the method returns z and leaves the picture u, post z u -/
def CI (l : Launch) (y : MethodName) (bytes : ByteArray) (maxL : Nat) (ret : Option FieldType) (d : Nat) (D : va_G) (tys : List (ClassId × FieldType)) (av : List Value) {σ : Type} (w : σ → va_W) (u0 : σ) (post : Int → σ → Prop) : Prop :=
  ∀ sz : Nat, Met l y (Cond.code y bytes maxL ret :: tblG) (rmL d) (PcW D tys av (w u0) sz) (va_Qi (fun r u => ∃ z : Int, r = jI z ∧ post z u) (BW D tys (va_A (w u0) sz) w) (va_A (w u0) sz)) 0 0 (va_A (w u0) sz)
/-- a contract without an answer -/
def CV (l : Launch) (y : MethodName) (bytes : ByteArray) (maxL : Nat) (d : Nat) (D : va_G) (tys : List (ClassId × FieldType)) (av : List Value) {σ : Type} (w : σ → va_W) (u0 : σ) (post : σ → Prop) : Prop :=
  ∀ sz : Nat, Met l y (Cond.code y bytes maxL none :: tblG) (rmL d) (PcW D tys av (w u0) sz) (va_Qv (fun u => post u) (BW D tys (va_A (w u0) sz) w) (va_A (w u0) sz)) 0 0 (va_A (w u0) sz)
def RI (K : Cx) (ty : FieldType) {σ : Type} (w : σ → va_W) (post : Int → σ → Prop) : Prop := (xM K).sig.returnType = some ty ∧ xQ K = MQ (xb K) (va_Qi (fun r u => ∃ z : Int, r = jI z ∧ post z u) (BW (xD K) (xt K) (xA K) w) (xA K)) (xa K) (xs K) (xn K) (xk K) (xA K)
def RV (K : Cx) {σ : Type} (w : σ → va_W) (post : σ → Prop) : Prop := (xM K).sig.returnType = none ∧ xQ K = MQ (xb K) (va_Qv (fun u => post u) (BW (xD K) (xt K) (xA K) w) (xA K)) (xa K) (xs K) (xn K) (xk K) (xA K)
section
variable {K : Cx} {own : String} {cc : ByteArray} {σ : Type} {w : σ → va_W} {pc : Nat} {lv : List (Nat × Value)}
theorem j_ret (C : Ok K own cc) {ty : FieldType} {post : Int → σ → Prop} (Z : RI K ty w post) {z : Int} {u : σ} (hn : narrow ty (jv z) = jv z) (hd : decode cc pc = .ok (.ireturn, 1)) (hp : post z u) : J K (w u) pc lv [jv z] := by
  intro H locs ls hP hD hS hl
  rw [Z.2]
  exact W.zret (v := jI z) C.1 C.2.1 Z.1 hn (fun t ht hW => ⟨⟨jI z, u, rfl, ⟨z, rfl, hp⟩, by rw [ht]; exact hP, va_K.moved hW.alike C.2.2.2.2.2.1, hD⟩, hS.F ht⟩) hS.2.2 hd C.2.2.2.2.2.2.1
theorem j_vret (C : Ok K own cc) {post : σ → Prop} (Z : RV K w post) {u : σ} (hd : decode cc pc = .ok (.return_, 1)) (hp : post u) : J K (w u) pc lv [] := by
  intro H locs ls hP hD hS hl
  rw [Z.2]
  exact W.vret C.1 C.2.1 Z.1 (fun t ht hW => ⟨⟨u, rfl, hp, by rw [ht]; exact hP, va_K.moved hW.alike C.2.2.2.2.2.1, hD⟩, hS.F ht⟩) hS.2.2 hd C.2.2.2.2.2.2.1
end
theorem CI.of {l : Launch} {y : MethodName} {bytes : ByteArray} {maxL : Nat} {ty : FieldType} {d : Nat} {D : va_G} {tys : List (ClassId × FieldType)} {av : List Value} {σ : Type} {w : σ → va_W} {u0 : σ} {post : Int → σ → Prop} (hy : plainName y.cls = true) (hav : (lg_sl av).length ≤ maxL)
    (h : ∀ K : Cx, Ok K y.cls bytes → xR K = rmL d → xt K = tys → xL K = maxL → (xn K ≤ (xR K).cells ∧ xk K ≤ (xR K).slots) → RI K ty w post → J K (w u0) 0 (lv_args 0 av) []) : CI l y bytes maxL (some ty) d D tys av w u0 post := by
  intro sz
  refine Met.ofW (cc := bytes) (maxL := maxL) (ret := some ty) hy rfl ?_
  intro p e s m args below meth c s₁ B hml hv
  obtain ⟨rfl, hsz, hP, hK, hD0⟩ := hv
  have hts := atoms_spec (ws := Cond.code y bytes maxL (some ty) :: tblG) B.pre
  subst hsz
  have hD := hD0.self (sz := s.heap.size)
  have hA : ∀ q : Nat, s.heap.size ≤ q → va_A (w u0) s.heap.size q := fun q h => Or.inr h
  have hl := lv_entry av (n := maxL) hav
  rw [lg_entry_eq]
  exact h (p, l, e, rmL d, s, m, av.toArray, below, meth, c, D, tys, va_A (w u0) s.heap.size, 0, 0, MQ below (va_Qi (fun r u => ∃ z : Int, r = jI z ∧ post z u) (BW D tys (va_A (w u0) s.heap.size) w) (va_A (w u0) s.heap.size)) av.toArray s 0 0 (va_A (w u0) s.heap.size), maxL)
    ⟨B.exec, B.bytes, hml, findClass_of_methodNamed B.named, fun w hw => hts w (List.mem_cons_of_mem _ hw), hK, B.notSynchronized, hA⟩ rfl rfl rfl ⟨Nat.le_refl 0, Nat.le_refl 0⟩ ⟨B.returns, rfl⟩ s.heap [] _ hP hD va_S.rf hl
theorem CV.of {l : Launch} {y : MethodName} {bytes : ByteArray} {maxL : Nat} {d : Nat} {D : va_G} {tys : List (ClassId × FieldType)} {av : List Value} {σ : Type} {w : σ → va_W} {u0 : σ} {post : σ → Prop} (hy : plainName y.cls = true) (hav : (lg_sl av).length ≤ maxL)
    (h : ∀ K : Cx, Ok K y.cls bytes → xR K = rmL d → xt K = tys → xL K = maxL → (xn K ≤ (xR K).cells ∧ xk K ≤ (xR K).slots) → RV K w post → J K (w u0) 0 (lv_args 0 av) []) : CV l y bytes maxL d D tys av w u0 post := by
  intro sz
  refine Met.ofW (cc := bytes) (maxL := maxL) (ret := none) hy rfl ?_
  intro p e s m args below meth c s₁ B hml hv
  obtain ⟨rfl, hsz, hP, hK, hD0⟩ := hv
  have hts := atoms_spec (ws := Cond.code y bytes maxL none :: tblG) B.pre
  subst hsz
  have hD := hD0.self (sz := s.heap.size)
  have hA : ∀ q : Nat, s.heap.size ≤ q → va_A (w u0) s.heap.size q := fun q h => Or.inr h
  have hl := lv_entry av (n := maxL) hav
  rw [lg_entry_eq]
  exact h (p, l, e, rmL d, s, m, av.toArray, below, meth, c, D, tys, va_A (w u0) s.heap.size, 0, 0, MQ below (va_Qv (fun u => post u) (BW D tys (va_A (w u0) s.heap.size) w) (va_A (w u0) s.heap.size)) av.toArray s 0 0 (va_A (w u0) s.heap.size), maxL)
    ⟨B.exec, B.bytes, hml, findClass_of_methodNamed B.named, fun w hw => hts w (List.mem_cons_of_mem _ hw), hK, B.notSynchronized, hA⟩ rfl rfl rfl ⟨Nat.le_refl 0, Nat.le_refl 0⟩ ⟨B.returns, rfl⟩ s.heap [] _ hP hD va_S.rf hl
/-! the frame rule: the callee's cells behind the rest -/
theorem ix_C (wr wc : va_W) : ((List.range wc.length).map (fun i => wr.length + i)).map (fun i => (wr ++ wc)[i]?) = wc.map some := by
  apply List.ext_getElem?
  intro i
  by_cases h : i < wc.length
  · simp [h, List.getElem?_append_right]
  · simp [h]
theorem ix_R (wr wc : va_W) : (List.range wr.length).map (fun i => (wr ++ wc)[i]?) = wr.map some := by
  apply List.ext_getElem?
  intro i
  by_cases h : i < wr.length
  · simp [h, List.getElem?_append_left]
  · simp [h]
theorem nd_of : ∀ (l : List Nat), l.Nodup → va_nd l = true
  | [], _ => rfl
  | a :: r, h => by
    have h1 := (List.nodup_cons.mp h).1
    have h2 := nd_of r (List.nodup_cons.mp h).2
    simp [va_nd, h2, h1]
theorem nd_R (n : Nat) : va_nd (List.range n) = true := nd_of _ List.nodup_range
theorem nd_C (n k : Nat) : va_nd ((List.range n).map (fun i => k + i)) = true := nd_of _ (by
  rw [List.Nodup, List.pairwise_map]
  exact List.Pairwise.imp (fun h e => h (by omega)) List.nodup_range)
theorem dis_RC (a b : Nat) : ∀ i ∈ List.range a, i ∉ (List.range b).map (fun i => a + i) := by
  intro i h1 h2
  obtain ⟨j, -, hj⟩ := List.mem_map.mp h2
  have := List.mem_range.mp h1
  omega
/-- what a call of a method of an object needs of the tables -/
def LkV (own : String) (index : Nat) (y : MethodName) (bytes : ByteArray) (maxL : Nat) (ret : Option FieldType) (n : Nat) : Prop :=
  (∀ q ∈ ([.methodLink own index y, .instanceMethod y, .selects y.cls y y, .initialized y.cls] : List Cond), q ∈ tblG) ∧ Cond.code y bytes maxL ret ∈ tblG ∧ y.cls ≠ "java/lang/invoke/MethodHandle" ∧ y.cls ≠ "java/lang/invoke/VarHandle" ∧ (parseMethodDescriptor y.desc).map (fun d => d.parameters.length) = some n
def LkS (own : String) (index : Nat) (y : MethodName) (bytes : ByteArray) (maxL : Nat) (ret : Option FieldType) (n : Nat) : Prop :=
  (∀ q ∈ ([.methodLink own index y, .static y, .initialized y.cls] : List Cond), q ∈ tblG) ∧ Cond.code y bytes maxL ret ∈ tblG ∧ y.cls ≠ "java/lang/invoke/MethodHandle" ∧ y.cls ≠ "java/lang/invoke/VarHandle" ∧ (parseMethodDescriptor y.desc).map (fun d => d.parameters.length) = some n
theorem mem_words {y : MethodName} {bytes : ByteArray} {maxL : Nat} {ret : Option FieldType} (h : Cond.code y bytes maxL ret ∈ tblG) : ∀ q ∈ Cond.code y bytes maxL ret :: tblG, q ∈ tblG := by
  intro q hq
  rcases List.mem_cons.mp hq with h1 | h1
  · rw [h1]; exact h
  · exact h1
section CALLS
variable {K : Cx} {own : String} {cc : ByteArray} {σ : Type} {w : σ → va_W} {pc : Nat} {lv : List (Nat × Value)} {y : MethodName} {bytes : ByteArray} {maxL : Nat} {ret : Option FieldType} {d n index : Nat} {tys : List (ClassId × FieldType)} {u0 : σ} {wr : va_W} {As rest st : List Value} {b : Nat}
theorem cat_room (m : MethodId) (pc : Nat) (ls : Array Slot) (st rest : List Value) (h : (rest.map fun v => v.category).sum ≤ 8) : 2 * (F0 m pc ls st).monitorRoom + (rest.map fun v => v.category).sum ≤ 8 := lv_room h
theorem pre_blind (D : va_G) (av : List Value) (ws : va_W) (sz : Nat) : FrameBlind (PcW D tys av ws sz) := fun a U g mk q => by
  obtain ⟨q0, q1, qP, qK, qD⟩ := q
  exact ⟨q0, q1, qP, va_K.moved (u := U) (U := U.calling g mk a) (Vm.Alike.refl U.vm) qK, qD⟩
theorem kty {D : va_G} {tys tys' : List (ClassId × FieldType)} {U : State} (h : va_K D classes tys U) (hs : ∀ q ∈ tys', q ∈ tys) : va_K D classes tys' U := ⟨h.1, fun k q hk => by
  obtain ⟨i, hi⟩ := List.getElem?_of_mem (hs q (List.mem_of_getElem? hk))
  exact h.2 i q hi⟩
theorem P_right {D : va_G} {wr wc : va_W} {H : Heap} (h : va_P D classes (wr ++ wc) H) : va_P D classes wc H := fun k q hq => h (wr.length + k) q (by rw [List.getElem?_append_right (by omega), show wr.length + k - wr.length = k by omega]; exact hq)
theorem D_right {A : Nat → Prop} {wr wc : va_W} (h : va_D A (wr ++ wc)) : va_D A wc := h.sub _ (nd_C wc.length wr.length) (ix_C wr wc)
/-- the parts of a call that are the same for every kind of call -/
theorem call_pre (C : Ok K own cc) {av : List Value} (hty : ∀ q ∈ tys, q ∈ xt K) {H : Heap} (hP : va_P (xD K) classes (wr ++ w u0) H) (hD : va_D (xA K) (wr ++ w u0)) : ∀ U : State, U.heap = H → (xs K).WarmedH U.vm → PcW (xD K) tys av (w u0) H.size av.toArray U := fun U hU hW => ⟨rfl, by rw [hU], by rw [hU]; exact P_right hP, va_K.moved hW.alike (kty C.2.2.2.2.2.1 hty), (D_right hD).weaken (fun _ _ _ _ => trivial)⟩
/-- a call of an object's method, with an answer -/
theorem j_callI (C : Ok K own cc) {post : Int → σ → Prop} (hM : CI (xl K) y bytes maxL ret d (xD K) tys (.ref b :: As) w u0 post) (hty : ∀ q ∈ tys, q ∈ xt K) (lk : LkV own index y bytes maxL ret n) (hn : As.length = n) {ci : Nat} {T : u_T} {N q0 : Nat} {fs : List Value} (hcl : classes[ci]? = some (y.cls, T, N)) (hb0 : (w u0)[q0]? = some (b, .inr (ci, fs)))
    (hR : d + 1 ≤ (xR K).frames ∧ 8 + (maxL + 11) + 40 * d ≤ (xR K).locals) (hcs : xn K ≤ (xR K).cells ∧ xk K ≤ (xR K).slots) (hd : decode cc pc = .ok (.invokevirtual index, 3)) (hst : st = As.reverse ++ .ref b :: rest) (hcat : (rest.map fun v => v.category).sum ≤ 8)
    (kk : ∀ (z : Int) (u : σ), post z u → J K (wr ++ w u) (pc + 3) lv (jv z :: rest)) : J K (wr ++ w u0) pc lv st := by
  subst hst
  intro H locs ls hP hD hS hl
  have hFc := va_free (wc := w u0) hD hS C.2.2.2.2.2.2.2 _ (ix_C wr (w u0))
  obtain ⟨hx, hb, hml, hown, hts, hK, -, -⟩ := id C
  refine va_calli (va_runV (Ts := tblG) (As := As) (rest := rest) ⟨hx, hb, hml, hown, hts⟩ (hM H.size) (cwV n hts (good_sub _ (fun q hq => by
    rcases List.mem_append.mp hq with h | h
    · exact lk.1 q h
    · exact mem_words lk.2.1 q h) (fun _ h => h)) rfl rfl rfl ⟨rfl, lk.2.2⟩ hR) ⟨pre_blind _ _ _ _, va_recv hK (P_right hP) hcl hb0, call_pre C hty hP hD⟩ rfl hn hl.1 rfl (cat_room _ _ _ _ _ hcat) hd ⟨hcs.1, hcs.2⟩) hS (fun q _ h => hFc q h) hFc (fun r u t H1 locs1 ht hvm hw hB hz1 hk1 hS1 => ?_)
  obtain ⟨hP1, hK1, hD1⟩ := hB
  rw [ht] at hP1
  obtain ⟨z, rfl, hz⟩ := hw
  obtain ⟨hP2, hD2⟩ := va_join (wr := wr) (w1 := w u) hP hD _ _ (ix_C wr (w u0)) (ix_R wr (w u0)) (nd_R _) (dis_RC _ _) hk1 hFc hP1 hD1
  exact kk z u hz H1 locs1 ls hP2 hD2 hS1 hl
/-- .. without one -/
theorem j_callV (C : Ok K own cc) {post : σ → Prop} (hM : CV (xl K) y bytes maxL d (xD K) tys (.ref b :: As) w u0 post) (hty : ∀ q ∈ tys, q ∈ xt K) (lk : LkV own index y bytes maxL none n) (hn : As.length = n) {ci : Nat} {T : u_T} {N q0 : Nat} {fs : List Value} (hcl : classes[ci]? = some (y.cls, T, N)) (hb0 : (w u0)[q0]? = some (b, .inr (ci, fs)))
    (hR : d + 1 ≤ (xR K).frames ∧ 8 + (maxL + 11) + 40 * d ≤ (xR K).locals) (hcs : xn K ≤ (xR K).cells ∧ xk K ≤ (xR K).slots) (hd : decode cc pc = .ok (.invokevirtual index, 3)) (hst : st = As.reverse ++ .ref b :: rest) (hcat : (rest.map fun v => v.category).sum ≤ 8)
    (kk : ∀ (u : σ), post u → J K (wr ++ w u) (pc + 3) lv rest) : J K (wr ++ w u0) pc lv st := by
  subst hst
  intro H locs ls hP hD hS hl
  have hFc := va_free (wc := w u0) hD hS C.2.2.2.2.2.2.2 _ (ix_C wr (w u0))
  obtain ⟨hx, hb, hml, hown, hts, hK, -, -⟩ := id C
  refine va_callv (va_runV (Ts := tblG) (As := As) (rest := rest) ⟨hx, hb, hml, hown, hts⟩ (hM H.size) (cwV n hts (good_sub _ (fun q hq => by
    rcases List.mem_append.mp hq with h | h
    · exact lk.1 q h
    · exact mem_words lk.2.1 q h) (fun _ h => h)) rfl rfl rfl ⟨rfl, lk.2.2⟩ hR) ⟨pre_blind _ _ _ _, va_recv hK (P_right hP) hcl hb0, call_pre C hty hP hD⟩ rfl hn hl.1 rfl (cat_room _ _ _ _ _ hcat) hd ⟨hcs.1, hcs.2⟩) hS (fun q _ h => hFc q h) hFc (fun u t H1 locs1 ht hvm hw hB hz1 hk1 hS1 => ?_)
  obtain ⟨hP1, hK1, hD1⟩ := hB
  rw [ht] at hP1
  obtain ⟨hP2, hD2⟩ := va_join (wr := wr) (w1 := w u) hP hD _ _ (ix_C wr (w u0)) (ix_R wr (w u0)) (nd_R _) (dis_RC _ _) hk1 hFc hP1 hD1
  exact kk u hw H1 locs1 ls hP2 hD2 hS1 hl
/-- a static call, with an answer; without one -/
theorem j_callSI (C : Ok K own cc) {post : Int → σ → Prop} (hM : CI (xl K) y bytes maxL ret d (xD K) tys As w u0 post) (hty : ∀ q ∈ tys, q ∈ xt K) (lk : LkS own index y bytes maxL ret n) (hn : As.length = n)
    (hR : d + 1 ≤ (xR K).frames ∧ 8 + (maxL + 11) + 40 * d ≤ (xR K).locals) (hcs : xn K ≤ (xR K).cells ∧ xk K ≤ (xR K).slots) (hd : decode cc pc = .ok (.invokestatic index, 3)) (hst : st = As.reverse ++ rest) (hcat : (rest.map fun v => v.category).sum ≤ 8)
    (kk : ∀ (z : Int) (u : σ), post z u → J K (wr ++ w u) (pc + 3) lv (jv z :: rest)) : J K (wr ++ w u0) pc lv st := by
  subst hst
  intro H locs ls hP hD hS hl
  have hFc := va_free (wc := w u0) hD hS C.2.2.2.2.2.2.2 _ (ix_C wr (w u0))
  obtain ⟨hx, hb, hml, hown, hts, hK, -, -⟩ := id C
  refine va_calli (va_runS (Ts := tblG) (As := As) (rest := rest) ⟨hx, hb, hml, hown, hts⟩ (hM H.size) ⟨callB_of n hts (good_sub _ (mem_words lk.2.1) (fun _ h => h)) rfl rfl rfl (hts _ (lk.1 _ (by simp))) (hts _ (lk.1 _ (by simp))) lk.2.2 hR, hts _ (lk.1 _ (by simp))⟩ ⟨pre_blind _ _ _ _, call_pre C hty hP hD⟩ rfl hn hl.1 rfl (cat_room _ _ _ _ _ hcat) hd ⟨hcs.1, hcs.2⟩) hS (fun q _ h => hFc q h) hFc (fun r u t H1 locs1 ht hvm hw hB hz1 hk1 hS1 => ?_)
  obtain ⟨hP1, hK1, hD1⟩ := hB
  rw [ht] at hP1
  obtain ⟨z, rfl, hz⟩ := hw
  obtain ⟨hP2, hD2⟩ := va_join (wr := wr) (w1 := w u) hP hD _ _ (ix_C wr (w u0)) (ix_R wr (w u0)) (nd_R _) (dis_RC _ _) hk1 hFc hP1 hD1
  exact kk z u hz H1 locs1 ls hP2 hD2 hS1 hl
theorem j_callSV (C : Ok K own cc) {post : σ → Prop} (hM : CV (xl K) y bytes maxL d (xD K) tys As w u0 post) (hty : ∀ q ∈ tys, q ∈ xt K) (lk : LkS own index y bytes maxL none n) (hn : As.length = n)
    (hR : d + 1 ≤ (xR K).frames ∧ 8 + (maxL + 11) + 40 * d ≤ (xR K).locals) (hcs : xn K ≤ (xR K).cells ∧ xk K ≤ (xR K).slots) (hd : decode cc pc = .ok (.invokestatic index, 3)) (hst : st = As.reverse ++ rest) (hcat : (rest.map fun v => v.category).sum ≤ 8)
    (kk : ∀ (u : σ), post u → J K (wr ++ w u) (pc + 3) lv rest) : J K (wr ++ w u0) pc lv st := by
  subst hst
  intro H locs ls hP hD hS hl
  have hFc := va_free (wc := w u0) hD hS C.2.2.2.2.2.2.2 _ (ix_C wr (w u0))
  obtain ⟨hx, hb, hml, hown, hts, hK, -, -⟩ := id C
  refine va_callv (va_runS (Ts := tblG) (As := As) (rest := rest) ⟨hx, hb, hml, hown, hts⟩ (hM H.size) ⟨callB_of n hts (good_sub _ (mem_words lk.2.1) (fun _ h => h)) rfl rfl rfl (hts _ (lk.1 _ (by simp))) (hts _ (lk.1 _ (by simp))) lk.2.2 hR, hts _ (lk.1 _ (by simp))⟩ ⟨pre_blind _ _ _ _, call_pre C hty hP hD⟩ rfl hn hl.1 rfl (cat_room _ _ _ _ _ hcat) hd ⟨hcs.1, hcs.2⟩) hS (fun q _ h => hFc q h) hFc (fun u t H1 locs1 ht hvm hw hB hz1 hk1 hS1 => ?_)
  obtain ⟨hP1, hK1, hD1⟩ := hB
  rw [ht] at hP1
  obtain ⟨hP2, hD2⟩ := va_join (wr := wr) (w1 := w u) hP hD _ _ (ix_C wr (w u0)) (ix_R wr (w u0)) (nd_R _) (dis_RC _ _) hk1 hFc hP1 hD1
  exact kk u hw H1 locs1 ls hP2 hD2 hS1 hl
/-- a static call that touches no cell -/
theorem j_callP (C : Ok K own cc) {ws : va_W} {post : Int → Prop} (hM : CI (xl K) y bytes maxL ret d (xD K) [] As (fun _ : Unit => []) () (fun z _ => post z)) (lk : LkS own index y bytes maxL ret n) (hn : As.length = n)
    (hR : d + 1 ≤ (xR K).frames ∧ 8 + (maxL + 11) + 40 * d ≤ (xR K).locals) (hcs : xn K ≤ (xR K).cells ∧ xk K ≤ (xR K).slots) (hd : decode cc pc = .ok (.invokestatic index, 3)) (hst : st = As.reverse ++ rest) (hcat : (rest.map fun v => v.category).sum ≤ 8)
    (kk : ∀ (z : Int), post z → J K ws (pc + 3) lv (jv z :: rest)) : J K ws pc lv st := by
  have h := j_callSI (wr := ws) (st := st) (rest := rest) (lv := lv) C hM (fun q h => absurd h List.not_mem_nil) lk hn hR hcs hd hst hcat (fun z u hz => by rw [List.append_nil]; exact kk z hz)
  rw [List.append_nil] at h
  exact h
end CALLS
end
section
/-! methods: bytes, names, their code rows in the tables, links of calls (printed by gen/mk_dec.py) -/
abbrev b_Ou_in : ByteArray := prog_1_method_1_code
def y_Ou_in : MethodName := ⟨R_Ou, "in", "(III)Z"⟩
theorem mc_Ou_in : Cond.code y_Ou_in b_Ou_in 3 (some .boolean) ∈ tblG := List.mem_filter.mpr ⟨List.mem_append_right _ (List.mem_of_getElem? (i := 137) rfl), rfl⟩
abbrev b_Ou_init : ByteArray := prog_1_method_2_code
def y_Ou_init : MethodName := ⟨R_Ou, "<init>", "(I)V"⟩
theorem mc_Ou_init : Cond.code y_Ou_init b_Ou_init 2 none ∈ tblG := List.mem_filter.mpr ⟨List.mem_append_right _ (List.mem_of_getElem? (i := 11) rfl), rfl⟩
abbrev b_Ou_wish : ByteArray := prog_1_method_3_code
def y_Ou_wish : MethodName := ⟨R_Ou, "wish", "(IZ)Z"⟩
theorem mc_Ou_wish : Cond.code y_Ou_wish b_Ou_wish 4 (some .boolean) ∈ tblG := List.mem_filter.mpr ⟨List.mem_append_right _ (List.mem_of_getElem? (i := 134) rfl), rfl⟩
abbrev b_Ou_literal : ByteArray := prog_1_method_4_code
def y_Ou_literal : MethodName := ⟨R_Ou, "literal", "(IZ)I"⟩
theorem mc_Ou_literal : Cond.code y_Ou_literal b_Ou_literal 3 (some .int) ∈ tblG := List.mem_filter.mpr ⟨List.mem_append_right _ (List.mem_of_getElem? (i := 141) rfl), rfl⟩
abbrev b_Ou_clause : ByteArray := prog_1_method_5_code
def y_Ou_clause : MethodName := ⟨R_Ou, "clause", "()I"⟩
theorem mc_Ou_clause : Cond.code y_Ou_clause b_Ou_clause 1 (some .int) ∈ tblG := List.mem_filter.mpr ⟨List.mem_append_right _ (List.mem_of_getElem? (i := 151) rfl), rfl⟩
abbrev b_Ou_keep : ByteArray := prog_1_method_6_code
def y_Ou_keep : MethodName := ⟨R_Ou, "keep", "(II)I"⟩
theorem mc_Ou_keep : Cond.code y_Ou_keep b_Ou_keep 3 (some .int) ∈ tblG := List.mem_filter.mpr ⟨List.mem_append_right _ (List.mem_of_getElem? (i := 155) rfl), rfl⟩
abbrev b_Ou_some : ByteArray := prog_1_method_7_code
def y_Ou_some : MethodName := ⟨R_Ou, "some", "(II)I"⟩
theorem mc_Ou_some : Cond.code y_Ou_some b_Ou_some 7 (some .int) ∈ tblG := List.mem_filter.mpr ⟨List.mem_append_right _ (List.mem_of_getElem? (i := 159) rfl), rfl⟩
abbrev b_Ou_drop : ByteArray := prog_1_method_8_code
def y_Ou_drop : MethodName := ⟨R_Ou, "drop", "(I)I"⟩
theorem mc_Ou_drop : Cond.code y_Ou_drop b_Ou_drop 2 (some .int) ∈ tblG := List.mem_filter.mpr ⟨List.mem_append_right _ (List.mem_of_getElem? (i := 163) rfl), rfl⟩
abbrev b_Ou_solve : ByteArray := prog_1_method_9_code
def y_Ou_solve : MethodName := ⟨R_Ou, "solve", "()Z"⟩
theorem mc_Ou_solve : Cond.code y_Ou_solve b_Ou_solve 3 (some .boolean) ∈ tblG := List.mem_filter.mpr ⟨List.mem_append_right _ (List.mem_of_getElem? (i := 167) rfl), rfl⟩
abbrev b_Ou_answer : ByteArray := prog_1_method_10_code
def y_Ou_answer : MethodName := ⟨R_Ou, "answer", "()I"⟩
theorem mc_Ou_answer : Cond.code y_Ou_answer b_Ou_answer 3 (some .int) ∈ tblG := List.mem_filter.mpr ⟨List.mem_append_right _ (List.mem_of_getElem? (i := 254) rfl), rfl⟩
abbrev b_Ou_count : ByteArray := prog_1_method_11_code
def y_Ou_count : MethodName := ⟨R_Ou, "count", "(I)I"⟩
theorem mc_Ou_count : Cond.code y_Ou_count b_Ou_count 2 (some .int) ∈ tblG := List.mem_filter.mpr ⟨List.mem_append_right _ (List.mem_of_getElem? (i := 263) rfl), rfl⟩
abbrev b_Mo_init : ByteArray := prog_4_method_1_code
def y_Mo_init : MethodName := ⟨R_Mo, "<init>", "(I)V"⟩
theorem mc_Mo_init : Cond.code y_Mo_init b_Mo_init 2 none ∈ tblG := List.mem_filter.mpr ⟨List.mem_append_right _ (List.mem_of_getElem? (i := 271) rfl), rfl⟩
abbrev b_Mo_is : ByteArray := prog_4_method_2_code
def y_Mo_is : MethodName := ⟨R_Mo, "is", "(I)Z"⟩
theorem mc_Mo_is : Cond.code y_Mo_is b_Mo_is 2 (some .boolean) ∈ tblG := List.mem_filter.mpr ⟨List.mem_append_right _ (List.mem_of_getElem? (i := 308) rfl), rfl⟩
abbrev b_Mo_wish : ByteArray := prog_4_method_3_code
def y_Mo_wish : MethodName := ⟨R_Mo, "wish", "(IZ)Z"⟩
theorem mc_Mo_wish : Cond.code y_Mo_wish b_Mo_wish 4 (some .boolean) ∈ tblG := List.mem_filter.mpr ⟨List.mem_append_right _ (List.mem_of_getElem? (i := 304) rfl), rfl⟩
abbrev b_Mo_bits : ByteArray := prog_4_method_4_code
def y_Mo_bits : MethodName := ⟨R_Mo, "bits", "(I)I"⟩
theorem mc_Mo_bits : Cond.code y_Mo_bits b_Mo_bits 3 (some .int) ∈ tblG := List.mem_filter.mpr ⟨List.mem_append_right _ (List.mem_of_getElem? (i := 315) rfl), rfl⟩
abbrev b_Mo_literal : ByteArray := prog_4_method_5_code
def y_Mo_literal : MethodName := ⟨R_Mo, "literal", "(IZ)I"⟩
theorem mc_Mo_literal : Cond.code y_Mo_literal b_Mo_literal 3 (some .int) ∈ tblG := List.mem_filter.mpr ⟨List.mem_append_right _ (List.mem_of_getElem? (i := 312) rfl), rfl⟩
abbrev b_Mo_clause : ByteArray := prog_4_method_6_code
def y_Mo_clause : MethodName := ⟨R_Mo, "clause", "()I"⟩
theorem mc_Mo_clause : Cond.code y_Mo_clause b_Mo_clause 1 (some .int) ∈ tblG := List.mem_filter.mpr ⟨List.mem_append_right _ (List.mem_of_getElem? (i := 319) rfl), rfl⟩
abbrev b_Mo_some : ByteArray := prog_4_method_7_code
def y_Mo_some : MethodName := ⟨R_Mo, "some", "(II)I"⟩
theorem mc_Mo_some : Cond.code y_Mo_some b_Mo_some 3 (some .int) ∈ tblG := List.mem_filter.mpr ⟨List.mem_append_right _ (List.mem_of_getElem? (i := 323) rfl), rfl⟩
abbrev b_Mo_drop : ByteArray := prog_4_method_8_code
def y_Mo_drop : MethodName := ⟨R_Mo, "drop", "(I)I"⟩
theorem mc_Mo_drop : Cond.code y_Mo_drop b_Mo_drop 2 (some .int) ∈ tblG := List.mem_filter.mpr ⟨List.mem_append_right _ (List.mem_of_getElem? (i := 328) rfl), rfl⟩
abbrev b_Mo_holds : ByteArray := prog_4_method_9_code
def y_Mo_holds : MethodName := ⟨R_Mo, "holds", "(II)Z"⟩
theorem mc_Mo_holds : Cond.code y_Mo_holds b_Mo_holds 4 (some .boolean) ∈ tblG := List.mem_filter.mpr ⟨List.mem_append_right _ (List.mem_of_getElem? (i := 340) rfl), rfl⟩
abbrev b_Mo_search : ByteArray := prog_4_method_10_code
def y_Mo_search : MethodName := ⟨R_Mo, "search", "(II)I"⟩
theorem mc_Mo_search : Cond.code y_Mo_search b_Mo_search 5 (some .int) ∈ tblG := List.mem_filter.mpr ⟨List.mem_append_right _ (List.mem_of_getElem? (i := 336) rfl), rfl⟩
abbrev b_Mo_answer : ByteArray := prog_4_method_11_code
def y_Mo_answer : MethodName := ⟨R_Mo, "answer", "()I"⟩
theorem mc_Mo_answer : Cond.code y_Mo_answer b_Mo_answer 1 (some .int) ∈ tblG := List.mem_filter.mpr ⟨List.mem_append_right _ (List.mem_of_getElem? (i := 332) rfl), rfl⟩
abbrev b_Mo_solve : ByteArray := prog_4_method_12_code
def y_Mo_solve : MethodName := ⟨R_Mo, "solve", "()Z"⟩
theorem mc_Mo_solve : Cond.code y_Mo_solve b_Mo_solve 1 (some .boolean) ∈ tblG := List.mem_filter.mpr ⟨List.mem_append_right _ (List.mem_of_getElem? (i := 344) rfl), rfl⟩
abbrev b_Mo_count : ByteArray := prog_4_method_13_code
def y_Mo_count : MethodName := ⟨R_Mo, "count", "(I)I"⟩
theorem mc_Mo_count : Cond.code y_Mo_count b_Mo_count 2 (some .int) ∈ tblG := List.mem_filter.mpr ⟨List.mem_append_right _ (List.mem_of_getElem? (i := 349) rfl), rfl⟩
abbrev b_Sv_init : ByteArray := prog_2_method_1_code
def y_Sv_init : MethodName := ⟨R_Sv, "<init>", "()V"⟩
theorem mc_Sv_init : Cond.code y_Sv_init b_Sv_init 1 none ∈ tblG := List.mem_filter.mpr ⟨List.mem_append_right _ (List.mem_of_getElem? (i := 19) rfl), rfl⟩
abbrev b_Sv_begin : ByteArray := prog_2_method_2_code
def y_Sv_begin : MethodName := ⟨R_Sv, "begin", "(I)V"⟩
theorem mc_Sv_begin : Cond.code y_Sv_begin b_Sv_begin 2 none ∈ tblG := List.mem_filter.mpr ⟨List.mem_append_right _ (List.mem_of_getElem? (i := 171) rfl), rfl⟩
abbrev b_Sv_yes : ByteArray := prog_2_method_3_code
def y_Sv_yes : MethodName := ⟨R_Sv, "yes", "(I)I"⟩
theorem mc_Sv_yes : Cond.code y_Sv_yes b_Sv_yes 1 (some .int) ∈ tblG := List.mem_filter.mpr ⟨List.mem_append_right _ (List.mem_of_getElem? (i := 177) rfl), rfl⟩
abbrev b_Sv_no : ByteArray := prog_2_method_4_code
def y_Sv_no : MethodName := ⟨R_Sv, "no", "(I)I"⟩
theorem mc_Sv_no : Cond.code y_Sv_no b_Sv_no 1 (some .int) ∈ tblG := List.mem_filter.mpr ⟨List.mem_append_right _ (List.mem_of_getElem? (i := 184) rfl), rfl⟩
abbrev b_Sv_valueOf : ByteArray := prog_2_method_5_code
def y_Sv_valueOf : MethodName := ⟨R_Sv, "valueOf", "(I)I"⟩
theorem mc_Sv_valueOf : Cond.code y_Sv_valueOf b_Sv_valueOf 2 (some .int) ∈ tblG := List.mem_filter.mpr ⟨List.mem_append_right _ (List.mem_of_getElem? (i := 192) rfl), rfl⟩
abbrev b_Sv_isTrue : ByteArray := prog_2_method_6_code
def y_Sv_isTrue : MethodName := ⟨R_Sv, "isTrue", "(I)Z"⟩
theorem mc_Sv_isTrue : Cond.code y_Sv_isTrue b_Sv_isTrue 2 (some .boolean) ∈ tblG := List.mem_filter.mpr ⟨List.mem_append_right _ (List.mem_of_getElem? (i := 259) rfl), rfl⟩
abbrev b_Sv_with : ByteArray := prog_2_method_7_code
def y_Sv_with : MethodName := ⟨R_Sv, "with", "(I)V"⟩
theorem mc_Sv_with : Cond.code y_Sv_with b_Sv_with 3 none ∈ tblG := List.mem_filter.mpr ⟨List.mem_append_right _ (List.mem_of_getElem? (i := 181) rfl), rfl⟩
abbrev b_Sv_add : ByteArray := prog_2_method_8_code
def y_Sv_add : MethodName := ⟨R_Sv, "add", "()V"⟩
theorem mc_Sv_add : Cond.code y_Sv_add b_Sv_add 4 none ∈ tblG := List.mem_filter.mpr ⟨List.mem_append_right _ (List.mem_of_getElem? (i := 188) rfl), rfl⟩
abbrev b_Sv_keep : ByteArray := prog_2_method_9_code
def y_Sv_keep : MethodName := ⟨R_Sv, "keep", "(Z)I"⟩
theorem mc_Sv_keep : Cond.code y_Sv_keep b_Sv_keep 4 (some .int) ∈ tblG := List.mem_filter.mpr ⟨List.mem_append_right _ (List.mem_of_getElem? (i := 200) rfl), rfl⟩
abbrev b_Sv_forget : ByteArray := prog_2_method_10_code
def y_Sv_forget : MethodName := ⟨R_Sv, "forget", "()V"⟩
theorem mc_Sv_forget : Cond.code y_Sv_forget b_Sv_forget 7 none ∈ tblG := List.mem_filter.mpr ⟨List.mem_append_right _ (List.mem_of_getElem? (i := 204) rfl), rfl⟩
abbrev b_Sv_watchBest : ByteArray := prog_2_method_11_code
def y_Sv_watchBest : MethodName := ⟨R_Sv, "watchBest", "(II)V"⟩
theorem mc_Sv_watchBest : Cond.code y_Sv_watchBest b_Sv_watchBest 5 none ∈ tblG := List.mem_filter.mpr ⟨List.mem_append_right _ (List.mem_of_getElem? (i := 208) rfl), rfl⟩
abbrev b_Sv_rank : ByteArray := prog_2_method_12_code
def y_Sv_rank : MethodName := ⟨R_Sv, "rank", "(I)I"⟩
theorem mc_Sv_rank : Cond.code y_Sv_rank b_Sv_rank 2 (some .int) ∈ tblG := List.mem_filter.mpr ⟨List.mem_append_right _ (List.mem_of_getElem? (i := 212) rfl), rfl⟩
abbrev b_Sv_look : ByteArray := prog_2_method_13_code
def y_Sv_look : MethodName := ⟨R_Sv, "look", "(II)V"⟩
theorem mc_Sv_look : Cond.code y_Sv_look b_Sv_look 4 none ∈ tblG := List.mem_filter.mpr ⟨List.mem_append_right _ (List.mem_of_getElem? (i := 216) rfl), rfl⟩
abbrev b_Sv_set : ByteArray := prog_2_method_14_code
def y_Sv_set : MethodName := ⟨R_Sv, "set", "(II)V"⟩
theorem mc_Sv_set : Cond.code y_Sv_set b_Sv_set 4 none ∈ tblG := List.mem_filter.mpr ⟨List.mem_append_right _ (List.mem_of_getElem? (i := 196) rfl), rfl⟩
abbrev b_Sv_propagate : ByteArray := prog_2_method_15_code
def y_Sv_propagate : MethodName := ⟨R_Sv, "propagate", "()I"⟩
theorem mc_Sv_propagate : Cond.code y_Sv_propagate b_Sv_propagate 8 (some .int) ∈ tblG := List.mem_filter.mpr ⟨List.mem_append_right _ (List.mem_of_getElem? (i := 228) rfl), rfl⟩
abbrev b_Sv_rest : ByteArray := prog_2_method_16_code
def y_Sv_rest : MethodName := ⟨R_Sv, "rest", "(II)V"⟩
theorem mc_Sv_rest : Cond.code y_Sv_rest b_Sv_rest 5 none ∈ tblG := List.mem_filter.mpr ⟨List.mem_append_right _ (List.mem_of_getElem? (i := 232) rfl), rfl⟩
abbrev b_Sv_back : ByteArray := prog_2_method_17_code
def y_Sv_back : MethodName := ⟨R_Sv, "back", "(I)V"⟩
theorem mc_Sv_back : Cond.code y_Sv_back b_Sv_back 2 none ∈ tblG := List.mem_filter.mpr ⟨List.mem_append_right _ (List.mem_of_getElem? (i := 241) rfl), rfl⟩
abbrev b_Sv_learn : ByteArray := prog_2_method_18_code
def y_Sv_learn : MethodName := ⟨R_Sv, "learn", "(I)Z"⟩
theorem mc_Sv_learn : Cond.code y_Sv_learn b_Sv_learn 10 (some .boolean) ∈ tblG := List.mem_filter.mpr ⟨List.mem_append_right _ (List.mem_of_getElem? (i := 236) rfl), rfl⟩
abbrev b_Sv_settle : ByteArray := prog_2_method_19_code
def y_Sv_settle : MethodName := ⟨R_Sv, "settle", "()Z"⟩
theorem mc_Sv_settle : Cond.code y_Sv_settle b_Sv_settle 2 (some .boolean) ∈ tblG := List.mem_filter.mpr ⟨List.mem_append_right _ (List.mem_of_getElem? (i := 224) rfl), rfl⟩
abbrev b_Sv_open : ByteArray := prog_2_method_20_code
def y_Sv_open : MethodName := ⟨R_Sv, "open", "()I"⟩
theorem mc_Sv_open : Cond.code y_Sv_open b_Sv_open 2 (some .int) ∈ tblG := List.mem_filter.mpr ⟨List.mem_append_right _ (List.mem_of_getElem? (i := 248) rfl), rfl⟩
abbrev b_Sv_solve : ByteArray := prog_2_method_21_code
def y_Sv_solve : MethodName := ⟨R_Sv, "solve", "()Z"⟩
theorem mc_Sv_solve : Cond.code y_Sv_solve b_Sv_solve 2 (some .boolean) ∈ tblG := List.mem_filter.mpr ⟨List.mem_append_right _ (List.mem_of_getElem? (i := 220) rfl), rfl⟩
abbrev b_La_cell : ByteArray := method_2_code
def y_La_cell : MethodName := ⟨R_law, "cell", "([II)I"⟩
theorem mc_La_cell : Cond.code y_La_cell b_La_cell 2 (some .int) ∈ tblG := List.mem_filter.mpr ⟨List.mem_append_right _ (List.mem_of_getElem? (i := 266) rfl), rfl⟩
abbrev b_In_bitCount : ByteArray := prog_5_method_49_code
def y_In_bitCount : MethodName := ⟨"java/lang/Integer", "bitCount", "(I)I"⟩
theorem mc_In_bitCount : Cond.code y_In_bitCount b_In_bitCount 1 (some .int) ∈ tblG := List.mem_filter.mpr ⟨List.mem_append_right _ (List.mem_of_getElem? (i := 144) rfl), rfl⟩
abbrev b_Ma_max : ByteArray := prog_6_method_65_code
def y_Ma_max : MethodName := ⟨"java/lang/Math", "max", "(II)I"⟩
theorem mc_Ma_max : Cond.code y_Ma_max b_Ma_max 2 (some .int) ∈ tblG := List.mem_filter.mpr ⟨List.mem_append_right _ (List.mem_of_getElem? (i := 96) rfl), rfl⟩
abbrev b_Ma_min : ByteArray := prog_6_method_69_code
def y_Ma_min : MethodName := ⟨"java/lang/Math", "min", "(II)I"⟩
theorem mc_Ma_min : Cond.code y_Ma_min b_Ma_min 2 (some .int) ∈ tblG := List.mem_filter.mpr ⟨List.mem_append_right _ (List.mem_of_getElem? (i := 99) rfl), rfl⟩
abbrev b_Ar_fillI : ByteArray := prog_7_method_103_code
def y_Ar_fillI : MethodName := ⟨"java/util/Arrays", "fill", "([II)V"⟩
theorem mc_Ar_fillI : Cond.code y_Ar_fillI b_Ar_fillI 4 none ∈ tblG := List.mem_filter.mpr ⟨List.mem_append_right _ (List.mem_of_getElem? (i := 174) rfl), rfl⟩
abbrev b_Ar_fillZ : ByteArray := prog_7_method_111_code
def y_Ar_fillZ : MethodName := ⟨"java/util/Arrays", "fill", "([ZZ)V"⟩
theorem mc_Ar_fillZ : Cond.code y_Ar_fillZ b_Ar_fillZ 4 none ∈ tblG := List.mem_filter.mpr ⟨List.mem_append_right _ (List.mem_of_getElem? (i := 244) rfl), rfl⟩
abbrev b_La_law : ByteArray := code
set_option maxRecDepth 20000 in
theorem lk_Ou_27 : LkS R_Ou 27 y_Ma_max b_Ma_max 2 (some .int) 2 := ⟨by decide +kernel, mc_Ma_max, by decide +kernel, by decide +kernel, by decide +kernel⟩
set_option maxRecDepth 20000 in
theorem lk_Ou_33 : LkS R_Ou 33 y_Ma_min b_Ma_min 2 (some .int) 2 := ⟨by decide +kernel, mc_Ma_min, by decide +kernel, by decide +kernel, by decide +kernel⟩
set_option maxRecDepth 20000 in
theorem lk_Ou_40 : LkS R_Ou 40 y_Ou_in b_Ou_in 3 (some .boolean) 3 := ⟨by decide +kernel, mc_Ou_in, by decide +kernel, by decide +kernel, by decide +kernel⟩
set_option maxRecDepth 20000 in
theorem lk_Ou_54 : LkS R_Ou 54 y_In_bitCount b_In_bitCount 1 (some .int) 1 := ⟨by decide +kernel, mc_In_bitCount, by decide +kernel, by decide +kernel, by decide +kernel⟩
set_option maxRecDepth 20000 in
theorem lk_Ou_63 : LkV R_Ou 63 y_Ou_keep b_Ou_keep 3 (some .int) 2 := ⟨by decide +kernel, mc_Ou_keep, by decide +kernel, by decide +kernel, by decide +kernel⟩
set_option maxRecDepth 20000 in
theorem lk_Ou_69 : LkV R_Ou 69 y_Sv_begin b_Sv_begin 2 none 1 := ⟨by decide +kernel, mc_Sv_begin, by decide +kernel, by decide +kernel, by decide +kernel⟩
set_option maxRecDepth 20000 in
theorem lk_Ou_74 : LkS R_Ou 74 y_Sv_yes b_Sv_yes 1 (some .int) 1 := ⟨by decide +kernel, mc_Sv_yes, by decide +kernel, by decide +kernel, by decide +kernel⟩
set_option maxRecDepth 20000 in
theorem lk_Ou_76 : LkV R_Ou 76 y_Sv_with b_Sv_with 3 none 1 := ⟨by decide +kernel, mc_Sv_with, by decide +kernel, by decide +kernel, by decide +kernel⟩
set_option maxRecDepth 20000 in
theorem lk_Ou_79 : LkS R_Ou 79 y_Sv_no b_Sv_no 1 (some .int) 1 := ⟨by decide +kernel, mc_Sv_no, by decide +kernel, by decide +kernel, by decide +kernel⟩
set_option maxRecDepth 20000 in
theorem lk_Ou_81 : LkV R_Ou 81 y_Sv_add b_Sv_add 4 none 0 := ⟨by decide +kernel, mc_Sv_add, by decide +kernel, by decide +kernel, by decide +kernel⟩
set_option maxRecDepth 20000 in
theorem lk_Ou_84 : LkV R_Ou 84 y_Sv_solve b_Sv_solve 2 (some .boolean) 0 := ⟨by decide +kernel, mc_Sv_solve, by decide +kernel, by decide +kernel, by decide +kernel⟩
set_option maxRecDepth 20000 in
theorem lk_Ou_88 : LkV R_Ou 88 y_Ou_solve b_Ou_solve 3 (some .boolean) 0 := ⟨by decide +kernel, mc_Ou_solve, by decide +kernel, by decide +kernel, by decide +kernel⟩
set_option maxRecDepth 20000 in
theorem lk_Ou_89 : LkV R_Ou 89 y_Sv_isTrue b_Sv_isTrue 2 (some .boolean) 1 := ⟨by decide +kernel, mc_Sv_isTrue, by decide +kernel, by decide +kernel, by decide +kernel⟩
set_option maxRecDepth 20000 in
theorem lk_Mo_24 : LkV R_Mo 24 y_Mo_is b_Mo_is 2 (some .boolean) 1 := ⟨by decide +kernel, mc_Mo_is, by decide +kernel, by decide +kernel, by decide +kernel⟩
set_option maxRecDepth 20000 in
theorem lk_Mo_38 : LkS R_Mo 38 y_Mo_bits b_Mo_bits 3 (some .int) 1 := ⟨by decide +kernel, mc_Mo_bits, by decide +kernel, by decide +kernel, by decide +kernel⟩
set_option maxRecDepth 20000 in
theorem lk_Mo_45 : LkV R_Mo 45 y_Mo_some b_Mo_some 3 (some .int) 2 := ⟨by decide +kernel, mc_Mo_some, by decide +kernel, by decide +kernel, by decide +kernel⟩
set_option maxRecDepth 20000 in
theorem lk_Mo_49 : LkV R_Mo 49 y_Mo_holds b_Mo_holds 4 (some .boolean) 2 := ⟨by decide +kernel, mc_Mo_holds, by decide +kernel, by decide +kernel, by decide +kernel⟩
set_option maxRecDepth 20000 in
theorem lk_Mo_53 : LkV R_Mo 53 y_Mo_search b_Mo_search 5 (some .int) 2 := ⟨by decide +kernel, mc_Mo_search, by decide +kernel, by decide +kernel, by decide +kernel⟩
set_option maxRecDepth 20000 in
theorem lk_Mo_59 : LkV R_Mo 59 y_Mo_answer b_Mo_answer 1 (some .int) 0 := ⟨by decide +kernel, mc_Mo_answer, by decide +kernel, by decide +kernel, by decide +kernel⟩
set_option maxRecDepth 20000 in
theorem lk_Sv_84 : LkS R_Sv 84 y_Ar_fillI b_Ar_fillI 4 none 2 := ⟨by decide +kernel, mc_Ar_fillI, by decide +kernel, by decide +kernel, by decide +kernel⟩
set_option maxRecDepth 20000 in
theorem lk_Sv_90 : LkV R_Sv 90 y_Sv_valueOf b_Sv_valueOf 2 (some .int) 1 := ⟨by decide +kernel, mc_Sv_valueOf, by decide +kernel, by decide +kernel, by decide +kernel⟩
set_option maxRecDepth 20000 in
theorem lk_Sv_94 : LkV R_Sv 94 y_Sv_set b_Sv_set 4 none 2 := ⟨by decide +kernel, mc_Sv_set, by decide +kernel, by decide +kernel, by decide +kernel⟩
set_option maxRecDepth 20000 in
theorem lk_Sv_98 : LkV R_Sv 98 y_Sv_keep b_Sv_keep 4 (some .int) 1 := ⟨by decide +kernel, mc_Sv_keep, by decide +kernel, by decide +kernel, by decide +kernel⟩
set_option maxRecDepth 20000 in
theorem lk_Sv_102 : LkV R_Sv 102 y_Sv_forget b_Sv_forget 7 none 0 := ⟨by decide +kernel, mc_Sv_forget, by decide +kernel, by decide +kernel, by decide +kernel⟩
set_option maxRecDepth 20000 in
theorem lk_Sv_105 : LkV R_Sv 105 y_Sv_look b_Sv_look 4 none 2 := ⟨by decide +kernel, mc_Sv_look, by decide +kernel, by decide +kernel, by decide +kernel⟩
set_option maxRecDepth 20000 in
theorem lk_Sv_108 : LkV R_Sv 108 y_Sv_watchBest b_Sv_watchBest 5 none 2 := ⟨by decide +kernel, mc_Sv_watchBest, by decide +kernel, by decide +kernel, by decide +kernel⟩
set_option maxRecDepth 20000 in
theorem lk_Sv_111 : LkV R_Sv 111 y_Sv_rank b_Sv_rank 2 (some .int) 1 := ⟨by decide +kernel, mc_Sv_rank, by decide +kernel, by decide +kernel, by decide +kernel⟩
set_option maxRecDepth 20000 in
theorem lk_Sv_114 : LkV R_Sv 114 y_Sv_rest b_Sv_rest 5 none 2 := ⟨by decide +kernel, mc_Sv_rest, by decide +kernel, by decide +kernel, by decide +kernel⟩
set_option maxRecDepth 20000 in
theorem lk_Sv_117 : LkS R_Sv 117 y_Ma_max b_Ma_max 2 (some .int) 2 := ⟨by decide +kernel, mc_Ma_max, by decide +kernel, by decide +kernel, by decide +kernel⟩
set_option maxRecDepth 20000 in
theorem lk_Sv_123 : LkV R_Sv 123 y_Sv_back b_Sv_back 2 none 1 := ⟨by decide +kernel, mc_Sv_back, by decide +kernel, by decide +kernel, by decide +kernel⟩
set_option maxRecDepth 20000 in
theorem lk_Sv_127 : LkS R_Sv 127 y_Ar_fillZ b_Ar_fillZ 4 none 2 := ⟨by decide +kernel, mc_Ar_fillZ, by decide +kernel, by decide +kernel, by decide +kernel⟩
set_option maxRecDepth 20000 in
theorem lk_Sv_130 : LkV R_Sv 130 y_Sv_propagate b_Sv_propagate 8 (some .int) 0 := ⟨by decide +kernel, mc_Sv_propagate, by decide +kernel, by decide +kernel, by decide +kernel⟩
set_option maxRecDepth 20000 in
theorem lk_Sv_134 : LkV R_Sv 134 y_Sv_learn b_Sv_learn 10 (some .boolean) 1 := ⟨by decide +kernel, mc_Sv_learn, by decide +kernel, by decide +kernel, by decide +kernel⟩
set_option maxRecDepth 20000 in
theorem lk_Sv_138 : LkV R_Sv 138 y_Sv_settle b_Sv_settle 2 (some .boolean) 0 := ⟨by decide +kernel, mc_Sv_settle, by decide +kernel, by decide +kernel, by decide +kernel⟩
set_option maxRecDepth 20000 in
theorem lk_Sv_142 : LkV R_Sv 142 y_Sv_open b_Sv_open 2 (some .int) 0 := ⟨by decide +kernel, mc_Sv_open, by decide +kernel, by decide +kernel, by decide +kernel⟩
set_option maxRecDepth 20000 in
theorem lk_Sv_145 : LkS R_Sv 145 y_Sv_yes b_Sv_yes 1 (some .int) 1 := ⟨by decide +kernel, mc_Sv_yes, by decide +kernel, by decide +kernel, by decide +kernel⟩
set_option maxRecDepth 20000 in
theorem lk_Sv_148 : LkS R_Sv 148 y_Sv_no b_Sv_no 1 (some .int) 1 := ⟨by decide +kernel, mc_Sv_no, by decide +kernel, by decide +kernel, by decide +kernel⟩
set_option maxRecDepth 20000 in
theorem lk_La_9 : LkS R_law 9 y_La_cell b_La_cell 2 (some .int) 2 := ⟨by decide +kernel, mc_La_cell, by decide +kernel, by decide +kernel, by decide +kernel⟩
set_option maxRecDepth 20000 in
theorem lk_La_21 : LkV R_law 21 y_Ou_wish b_Ou_wish 4 (some .boolean) 2 := ⟨by decide +kernel, mc_Ou_wish, by decide +kernel, by decide +kernel, by decide +kernel⟩
set_option maxRecDepth 20000 in
theorem lk_La_25 : LkV R_law 25 y_Mo_wish b_Mo_wish 4 (some .boolean) 2 := ⟨by decide +kernel, mc_Mo_wish, by decide +kernel, by decide +kernel, by decide +kernel⟩
set_option maxRecDepth 20000 in
theorem lk_La_26 : LkV R_law 26 y_Ou_literal b_Ou_literal 3 (some .int) 2 := ⟨by decide +kernel, mc_Ou_literal, by decide +kernel, by decide +kernel, by decide +kernel⟩
set_option maxRecDepth 20000 in
theorem lk_La_30 : LkV R_law 30 y_Mo_literal b_Mo_literal 3 (some .int) 2 := ⟨by decide +kernel, mc_Mo_literal, by decide +kernel, by decide +kernel, by decide +kernel⟩
set_option maxRecDepth 20000 in
theorem lk_La_31 : LkV R_law 31 y_Ou_clause b_Ou_clause 1 (some .int) 0 := ⟨by decide +kernel, mc_Ou_clause, by decide +kernel, by decide +kernel, by decide +kernel⟩
set_option maxRecDepth 20000 in
theorem lk_La_35 : LkV R_law 35 y_Mo_clause b_Mo_clause 1 (some .int) 0 := ⟨by decide +kernel, mc_Mo_clause, by decide +kernel, by decide +kernel, by decide +kernel⟩
set_option maxRecDepth 20000 in
theorem lk_La_36 : LkV R_law 36 y_Ou_some b_Ou_some 7 (some .int) 2 := ⟨by decide +kernel, mc_Ou_some, by decide +kernel, by decide +kernel, by decide +kernel⟩
set_option maxRecDepth 20000 in
theorem lk_La_40 : LkV R_law 40 y_Mo_some b_Mo_some 3 (some .int) 2 := ⟨by decide +kernel, mc_Mo_some, by decide +kernel, by decide +kernel, by decide +kernel⟩
set_option maxRecDepth 20000 in
theorem lk_La_41 : LkV R_law 41 y_Ou_drop b_Ou_drop 2 (some .int) 1 := ⟨by decide +kernel, mc_Ou_drop, by decide +kernel, by decide +kernel, by decide +kernel⟩
set_option maxRecDepth 20000 in
theorem lk_La_45 : LkV R_law 45 y_Mo_drop b_Mo_drop 2 (some .int) 1 := ⟨by decide +kernel, mc_Mo_drop, by decide +kernel, by decide +kernel, by decide +kernel⟩
set_option maxRecDepth 20000 in
theorem lk_La_46 : LkV R_law 46 y_Ou_solve b_Ou_solve 3 (some .boolean) 0 := ⟨by decide +kernel, mc_Ou_solve, by decide +kernel, by decide +kernel, by decide +kernel⟩
set_option maxRecDepth 20000 in
theorem lk_La_50 : LkV R_law 50 y_Mo_solve b_Mo_solve 1 (some .boolean) 0 := ⟨by decide +kernel, mc_Mo_solve, by decide +kernel, by decide +kernel, by decide +kernel⟩
set_option maxRecDepth 20000 in
theorem lk_La_51 : LkV R_law 51 y_Ou_answer b_Ou_answer 3 (some .int) 0 := ⟨by decide +kernel, mc_Ou_answer, by decide +kernel, by decide +kernel, by decide +kernel⟩
set_option maxRecDepth 20000 in
theorem lk_La_54 : LkV R_law 54 y_Mo_answer b_Mo_answer 1 (some .int) 0 := ⟨by decide +kernel, mc_Mo_answer, by decide +kernel, by decide +kernel, by decide +kernel⟩
set_option maxRecDepth 20000 in
theorem lk_La_55 : LkV R_law 55 y_Ou_count b_Ou_count 2 (some .int) 1 := ⟨by decide +kernel, mc_Ou_count, by decide +kernel, by decide +kernel, by decide +kernel⟩
set_option maxRecDepth 20000 in
theorem lk_La_58 : LkV R_law 58 y_Mo_count b_Mo_count 2 (some .int) 1 := ⟨by decide +kernel, mc_Mo_count, by decide +kernel, by decide +kernel, by decide +kernel⟩
end
section
theorem d_Sv_init_0 : decode b_Sv_init 0 = .ok (.aload_n 0, 1) := by decide +kernel
theorem d_Sv_init_1 : decode b_Sv_init 1 = .ok (.invokespecial 5, 3) := by decide +kernel
theorem d_Sv_init_4 : decode b_Sv_init 4 = .ok (.aload_n 0, 1) := by decide +kernel
theorem d_Sv_init_5 : decode b_Sv_init 5 = .ok (.bipush 16, 2) := by decide +kernel
theorem d_Sv_init_7 : decode b_Sv_init 7 = .ok (.newarray .boolean, 2) := by decide +kernel
theorem d_Sv_init_9 : decode b_Sv_init 9 = .ok (.putfield 11, 3) := by decide +kernel
theorem d_Sv_init_12 : decode b_Sv_init 12 = .ok (.aload_n 0, 1) := by decide +kernel
theorem d_Sv_init_13 : decode b_Sv_init 13 = .ok (.sipush 9872, 3) := by decide +kernel
theorem d_Sv_init_16 : decode b_Sv_init 16 = .ok (.newarray .int, 2) := by decide +kernel
theorem d_Sv_init_18 : decode b_Sv_init 18 = .ok (.putfield 15, 3) := by decide +kernel
theorem d_Sv_init_21 : decode b_Sv_init 21 = .ok (.aload_n 0, 1) := by decide +kernel
theorem d_Sv_init_22 : decode b_Sv_init 22 = .ok (.sipush 618, 3) := by decide +kernel
theorem d_Sv_init_25 : decode b_Sv_init 25 = .ok (.newarray .int, 2) := by decide +kernel
theorem d_Sv_init_27 : decode b_Sv_init 27 = .ok (.putfield 19, 3) := by decide +kernel
theorem d_Sv_init_30 : decode b_Sv_init 30 = .ok (.aload_n 0, 1) := by decide +kernel
theorem d_Sv_init_31 : decode b_Sv_init 31 = .ok (.sipush 1234, 3) := by decide +kernel
theorem d_Sv_init_34 : decode b_Sv_init 34 = .ok (.newarray .int, 2) := by decide +kernel
theorem d_Sv_init_36 : decode b_Sv_init 36 = .ok (.putfield 22, 3) := by decide +kernel
theorem d_Sv_init_39 : decode b_Sv_init 39 = .ok (.aload_n 0, 1) := by decide +kernel
theorem d_Sv_init_40 : decode b_Sv_init 40 = .ok (.sipush 617, 3) := by decide +kernel
theorem d_Sv_init_43 : decode b_Sv_init 43 = .ok (.newarray .boolean, 2) := by decide +kernel
theorem d_Sv_init_45 : decode b_Sv_init 45 = .ok (.putfield 25, 3) := by decide +kernel
theorem d_Sv_init_48 : decode b_Sv_init 48 = .ok (.aload_n 0, 1) := by decide +kernel
theorem d_Sv_init_49 : decode b_Sv_init 49 = .ok (.sipush 617, 3) := by decide +kernel
theorem d_Sv_init_52 : decode b_Sv_init 52 = .ok (.newarray .int, 2) := by decide +kernel
theorem d_Sv_init_54 : decode b_Sv_init 54 = .ok (.putfield 28, 3) := by decide +kernel
theorem d_Sv_init_57 : decode b_Sv_init 57 = .ok (.aload_n 0, 1) := by decide +kernel
theorem d_Sv_init_58 : decode b_Sv_init 58 = .ok (.bipush 32, 2) := by decide +kernel
theorem d_Sv_init_60 : decode b_Sv_init 60 = .ok (.newarray .int, 2) := by decide +kernel
theorem d_Sv_init_62 : decode b_Sv_init 62 = .ok (.putfield 31, 3) := by decide +kernel
theorem d_Sv_init_65 : decode b_Sv_init 65 = .ok (.aload_n 0, 1) := by decide +kernel
theorem d_Sv_init_66 : decode b_Sv_init 66 = .ok (.bipush 16, 2) := by decide +kernel
theorem d_Sv_init_68 : decode b_Sv_init 68 = .ok (.newarray .int, 2) := by decide +kernel
theorem d_Sv_init_70 : decode b_Sv_init 70 = .ok (.putfield 34, 3) := by decide +kernel
theorem d_Sv_init_73 : decode b_Sv_init 73 = .ok (.aload_n 0, 1) := by decide +kernel
theorem d_Sv_init_74 : decode b_Sv_init 74 = .ok (.bipush 16, 2) := by decide +kernel
theorem d_Sv_init_76 : decode b_Sv_init 76 = .ok (.newarray .int, 2) := by decide +kernel
theorem d_Sv_init_78 : decode b_Sv_init 78 = .ok (.putfield 37, 3) := by decide +kernel
theorem d_Sv_init_81 : decode b_Sv_init 81 = .ok (.aload_n 0, 1) := by decide +kernel
theorem d_Sv_init_82 : decode b_Sv_init 82 = .ok (.bipush 16, 2) := by decide +kernel
theorem d_Sv_init_84 : decode b_Sv_init 84 = .ok (.newarray .int, 2) := by decide +kernel
theorem d_Sv_init_86 : decode b_Sv_init 86 = .ok (.putfield 40, 3) := by decide +kernel
theorem d_Sv_init_89 : decode b_Sv_init 89 = .ok (.aload_n 0, 1) := by decide +kernel
theorem d_Sv_init_90 : decode b_Sv_init 90 = .ok (.bipush 16, 2) := by decide +kernel
theorem d_Sv_init_92 : decode b_Sv_init 92 = .ok (.newarray .int, 2) := by decide +kernel
theorem d_Sv_init_94 : decode b_Sv_init 94 = .ok (.putfield 43, 3) := by decide +kernel
theorem d_Sv_init_97 : decode b_Sv_init 97 = .ok (.aload_n 0, 1) := by decide +kernel
theorem d_Sv_init_98 : decode b_Sv_init 98 = .ok (.bipush 17, 2) := by decide +kernel
theorem d_Sv_init_100 : decode b_Sv_init 100 = .ok (.newarray .int, 2) := by decide +kernel
theorem d_Sv_init_102 : decode b_Sv_init 102 = .ok (.putfield 46, 3) := by decide +kernel
theorem d_Sv_init_105 : decode b_Sv_init 105 = .ok (.aload_n 0, 1) := by decide +kernel
theorem d_Sv_init_106 : decode b_Sv_init 106 = .ok (.bipush 32, 2) := by decide +kernel
theorem d_Sv_init_108 : decode b_Sv_init 108 = .ok (.newarray .int, 2) := by decide +kernel
theorem d_Sv_init_110 : decode b_Sv_init 110 = .ok (.putfield 49, 3) := by decide +kernel
theorem d_Sv_init_113 : decode b_Sv_init 113 = .ok (.aload_n 0, 1) := by decide +kernel
theorem d_Sv_init_114 : decode b_Sv_init 114 = .ok (.bipush 16, 2) := by decide +kernel
theorem d_Sv_init_116 : decode b_Sv_init 116 = .ok (.newarray .boolean, 2) := by decide +kernel
theorem d_Sv_init_118 : decode b_Sv_init 118 = .ok (.putfield 52, 3) := by decide +kernel
theorem d_Sv_init_121 : decode b_Sv_init 121 = .ok (.return_, 1) := by decide +kernel
theorem d_Sv_begin_0 : decode b_Sv_begin 0 = .ok (.aload_n 0, 1) := by decide +kernel
theorem d_Sv_begin_1 : decode b_Sv_begin 1 = .ok (.iload_n 1, 1) := by decide +kernel
theorem d_Sv_begin_2 : decode b_Sv_begin 2 = .ok (.putfield 55, 3) := by decide +kernel
theorem d_Sv_begin_5 : decode b_Sv_begin 5 = .ok (.aload_n 0, 1) := by decide +kernel
theorem d_Sv_begin_6 : decode b_Sv_begin 6 = .ok (.iconst 0, 1) := by decide +kernel
theorem d_Sv_begin_7 : decode b_Sv_begin 7 = .ok (.putfield 59, 3) := by decide +kernel
theorem d_Sv_begin_10 : decode b_Sv_begin 10 = .ok (.aload_n 0, 1) := by decide +kernel
theorem d_Sv_begin_11 : decode b_Sv_begin 11 = .ok (.iconst 0, 1) := by decide +kernel
theorem d_Sv_begin_12 : decode b_Sv_begin 12 = .ok (.putfield 62, 3) := by decide +kernel
theorem d_Sv_begin_15 : decode b_Sv_begin 15 = .ok (.aload_n 0, 1) := by decide +kernel
theorem d_Sv_begin_16 : decode b_Sv_begin 16 = .ok (.iconst 0, 1) := by decide +kernel
theorem d_Sv_begin_17 : decode b_Sv_begin 17 = .ok (.putfield 65, 3) := by decide +kernel
theorem d_Sv_begin_20 : decode b_Sv_begin 20 = .ok (.aload_n 0, 1) := by decide +kernel
theorem d_Sv_begin_21 : decode b_Sv_begin 21 = .ok (.iconst 0, 1) := by decide +kernel
theorem d_Sv_begin_22 : decode b_Sv_begin 22 = .ok (.putfield 68, 3) := by decide +kernel
theorem d_Sv_begin_25 : decode b_Sv_begin 25 = .ok (.aload_n 0, 1) := by decide +kernel
theorem d_Sv_begin_26 : decode b_Sv_begin 26 = .ok (.iconst 0, 1) := by decide +kernel
theorem d_Sv_begin_27 : decode b_Sv_begin 27 = .ok (.putfield 71, 3) := by decide +kernel
theorem d_Sv_begin_30 : decode b_Sv_begin 30 = .ok (.aload_n 0, 1) := by decide +kernel
theorem d_Sv_begin_31 : decode b_Sv_begin 31 = .ok (.iconst 0, 1) := by decide +kernel
theorem d_Sv_begin_32 : decode b_Sv_begin 32 = .ok (.putfield 74, 3) := by decide +kernel
theorem d_Sv_begin_35 : decode b_Sv_begin 35 = .ok (.aload_n 0, 1) := by decide +kernel
theorem d_Sv_begin_36 : decode b_Sv_begin 36 = .ok (.iconst 0, 1) := by decide +kernel
theorem d_Sv_begin_37 : decode b_Sv_begin 37 = .ok (.putfield 77, 3) := by decide +kernel
theorem d_Sv_begin_40 : decode b_Sv_begin 40 = .ok (.aload_n 0, 1) := by decide +kernel
theorem d_Sv_begin_41 : decode b_Sv_begin 41 = .ok (.iconst 0, 1) := by decide +kernel
theorem d_Sv_begin_42 : decode b_Sv_begin 42 = .ok (.putfield 81, 3) := by decide +kernel
theorem d_Sv_begin_45 : decode b_Sv_begin 45 = .ok (.aload_n 0, 1) := by decide +kernel
theorem d_Sv_begin_46 : decode b_Sv_begin 46 = .ok (.getfield 31, 3) := by decide +kernel
theorem d_Sv_begin_49 : decode b_Sv_begin 49 = .ok (.iconst (-1), 1) := by decide +kernel
theorem d_Sv_begin_50 : decode b_Sv_begin 50 = .ok (.invokestatic 84, 3) := by decide +kernel
theorem d_Sv_begin_53 : decode b_Sv_begin 53 = .ok (.aload_n 0, 1) := by decide +kernel
theorem d_Sv_begin_54 : decode b_Sv_begin 54 = .ok (.getfield 34, 3) := by decide +kernel
theorem d_Sv_begin_57 : decode b_Sv_begin 57 = .ok (.iconst 0, 1) := by decide +kernel
theorem d_Sv_begin_58 : decode b_Sv_begin 58 = .ok (.invokestatic 84, 3) := by decide +kernel
theorem d_Sv_begin_61 : decode b_Sv_begin 61 = .ok (.aload_n 0, 1) := by decide +kernel
theorem d_Sv_begin_62 : decode b_Sv_begin 62 = .ok (.getfield 46, 3) := by decide +kernel
theorem d_Sv_begin_65 : decode b_Sv_begin 65 = .ok (.iconst 0, 1) := by decide +kernel
theorem d_Sv_begin_66 : decode b_Sv_begin 66 = .ok (.iconst 0, 1) := by decide +kernel
theorem d_Sv_begin_67 : decode b_Sv_begin 67 = .ok (.iastore, 1) := by decide +kernel
theorem d_Sv_begin_68 : decode b_Sv_begin 68 = .ok (.return_, 1) := by decide +kernel
theorem d_Sv_yes_0 : decode b_Sv_yes 0 = .ok (.iconst 2, 1) := by decide +kernel
theorem d_Sv_yes_1 : decode b_Sv_yes 1 = .ok (.iload_n 0, 1) := by decide +kernel
theorem d_Sv_yes_2 : decode b_Sv_yes 2 = .ok (.imul, 1) := by decide +kernel
theorem d_Sv_yes_3 : decode b_Sv_yes 3 = .ok (.ireturn, 1) := by decide +kernel
theorem d_Sv_no_0 : decode b_Sv_no 0 = .ok (.iconst 2, 1) := by decide +kernel
theorem d_Sv_no_1 : decode b_Sv_no 1 = .ok (.iload_n 0, 1) := by decide +kernel
theorem d_Sv_no_2 : decode b_Sv_no 2 = .ok (.imul, 1) := by decide +kernel
theorem d_Sv_no_3 : decode b_Sv_no 3 = .ok (.iconst 1, 1) := by decide +kernel
theorem d_Sv_no_4 : decode b_Sv_no 4 = .ok (.iadd, 1) := by decide +kernel
theorem d_Sv_no_5 : decode b_Sv_no 5 = .ok (.ireturn, 1) := by decide +kernel
theorem d_Sv_valueOf_0 : decode b_Sv_valueOf 0 = .ok (.iload_n 1, 1) := by decide +kernel
theorem d_Sv_valueOf_1 : decode b_Sv_valueOf 1 = .ok (.iconst 1, 1) := by decide +kernel
theorem d_Sv_valueOf_2 : decode b_Sv_valueOf 2 = .ok (.iand, 1) := by decide +kernel
theorem d_Sv_valueOf_3 : decode b_Sv_valueOf 3 = .ok (.ifCond .ne 14, 3) := by decide +kernel
theorem d_Sv_valueOf_6 : decode b_Sv_valueOf 6 = .ok (.aload_n 0, 1) := by decide +kernel
theorem d_Sv_valueOf_7 : decode b_Sv_valueOf 7 = .ok (.getfield 34, 3) := by decide +kernel
theorem d_Sv_valueOf_10 : decode b_Sv_valueOf 10 = .ok (.iload_n 1, 1) := by decide +kernel
theorem d_Sv_valueOf_11 : decode b_Sv_valueOf 11 = .ok (.iconst 1, 1) := by decide +kernel
theorem d_Sv_valueOf_12 : decode b_Sv_valueOf 12 = .ok (.ishr, 1) := by decide +kernel
theorem d_Sv_valueOf_13 : decode b_Sv_valueOf 13 = .ok (.iaload, 1) := by decide +kernel
theorem d_Sv_valueOf_14 : decode b_Sv_valueOf 14 = .ok (.goto 12, 3) := by decide +kernel
theorem d_Sv_valueOf_17 : decode b_Sv_valueOf 17 = .ok (.aload_n 0, 1) := by decide +kernel
theorem d_Sv_valueOf_18 : decode b_Sv_valueOf 18 = .ok (.getfield 34, 3) := by decide +kernel
theorem d_Sv_valueOf_21 : decode b_Sv_valueOf 21 = .ok (.iload_n 1, 1) := by decide +kernel
theorem d_Sv_valueOf_22 : decode b_Sv_valueOf 22 = .ok (.iconst 1, 1) := by decide +kernel
theorem d_Sv_valueOf_23 : decode b_Sv_valueOf 23 = .ok (.ishr, 1) := by decide +kernel
theorem d_Sv_valueOf_24 : decode b_Sv_valueOf 24 = .ok (.iaload, 1) := by decide +kernel
theorem d_Sv_valueOf_25 : decode b_Sv_valueOf 25 = .ok (.ineg, 1) := by decide +kernel
theorem d_Sv_valueOf_26 : decode b_Sv_valueOf 26 = .ok (.ireturn, 1) := by decide +kernel
theorem d_Sv_isTrue_0 : decode b_Sv_isTrue 0 = .ok (.aload_n 0, 1) := by decide +kernel
theorem d_Sv_isTrue_1 : decode b_Sv_isTrue 1 = .ok (.getfield 34, 3) := by decide +kernel
theorem d_Sv_isTrue_4 : decode b_Sv_isTrue 4 = .ok (.iload_n 1, 1) := by decide +kernel
theorem d_Sv_isTrue_5 : decode b_Sv_isTrue 5 = .ok (.iaload, 1) := by decide +kernel
theorem d_Sv_isTrue_6 : decode b_Sv_isTrue 6 = .ok (.ifCond .le 7, 3) := by decide +kernel
theorem d_Sv_isTrue_9 : decode b_Sv_isTrue 9 = .ok (.iconst 1, 1) := by decide +kernel
theorem d_Sv_isTrue_10 : decode b_Sv_isTrue 10 = .ok (.goto 4, 3) := by decide +kernel
theorem d_Sv_isTrue_13 : decode b_Sv_isTrue 13 = .ok (.iconst 0, 1) := by decide +kernel
theorem d_Sv_isTrue_14 : decode b_Sv_isTrue 14 = .ok (.ireturn, 1) := by decide +kernel
theorem d_Sv_with_0 : decode b_Sv_with 0 = .ok (.iconst 0, 1) := by decide +kernel
theorem d_Sv_with_1 : decode b_Sv_with 1 = .ok (.istore_n 2, 1) := by decide +kernel
theorem d_Sv_with_2 : decode b_Sv_with 2 = .ok (.iload_n 2, 1) := by decide +kernel
theorem d_Sv_with_3 : decode b_Sv_with 3 = .ok (.aload_n 0, 1) := by decide +kernel
theorem d_Sv_with_4 : decode b_Sv_with 4 = .ok (.getfield 81, 3) := by decide +kernel
theorem d_Sv_with_7 : decode b_Sv_with 7 = .ok (.if_icmp .ge 20, 3) := by decide +kernel
theorem d_Sv_with_10 : decode b_Sv_with 10 = .ok (.aload_n 0, 1) := by decide +kernel
theorem d_Sv_with_11 : decode b_Sv_with 11 = .ok (.getfield 49, 3) := by decide +kernel
theorem d_Sv_with_14 : decode b_Sv_with 14 = .ok (.iload_n 2, 1) := by decide +kernel
theorem d_Sv_with_15 : decode b_Sv_with 15 = .ok (.iaload, 1) := by decide +kernel
theorem d_Sv_with_16 : decode b_Sv_with 16 = .ok (.iload_n 1, 1) := by decide +kernel
theorem d_Sv_with_17 : decode b_Sv_with 17 = .ok (.if_icmp .ne 4, 3) := by decide +kernel
theorem d_Sv_with_20 : decode b_Sv_with 20 = .ok (.return_, 1) := by decide +kernel
theorem d_Sv_with_21 : decode b_Sv_with 21 = .ok (.iinc 2 1, 3) := by decide +kernel
theorem d_Sv_with_24 : decode b_Sv_with 24 = .ok (.goto (-22), 3) := by decide +kernel
theorem d_Sv_with_27 : decode b_Sv_with 27 = .ok (.aload_n 0, 1) := by decide +kernel
theorem d_Sv_with_28 : decode b_Sv_with 28 = .ok (.getfield 49, 3) := by decide +kernel
theorem d_Sv_with_31 : decode b_Sv_with 31 = .ok (.aload_n 0, 1) := by decide +kernel
theorem d_Sv_with_32 : decode b_Sv_with 32 = .ok (.getfield 81, 3) := by decide +kernel
theorem d_Sv_with_35 : decode b_Sv_with 35 = .ok (.iload_n 1, 1) := by decide +kernel
theorem d_Sv_with_36 : decode b_Sv_with 36 = .ok (.iastore, 1) := by decide +kernel
theorem d_Sv_with_37 : decode b_Sv_with 37 = .ok (.aload_n 0, 1) := by decide +kernel
theorem d_Sv_with_38 : decode b_Sv_with 38 = .ok (.dup, 1) := by decide +kernel
theorem d_Sv_with_39 : decode b_Sv_with 39 = .ok (.getfield 81, 3) := by decide +kernel
theorem d_Sv_with_42 : decode b_Sv_with 42 = .ok (.iconst 1, 1) := by decide +kernel
theorem d_Sv_with_43 : decode b_Sv_with 43 = .ok (.iadd, 1) := by decide +kernel
theorem d_Sv_with_44 : decode b_Sv_with 44 = .ok (.putfield 81, 3) := by decide +kernel
theorem d_Sv_with_47 : decode b_Sv_with 47 = .ok (.return_, 1) := by decide +kernel
theorem d_Sv_add_0 : decode b_Sv_add 0 = .ok (.iconst 0, 1) := by decide +kernel
theorem d_Sv_add_1 : decode b_Sv_add 1 = .ok (.istore_n 1, 1) := by decide +kernel
theorem d_Sv_add_2 : decode b_Sv_add 2 = .ok (.iconst 0, 1) := by decide +kernel
theorem d_Sv_add_3 : decode b_Sv_add 3 = .ok (.istore_n 2, 1) := by decide +kernel
theorem d_Sv_add_4 : decode b_Sv_add 4 = .ok (.iload_n 2, 1) := by decide +kernel
theorem d_Sv_add_5 : decode b_Sv_add 5 = .ok (.aload_n 0, 1) := by decide +kernel
theorem d_Sv_add_6 : decode b_Sv_add 6 = .ok (.getfield 81, 3) := by decide +kernel
theorem d_Sv_add_9 : decode b_Sv_add 9 = .ok (.if_icmp .ge 47, 3) := by decide +kernel
theorem d_Sv_add_12 : decode b_Sv_add 12 = .ok (.iconst 0, 1) := by decide +kernel
theorem d_Sv_add_13 : decode b_Sv_add 13 = .ok (.istore_n 3, 1) := by decide +kernel
theorem d_Sv_add_14 : decode b_Sv_add 14 = .ok (.iload_n 3, 1) := by decide +kernel
theorem d_Sv_add_15 : decode b_Sv_add 15 = .ok (.iload_n 2, 1) := by decide +kernel
theorem d_Sv_add_16 : decode b_Sv_add 16 = .ok (.if_icmp .ge 34, 3) := by decide +kernel
theorem d_Sv_add_19 : decode b_Sv_add 19 = .ok (.iload_n 1, 1) := by decide +kernel
theorem d_Sv_add_20 : decode b_Sv_add 20 = .ok (.aload_n 0, 1) := by decide +kernel
theorem d_Sv_add_21 : decode b_Sv_add 21 = .ok (.getfield 49, 3) := by decide +kernel
theorem d_Sv_add_24 : decode b_Sv_add 24 = .ok (.iload_n 2, 1) := by decide +kernel
theorem d_Sv_add_25 : decode b_Sv_add 25 = .ok (.iaload, 1) := by decide +kernel
theorem d_Sv_add_26 : decode b_Sv_add 26 = .ok (.aload_n 0, 1) := by decide +kernel
theorem d_Sv_add_27 : decode b_Sv_add 27 = .ok (.getfield 49, 3) := by decide +kernel
theorem d_Sv_add_30 : decode b_Sv_add 30 = .ok (.iload_n 3, 1) := by decide +kernel
theorem d_Sv_add_31 : decode b_Sv_add 31 = .ok (.iaload, 1) := by decide +kernel
theorem d_Sv_add_32 : decode b_Sv_add 32 = .ok (.ixor, 1) := by decide +kernel
theorem d_Sv_add_33 : decode b_Sv_add 33 = .ok (.iconst 1, 1) := by decide +kernel
theorem d_Sv_add_34 : decode b_Sv_add 34 = .ok (.if_icmp .ne 7, 3) := by decide +kernel
theorem d_Sv_add_37 : decode b_Sv_add 37 = .ok (.iconst 1, 1) := by decide +kernel
theorem d_Sv_add_38 : decode b_Sv_add 38 = .ok (.goto 4, 3) := by decide +kernel
theorem d_Sv_add_41 : decode b_Sv_add 41 = .ok (.iconst 0, 1) := by decide +kernel
theorem d_Sv_add_42 : decode b_Sv_add 42 = .ok (.ior, 1) := by decide +kernel
theorem d_Sv_add_43 : decode b_Sv_add 43 = .ok (.istore_n 1, 1) := by decide +kernel
theorem d_Sv_add_44 : decode b_Sv_add 44 = .ok (.iinc 3 1, 3) := by decide +kernel
theorem d_Sv_add_47 : decode b_Sv_add 47 = .ok (.goto (-33), 3) := by decide +kernel
theorem d_Sv_add_50 : decode b_Sv_add 50 = .ok (.iinc 2 1, 3) := by decide +kernel
theorem d_Sv_add_53 : decode b_Sv_add 53 = .ok (.goto (-49), 3) := by decide +kernel
theorem d_Sv_add_56 : decode b_Sv_add 56 = .ok (.iload_n 1, 1) := by decide +kernel
theorem d_Sv_add_57 : decode b_Sv_add 57 = .ok (.ifCond .ne 15, 3) := by decide +kernel
theorem d_Sv_add_60 : decode b_Sv_add 60 = .ok (.aload_n 0, 1) := by decide +kernel
theorem d_Sv_add_61 : decode b_Sv_add 61 = .ok (.getfield 81, 3) := by decide +kernel
theorem d_Sv_add_64 : decode b_Sv_add 64 = .ok (.ifCond .ne 8, 3) := by decide +kernel
theorem d_Sv_add_67 : decode b_Sv_add 67 = .ok (.aload_n 0, 1) := by decide +kernel
theorem d_Sv_add_68 : decode b_Sv_add 68 = .ok (.iconst 1, 1) := by decide +kernel
theorem d_Sv_add_69 : decode b_Sv_add 69 = .ok (.putfield 77, 3) := by decide +kernel
theorem d_Sv_add_72 : decode b_Sv_add 72 = .ok (.iload_n 1, 1) := by decide +kernel
theorem d_Sv_add_73 : decode b_Sv_add 73 = .ok (.ifCond .ne 59, 3) := by decide +kernel
theorem d_Sv_add_76 : decode b_Sv_add 76 = .ok (.aload_n 0, 1) := by decide +kernel
theorem d_Sv_add_77 : decode b_Sv_add 77 = .ok (.getfield 81, 3) := by decide +kernel
theorem d_Sv_add_80 : decode b_Sv_add 80 = .ok (.iconst 1, 1) := by decide +kernel
theorem d_Sv_add_81 : decode b_Sv_add 81 = .ok (.if_icmp .ne 51, 3) := by decide +kernel
theorem d_Sv_add_84 : decode b_Sv_add 84 = .ok (.aload_n 0, 1) := by decide +kernel
theorem d_Sv_add_85 : decode b_Sv_add 85 = .ok (.aload_n 0, 1) := by decide +kernel
theorem d_Sv_add_86 : decode b_Sv_add 86 = .ok (.getfield 49, 3) := by decide +kernel
theorem d_Sv_add_89 : decode b_Sv_add 89 = .ok (.iconst 0, 1) := by decide +kernel
theorem d_Sv_add_90 : decode b_Sv_add 90 = .ok (.iaload, 1) := by decide +kernel
theorem d_Sv_add_91 : decode b_Sv_add 91 = .ok (.invokevirtual 90, 3) := by decide +kernel
theorem d_Sv_add_94 : decode b_Sv_add 94 = .ok (.ifCond .ge 11, 3) := by decide +kernel
theorem d_Sv_add_97 : decode b_Sv_add 97 = .ok (.aload_n 0, 1) := by decide +kernel
theorem d_Sv_add_98 : decode b_Sv_add 98 = .ok (.iconst 1, 1) := by decide +kernel
theorem d_Sv_add_99 : decode b_Sv_add 99 = .ok (.putfield 77, 3) := by decide +kernel
theorem d_Sv_add_102 : decode b_Sv_add 102 = .ok (.goto 48, 3) := by decide +kernel
theorem d_Sv_add_105 : decode b_Sv_add 105 = .ok (.aload_n 0, 1) := by decide +kernel
theorem d_Sv_add_106 : decode b_Sv_add 106 = .ok (.aload_n 0, 1) := by decide +kernel
theorem d_Sv_add_107 : decode b_Sv_add 107 = .ok (.getfield 49, 3) := by decide +kernel
theorem d_Sv_add_110 : decode b_Sv_add 110 = .ok (.iconst 0, 1) := by decide +kernel
theorem d_Sv_add_111 : decode b_Sv_add 111 = .ok (.iaload, 1) := by decide +kernel
theorem d_Sv_add_112 : decode b_Sv_add 112 = .ok (.invokevirtual 90, 3) := by decide +kernel
theorem d_Sv_add_115 : decode b_Sv_add 115 = .ok (.ifCond .ne 35, 3) := by decide +kernel
theorem d_Sv_add_118 : decode b_Sv_add 118 = .ok (.aload_n 0, 1) := by decide +kernel
theorem d_Sv_add_119 : decode b_Sv_add 119 = .ok (.aload_n 0, 1) := by decide +kernel
theorem d_Sv_add_120 : decode b_Sv_add 120 = .ok (.getfield 49, 3) := by decide +kernel
theorem d_Sv_add_123 : decode b_Sv_add 123 = .ok (.iconst 0, 1) := by decide +kernel
theorem d_Sv_add_124 : decode b_Sv_add 124 = .ok (.iaload, 1) := by decide +kernel
theorem d_Sv_add_125 : decode b_Sv_add 125 = .ok (.iconst (-1), 1) := by decide +kernel
theorem d_Sv_add_126 : decode b_Sv_add 126 = .ok (.invokevirtual 94, 3) := by decide +kernel
theorem d_Sv_add_129 : decode b_Sv_add 129 = .ok (.goto 21, 3) := by decide +kernel
theorem d_Sv_add_132 : decode b_Sv_add 132 = .ok (.iload_n 1, 1) := by decide +kernel
theorem d_Sv_add_133 : decode b_Sv_add 133 = .ok (.ifCond .ne 17, 3) := by decide +kernel
theorem d_Sv_add_136 : decode b_Sv_add 136 = .ok (.aload_n 0, 1) := by decide +kernel
theorem d_Sv_add_137 : decode b_Sv_add 137 = .ok (.getfield 81, 3) := by decide +kernel
theorem d_Sv_add_140 : decode b_Sv_add 140 = .ok (.iconst 1, 1) := by decide +kernel
theorem d_Sv_add_141 : decode b_Sv_add 141 = .ok (.if_icmp .le 9, 3) := by decide +kernel
theorem d_Sv_add_144 : decode b_Sv_add 144 = .ok (.aload_n 0, 1) := by decide +kernel
theorem d_Sv_add_145 : decode b_Sv_add 145 = .ok (.iconst 0, 1) := by decide +kernel
theorem d_Sv_add_146 : decode b_Sv_add 146 = .ok (.invokevirtual 98, 3) := by decide +kernel
theorem d_Sv_add_149 : decode b_Sv_add 149 = .ok (.pop, 1) := by decide +kernel
theorem d_Sv_add_150 : decode b_Sv_add 150 = .ok (.aload_n 0, 1) := by decide +kernel
theorem d_Sv_add_151 : decode b_Sv_add 151 = .ok (.iconst 0, 1) := by decide +kernel
theorem d_Sv_add_152 : decode b_Sv_add 152 = .ok (.putfield 81, 3) := by decide +kernel
theorem d_Sv_add_155 : decode b_Sv_add 155 = .ok (.return_, 1) := by decide +kernel
theorem d_Sv_keep_0 : decode b_Sv_keep 0 = .ok (.iload_n 1, 1) := by decide +kernel
theorem d_Sv_keep_1 : decode b_Sv_keep 1 = .ok (.ifCond .eq 17, 3) := by decide +kernel
theorem d_Sv_keep_4 : decode b_Sv_keep 4 = .ok (.aload_n 0, 1) := by decide +kernel
theorem d_Sv_keep_5 : decode b_Sv_keep 5 = .ok (.getfield 65, 3) := by decide +kernel
theorem d_Sv_keep_8 : decode b_Sv_keep 8 = .ok (.sipush 200, 3) := by decide +kernel
theorem d_Sv_keep_11 : decode b_Sv_keep 11 = .ok (.if_icmp .ne 7, 3) := by decide +kernel
theorem d_Sv_keep_14 : decode b_Sv_keep 14 = .ok (.aload_n 0, 1) := by decide +kernel
theorem d_Sv_keep_15 : decode b_Sv_keep 15 = .ok (.invokevirtual 102, 3) := by decide +kernel
theorem d_Sv_keep_18 : decode b_Sv_keep 18 = .ok (.aload_n 0, 1) := by decide +kernel
theorem d_Sv_keep_19 : decode b_Sv_keep 19 = .ok (.getfield 59, 3) := by decide +kernel
theorem d_Sv_keep_22 : decode b_Sv_keep 22 = .ok (.istore_n 2, 1) := by decide +kernel
theorem d_Sv_keep_23 : decode b_Sv_keep 23 = .ok (.aload_n 0, 1) := by decide +kernel
theorem d_Sv_keep_24 : decode b_Sv_keep 24 = .ok (.getfield 25, 3) := by decide +kernel
theorem d_Sv_keep_27 : decode b_Sv_keep 27 = .ok (.iload_n 2, 1) := by decide +kernel
theorem d_Sv_keep_28 : decode b_Sv_keep 28 = .ok (.iload_n 1, 1) := by decide +kernel
theorem d_Sv_keep_29 : decode b_Sv_keep 29 = .ok (.bastore, 1) := by decide +kernel
theorem d_Sv_keep_30 : decode b_Sv_keep 30 = .ok (.iload_n 1, 1) := by decide +kernel
theorem d_Sv_keep_31 : decode b_Sv_keep 31 = .ok (.ifCond .eq 13, 3) := by decide +kernel
theorem d_Sv_keep_34 : decode b_Sv_keep 34 = .ok (.aload_n 0, 1) := by decide +kernel
theorem d_Sv_keep_35 : decode b_Sv_keep 35 = .ok (.dup, 1) := by decide +kernel
theorem d_Sv_keep_36 : decode b_Sv_keep 36 = .ok (.getfield 65, 3) := by decide +kernel
theorem d_Sv_keep_39 : decode b_Sv_keep 39 = .ok (.iconst 1, 1) := by decide +kernel
theorem d_Sv_keep_40 : decode b_Sv_keep 40 = .ok (.iadd, 1) := by decide +kernel
theorem d_Sv_keep_41 : decode b_Sv_keep 41 = .ok (.putfield 65, 3) := by decide +kernel
theorem d_Sv_keep_44 : decode b_Sv_keep 44 = .ok (.aload_n 0, 1) := by decide +kernel
theorem d_Sv_keep_45 : decode b_Sv_keep 45 = .ok (.getfield 19, 3) := by decide +kernel
theorem d_Sv_keep_48 : decode b_Sv_keep 48 = .ok (.iload_n 2, 1) := by decide +kernel
theorem d_Sv_keep_49 : decode b_Sv_keep 49 = .ok (.aload_n 0, 1) := by decide +kernel
theorem d_Sv_keep_50 : decode b_Sv_keep 50 = .ok (.getfield 62, 3) := by decide +kernel
theorem d_Sv_keep_53 : decode b_Sv_keep 53 = .ok (.iastore, 1) := by decide +kernel
theorem d_Sv_keep_54 : decode b_Sv_keep 54 = .ok (.iconst 0, 1) := by decide +kernel
theorem d_Sv_keep_55 : decode b_Sv_keep 55 = .ok (.istore_n 3, 1) := by decide +kernel
theorem d_Sv_keep_56 : decode b_Sv_keep 56 = .ok (.iload_n 3, 1) := by decide +kernel
theorem d_Sv_keep_57 : decode b_Sv_keep 57 = .ok (.aload_n 0, 1) := by decide +kernel
theorem d_Sv_keep_58 : decode b_Sv_keep 58 = .ok (.getfield 81, 3) := by decide +kernel
theorem d_Sv_keep_61 : decode b_Sv_keep 61 = .ok (.if_icmp .ge 31, 3) := by decide +kernel
theorem d_Sv_keep_64 : decode b_Sv_keep 64 = .ok (.aload_n 0, 1) := by decide +kernel
theorem d_Sv_keep_65 : decode b_Sv_keep 65 = .ok (.getfield 15, 3) := by decide +kernel
theorem d_Sv_keep_68 : decode b_Sv_keep 68 = .ok (.aload_n 0, 1) := by decide +kernel
theorem d_Sv_keep_69 : decode b_Sv_keep 69 = .ok (.dup, 1) := by decide +kernel
theorem d_Sv_keep_70 : decode b_Sv_keep 70 = .ok (.getfield 62, 3) := by decide +kernel
theorem d_Sv_keep_73 : decode b_Sv_keep 73 = .ok (.dup_x1, 1) := by decide +kernel
theorem d_Sv_keep_74 : decode b_Sv_keep 74 = .ok (.iconst 1, 1) := by decide +kernel
theorem d_Sv_keep_75 : decode b_Sv_keep 75 = .ok (.iadd, 1) := by decide +kernel
theorem d_Sv_keep_76 : decode b_Sv_keep 76 = .ok (.putfield 62, 3) := by decide +kernel
theorem d_Sv_keep_79 : decode b_Sv_keep 79 = .ok (.aload_n 0, 1) := by decide +kernel
theorem d_Sv_keep_80 : decode b_Sv_keep 80 = .ok (.getfield 49, 3) := by decide +kernel
theorem d_Sv_keep_83 : decode b_Sv_keep 83 = .ok (.iload_n 3, 1) := by decide +kernel
theorem d_Sv_keep_84 : decode b_Sv_keep 84 = .ok (.iaload, 1) := by decide +kernel
theorem d_Sv_keep_85 : decode b_Sv_keep 85 = .ok (.iastore, 1) := by decide +kernel
theorem d_Sv_keep_86 : decode b_Sv_keep 86 = .ok (.iinc 3 1, 3) := by decide +kernel
theorem d_Sv_keep_89 : decode b_Sv_keep 89 = .ok (.goto (-33), 3) := by decide +kernel
theorem d_Sv_keep_92 : decode b_Sv_keep 92 = .ok (.aload_n 0, 1) := by decide +kernel
theorem d_Sv_keep_93 : decode b_Sv_keep 93 = .ok (.dup, 1) := by decide +kernel
theorem d_Sv_keep_94 : decode b_Sv_keep 94 = .ok (.getfield 59, 3) := by decide +kernel
theorem d_Sv_keep_97 : decode b_Sv_keep 97 = .ok (.iconst 1, 1) := by decide +kernel
theorem d_Sv_keep_98 : decode b_Sv_keep 98 = .ok (.iadd, 1) := by decide +kernel
theorem d_Sv_keep_99 : decode b_Sv_keep 99 = .ok (.putfield 59, 3) := by decide +kernel
theorem d_Sv_keep_102 : decode b_Sv_keep 102 = .ok (.aload_n 0, 1) := by decide +kernel
theorem d_Sv_keep_103 : decode b_Sv_keep 103 = .ok (.getfield 19, 3) := by decide +kernel
theorem d_Sv_keep_106 : decode b_Sv_keep 106 = .ok (.aload_n 0, 1) := by decide +kernel
theorem d_Sv_keep_107 : decode b_Sv_keep 107 = .ok (.getfield 59, 3) := by decide +kernel
theorem d_Sv_keep_110 : decode b_Sv_keep 110 = .ok (.aload_n 0, 1) := by decide +kernel
theorem d_Sv_keep_111 : decode b_Sv_keep 111 = .ok (.getfield 62, 3) := by decide +kernel
theorem d_Sv_keep_114 : decode b_Sv_keep 114 = .ok (.iastore, 1) := by decide +kernel
theorem d_Sv_keep_115 : decode b_Sv_keep 115 = .ok (.aload_n 0, 1) := by decide +kernel
theorem d_Sv_keep_116 : decode b_Sv_keep 116 = .ok (.iload_n 2, 1) := by decide +kernel
theorem d_Sv_keep_117 : decode b_Sv_keep 117 = .ok (.iconst 0, 1) := by decide +kernel
theorem d_Sv_keep_118 : decode b_Sv_keep 118 = .ok (.invokevirtual 105, 3) := by decide +kernel
theorem d_Sv_keep_121 : decode b_Sv_keep 121 = .ok (.aload_n 0, 1) := by decide +kernel
theorem d_Sv_keep_122 : decode b_Sv_keep 122 = .ok (.iload_n 2, 1) := by decide +kernel
theorem d_Sv_keep_123 : decode b_Sv_keep 123 = .ok (.iconst 1, 1) := by decide +kernel
theorem d_Sv_keep_124 : decode b_Sv_keep 124 = .ok (.invokevirtual 105, 3) := by decide +kernel
theorem d_Sv_keep_127 : decode b_Sv_keep 127 = .ok (.iload_n 2, 1) := by decide +kernel
theorem d_Sv_keep_128 : decode b_Sv_keep 128 = .ok (.ireturn, 1) := by decide +kernel
theorem d_Sv_forget_0 : decode b_Sv_forget 0 = .ok (.iconst 0, 1) := by decide +kernel
theorem d_Sv_forget_1 : decode b_Sv_forget 1 = .ok (.istore_n 1, 1) := by decide +kernel
theorem d_Sv_forget_2 : decode b_Sv_forget 2 = .ok (.iload_n 1, 1) := by decide +kernel
theorem d_Sv_forget_3 : decode b_Sv_forget 3 = .ok (.aload_n 0, 1) := by decide +kernel
theorem d_Sv_forget_4 : decode b_Sv_forget 4 = .ok (.getfield 59, 3) := by decide +kernel
theorem d_Sv_forget_7 : decode b_Sv_forget 7 = .ok (.if_icmp .ge 29, 3) := by decide +kernel
theorem d_Sv_forget_10 : decode b_Sv_forget 10 = .ok (.aload_n 0, 1) := by decide +kernel
theorem d_Sv_forget_11 : decode b_Sv_forget 11 = .ok (.getfield 28, 3) := by decide +kernel
theorem d_Sv_forget_14 : decode b_Sv_forget 14 = .ok (.iload_n 1, 1) := by decide +kernel
theorem d_Sv_forget_15 : decode b_Sv_forget 15 = .ok (.aload_n 0, 1) := by decide +kernel
theorem d_Sv_forget_16 : decode b_Sv_forget 16 = .ok (.getfield 25, 3) := by decide +kernel
theorem d_Sv_forget_19 : decode b_Sv_forget 19 = .ok (.iload_n 1, 1) := by decide +kernel
theorem d_Sv_forget_20 : decode b_Sv_forget 20 = .ok (.baload, 1) := by decide +kernel
theorem d_Sv_forget_21 : decode b_Sv_forget 21 = .ok (.ifCond .eq 7, 3) := by decide +kernel
theorem d_Sv_forget_24 : decode b_Sv_forget 24 = .ok (.iconst (-1), 1) := by decide +kernel
theorem d_Sv_forget_25 : decode b_Sv_forget 25 = .ok (.goto 4, 3) := by decide +kernel
theorem d_Sv_forget_28 : decode b_Sv_forget 28 = .ok (.iconst 0, 1) := by decide +kernel
theorem d_Sv_forget_29 : decode b_Sv_forget 29 = .ok (.iastore, 1) := by decide +kernel
theorem d_Sv_forget_30 : decode b_Sv_forget 30 = .ok (.iinc 1 1, 3) := by decide +kernel
theorem d_Sv_forget_33 : decode b_Sv_forget 33 = .ok (.goto (-31), 3) := by decide +kernel
theorem d_Sv_forget_36 : decode b_Sv_forget 36 = .ok (.iconst 0, 1) := by decide +kernel
theorem d_Sv_forget_37 : decode b_Sv_forget 37 = .ok (.istore_n 1, 1) := by decide +kernel
theorem d_Sv_forget_38 : decode b_Sv_forget 38 = .ok (.iload_n 1, 1) := by decide +kernel
theorem d_Sv_forget_39 : decode b_Sv_forget 39 = .ok (.aload_n 0, 1) := by decide +kernel
theorem d_Sv_forget_40 : decode b_Sv_forget 40 = .ok (.getfield 68, 3) := by decide +kernel
theorem d_Sv_forget_43 : decode b_Sv_forget 43 = .ok (.if_icmp .ge 44, 3) := by decide +kernel
theorem d_Sv_forget_46 : decode b_Sv_forget 46 = .ok (.aload_n 0, 1) := by decide +kernel
theorem d_Sv_forget_47 : decode b_Sv_forget 47 = .ok (.getfield 40, 3) := by decide +kernel
theorem d_Sv_forget_50 : decode b_Sv_forget 50 = .ok (.aload_n 0, 1) := by decide +kernel
theorem d_Sv_forget_51 : decode b_Sv_forget 51 = .ok (.getfield 43, 3) := by decide +kernel
theorem d_Sv_forget_54 : decode b_Sv_forget 54 = .ok (.iload_n 1, 1) := by decide +kernel
theorem d_Sv_forget_55 : decode b_Sv_forget 55 = .ok (.iaload, 1) := by decide +kernel
theorem d_Sv_forget_56 : decode b_Sv_forget 56 = .ok (.iconst 1, 1) := by decide +kernel
theorem d_Sv_forget_57 : decode b_Sv_forget 57 = .ok (.ishr, 1) := by decide +kernel
theorem d_Sv_forget_58 : decode b_Sv_forget 58 = .ok (.iaload, 1) := by decide +kernel
theorem d_Sv_forget_59 : decode b_Sv_forget 59 = .ok (.ifCond .lt 22, 3) := by decide +kernel
theorem d_Sv_forget_62 : decode b_Sv_forget 62 = .ok (.aload_n 0, 1) := by decide +kernel
theorem d_Sv_forget_63 : decode b_Sv_forget 63 = .ok (.getfield 28, 3) := by decide +kernel
theorem d_Sv_forget_66 : decode b_Sv_forget 66 = .ok (.aload_n 0, 1) := by decide +kernel
theorem d_Sv_forget_67 : decode b_Sv_forget 67 = .ok (.getfield 40, 3) := by decide +kernel
theorem d_Sv_forget_70 : decode b_Sv_forget 70 = .ok (.aload_n 0, 1) := by decide +kernel
theorem d_Sv_forget_71 : decode b_Sv_forget 71 = .ok (.getfield 43, 3) := by decide +kernel
theorem d_Sv_forget_74 : decode b_Sv_forget 74 = .ok (.iload_n 1, 1) := by decide +kernel
theorem d_Sv_forget_75 : decode b_Sv_forget 75 = .ok (.iaload, 1) := by decide +kernel
theorem d_Sv_forget_76 : decode b_Sv_forget 76 = .ok (.iconst 1, 1) := by decide +kernel
theorem d_Sv_forget_77 : decode b_Sv_forget 77 = .ok (.ishr, 1) := by decide +kernel
theorem d_Sv_forget_78 : decode b_Sv_forget 78 = .ok (.iaload, 1) := by decide +kernel
theorem d_Sv_forget_79 : decode b_Sv_forget 79 = .ok (.iconst 0, 1) := by decide +kernel
theorem d_Sv_forget_80 : decode b_Sv_forget 80 = .ok (.iastore, 1) := by decide +kernel
theorem d_Sv_forget_81 : decode b_Sv_forget 81 = .ok (.iinc 1 1, 3) := by decide +kernel
theorem d_Sv_forget_84 : decode b_Sv_forget 84 = .ok (.goto (-46), 3) := by decide +kernel
theorem d_Sv_forget_87 : decode b_Sv_forget 87 = .ok (.iconst 0, 1) := by decide +kernel
theorem d_Sv_forget_88 : decode b_Sv_forget 88 = .ok (.istore_n 1, 1) := by decide +kernel
theorem d_Sv_forget_89 : decode b_Sv_forget 89 = .ok (.iconst 0, 1) := by decide +kernel
theorem d_Sv_forget_90 : decode b_Sv_forget 90 = .ok (.istore_n 2, 1) := by decide +kernel
theorem d_Sv_forget_91 : decode b_Sv_forget 91 = .ok (.aload_n 0, 1) := by decide +kernel
theorem d_Sv_forget_92 : decode b_Sv_forget 92 = .ok (.iconst 0, 1) := by decide +kernel
theorem d_Sv_forget_93 : decode b_Sv_forget 93 = .ok (.putfield 65, 3) := by decide +kernel
theorem d_Sv_forget_96 : decode b_Sv_forget 96 = .ok (.aload_n 0, 1) := by decide +kernel
theorem d_Sv_forget_97 : decode b_Sv_forget 97 = .ok (.getfield 31, 3) := by decide +kernel
theorem d_Sv_forget_100 : decode b_Sv_forget 100 = .ok (.iconst (-1), 1) := by decide +kernel
theorem d_Sv_forget_101 : decode b_Sv_forget 101 = .ok (.invokestatic 84, 3) := by decide +kernel
theorem d_Sv_forget_104 : decode b_Sv_forget 104 = .ok (.iconst 0, 1) := by decide +kernel
theorem d_Sv_forget_105 : decode b_Sv_forget 105 = .ok (.istore_n 3, 1) := by decide +kernel
theorem d_Sv_forget_106 : decode b_Sv_forget 106 = .ok (.iload_n 3, 1) := by decide +kernel
theorem d_Sv_forget_107 : decode b_Sv_forget 107 = .ok (.aload_n 0, 1) := by decide +kernel
theorem d_Sv_forget_108 : decode b_Sv_forget 108 = .ok (.getfield 59, 3) := by decide +kernel
theorem d_Sv_forget_111 : decode b_Sv_forget 111 = .ok (.if_icmp .ge 156, 3) := by decide +kernel
theorem d_Sv_forget_114 : decode b_Sv_forget 114 = .ok (.aload_n 0, 1) := by decide +kernel
theorem d_Sv_forget_115 : decode b_Sv_forget 115 = .ok (.getfield 28, 3) := by decide +kernel
theorem d_Sv_forget_118 : decode b_Sv_forget 118 = .ok (.iload_n 3, 1) := by decide +kernel
theorem d_Sv_forget_119 : decode b_Sv_forget 119 = .ok (.iaload, 1) := by decide +kernel
theorem d_Sv_forget_120 : decode b_Sv_forget 120 = .ok (.ifCond .ge 6, 3) := by decide +kernel
theorem d_Sv_forget_123 : decode b_Sv_forget 123 = .ok (.goto 138, 3) := by decide +kernel
theorem d_Sv_forget_126 : decode b_Sv_forget 126 = .ok (.aload_n 0, 1) := by decide +kernel
theorem d_Sv_forget_127 : decode b_Sv_forget 127 = .ok (.getfield 19, 3) := by decide +kernel
theorem d_Sv_forget_130 : decode b_Sv_forget 130 = .ok (.iload_n 3, 1) := by decide +kernel
theorem d_Sv_forget_131 : decode b_Sv_forget 131 = .ok (.iaload, 1) := by decide +kernel
theorem d_Sv_forget_132 : decode b_Sv_forget 132 = .ok (.istore 4, 2) := by decide +kernel
theorem d_Sv_forget_134 : decode b_Sv_forget 134 = .ok (.aload_n 0, 1) := by decide +kernel
theorem d_Sv_forget_135 : decode b_Sv_forget 135 = .ok (.getfield 19, 3) := by decide +kernel
theorem d_Sv_forget_138 : decode b_Sv_forget 138 = .ok (.iload_n 3, 1) := by decide +kernel
theorem d_Sv_forget_139 : decode b_Sv_forget 139 = .ok (.iconst 1, 1) := by decide +kernel
theorem d_Sv_forget_140 : decode b_Sv_forget 140 = .ok (.iadd, 1) := by decide +kernel
theorem d_Sv_forget_141 : decode b_Sv_forget 141 = .ok (.iaload, 1) := by decide +kernel
theorem d_Sv_forget_142 : decode b_Sv_forget 142 = .ok (.istore 5, 2) := by decide +kernel
theorem d_Sv_forget_144 : decode b_Sv_forget 144 = .ok (.aload_n 0, 1) := by decide +kernel
theorem d_Sv_forget_145 : decode b_Sv_forget 145 = .ok (.getfield 19, 3) := by decide +kernel
theorem d_Sv_forget_148 : decode b_Sv_forget 148 = .ok (.iload_n 1, 1) := by decide +kernel
theorem d_Sv_forget_149 : decode b_Sv_forget 149 = .ok (.iload_n 2, 1) := by decide +kernel
theorem d_Sv_forget_150 : decode b_Sv_forget 150 = .ok (.iastore, 1) := by decide +kernel
theorem d_Sv_forget_151 : decode b_Sv_forget 151 = .ok (.iload 4, 2) := by decide +kernel
theorem d_Sv_forget_153 : decode b_Sv_forget 153 = .ok (.istore 6, 2) := by decide +kernel
theorem d_Sv_forget_155 : decode b_Sv_forget 155 = .ok (.iload 6, 2) := by decide +kernel
theorem d_Sv_forget_157 : decode b_Sv_forget 157 = .ok (.iload 5, 2) := by decide +kernel
theorem d_Sv_forget_159 : decode b_Sv_forget 159 = .ok (.if_icmp .ge 25, 3) := by decide +kernel
theorem d_Sv_forget_162 : decode b_Sv_forget 162 = .ok (.aload_n 0, 1) := by decide +kernel
theorem d_Sv_forget_163 : decode b_Sv_forget 163 = .ok (.getfield 15, 3) := by decide +kernel
theorem d_Sv_forget_166 : decode b_Sv_forget 166 = .ok (.iload_n 2, 1) := by decide +kernel
theorem d_Sv_forget_167 : decode b_Sv_forget 167 = .ok (.iinc 2 1, 3) := by decide +kernel
theorem d_Sv_forget_170 : decode b_Sv_forget 170 = .ok (.aload_n 0, 1) := by decide +kernel
theorem d_Sv_forget_171 : decode b_Sv_forget 171 = .ok (.getfield 15, 3) := by decide +kernel
theorem d_Sv_forget_174 : decode b_Sv_forget 174 = .ok (.iload 6, 2) := by decide +kernel
theorem d_Sv_forget_176 : decode b_Sv_forget 176 = .ok (.iaload, 1) := by decide +kernel
theorem d_Sv_forget_177 : decode b_Sv_forget 177 = .ok (.iastore, 1) := by decide +kernel
theorem d_Sv_forget_178 : decode b_Sv_forget 178 = .ok (.iinc 6 1, 3) := by decide +kernel
theorem d_Sv_forget_181 : decode b_Sv_forget 181 = .ok (.goto (-26), 3) := by decide +kernel
theorem d_Sv_forget_184 : decode b_Sv_forget 184 = .ok (.aload_n 0, 1) := by decide +kernel
theorem d_Sv_forget_185 : decode b_Sv_forget 185 = .ok (.getfield 25, 3) := by decide +kernel
theorem d_Sv_forget_188 : decode b_Sv_forget 188 = .ok (.iload_n 1, 1) := by decide +kernel
theorem d_Sv_forget_189 : decode b_Sv_forget 189 = .ok (.aload_n 0, 1) := by decide +kernel
theorem d_Sv_forget_190 : decode b_Sv_forget 190 = .ok (.getfield 25, 3) := by decide +kernel
theorem d_Sv_forget_193 : decode b_Sv_forget 193 = .ok (.iload_n 3, 1) := by decide +kernel
theorem d_Sv_forget_194 : decode b_Sv_forget 194 = .ok (.baload, 1) := by decide +kernel
theorem d_Sv_forget_195 : decode b_Sv_forget 195 = .ok (.bastore, 1) := by decide +kernel
theorem d_Sv_forget_196 : decode b_Sv_forget 196 = .ok (.aload_n 0, 1) := by decide +kernel
theorem d_Sv_forget_197 : decode b_Sv_forget 197 = .ok (.getfield 25, 3) := by decide +kernel
theorem d_Sv_forget_200 : decode b_Sv_forget 200 = .ok (.iload_n 1, 1) := by decide +kernel
theorem d_Sv_forget_201 : decode b_Sv_forget 201 = .ok (.baload, 1) := by decide +kernel
theorem d_Sv_forget_202 : decode b_Sv_forget 202 = .ok (.ifCond .eq 13, 3) := by decide +kernel
theorem d_Sv_forget_205 : decode b_Sv_forget 205 = .ok (.aload_n 0, 1) := by decide +kernel
theorem d_Sv_forget_206 : decode b_Sv_forget 206 = .ok (.dup, 1) := by decide +kernel
theorem d_Sv_forget_207 : decode b_Sv_forget 207 = .ok (.getfield 65, 3) := by decide +kernel
theorem d_Sv_forget_210 : decode b_Sv_forget 210 = .ok (.iconst 1, 1) := by decide +kernel
theorem d_Sv_forget_211 : decode b_Sv_forget 211 = .ok (.iadd, 1) := by decide +kernel
theorem d_Sv_forget_212 : decode b_Sv_forget 212 = .ok (.putfield 65, 3) := by decide +kernel
theorem d_Sv_forget_215 : decode b_Sv_forget 215 = .ok (.aload_n 0, 1) := by decide +kernel
theorem d_Sv_forget_216 : decode b_Sv_forget 216 = .ok (.getfield 28, 3) := by decide +kernel
theorem d_Sv_forget_219 : decode b_Sv_forget 219 = .ok (.iload_n 3, 1) := by decide +kernel
theorem d_Sv_forget_220 : decode b_Sv_forget 220 = .ok (.iload_n 1, 1) := by decide +kernel
theorem d_Sv_forget_221 : decode b_Sv_forget 221 = .ok (.iastore, 1) := by decide +kernel
theorem d_Sv_forget_222 : decode b_Sv_forget 222 = .ok (.iconst 0, 1) := by decide +kernel
theorem d_Sv_forget_223 : decode b_Sv_forget 223 = .ok (.istore 6, 2) := by decide +kernel
theorem d_Sv_forget_225 : decode b_Sv_forget 225 = .ok (.iload 6, 2) := by decide +kernel
theorem d_Sv_forget_227 : decode b_Sv_forget 227 = .ok (.iconst 2, 1) := by decide +kernel
theorem d_Sv_forget_228 : decode b_Sv_forget 228 = .ok (.if_icmp .ge 30, 3) := by decide +kernel
theorem d_Sv_forget_231 : decode b_Sv_forget 231 = .ok (.aload_n 0, 1) := by decide +kernel
theorem d_Sv_forget_232 : decode b_Sv_forget 232 = .ok (.aload_n 0, 1) := by decide +kernel
theorem d_Sv_forget_233 : decode b_Sv_forget 233 = .ok (.getfield 19, 3) := by decide +kernel
theorem d_Sv_forget_236 : decode b_Sv_forget 236 = .ok (.iload_n 1, 1) := by decide +kernel
theorem d_Sv_forget_237 : decode b_Sv_forget 237 = .ok (.iaload, 1) := by decide +kernel
theorem d_Sv_forget_238 : decode b_Sv_forget 238 = .ok (.iload 6, 2) := by decide +kernel
theorem d_Sv_forget_240 : decode b_Sv_forget 240 = .ok (.iadd, 1) := by decide +kernel
theorem d_Sv_forget_241 : decode b_Sv_forget 241 = .ok (.iload_n 2, 1) := by decide +kernel
theorem d_Sv_forget_242 : decode b_Sv_forget 242 = .ok (.invokevirtual 108, 3) := by decide +kernel
theorem d_Sv_forget_245 : decode b_Sv_forget 245 = .ok (.aload_n 0, 1) := by decide +kernel
theorem d_Sv_forget_246 : decode b_Sv_forget 246 = .ok (.iload_n 1, 1) := by decide +kernel
theorem d_Sv_forget_247 : decode b_Sv_forget 247 = .ok (.iload 6, 2) := by decide +kernel
theorem d_Sv_forget_249 : decode b_Sv_forget 249 = .ok (.invokevirtual 105, 3) := by decide +kernel
theorem d_Sv_forget_252 : decode b_Sv_forget 252 = .ok (.iinc 6 1, 3) := by decide +kernel
theorem d_Sv_forget_255 : decode b_Sv_forget 255 = .ok (.goto (-30), 3) := by decide +kernel
theorem d_Sv_forget_258 : decode b_Sv_forget 258 = .ok (.iinc 1 1, 3) := by decide +kernel
theorem d_Sv_forget_261 : decode b_Sv_forget 261 = .ok (.iinc 3 1, 3) := by decide +kernel
theorem d_Sv_forget_264 : decode b_Sv_forget 264 = .ok (.goto (-158), 3) := by decide +kernel
theorem d_Sv_forget_267 : decode b_Sv_forget 267 = .ok (.aload_n 0, 1) := by decide +kernel
theorem d_Sv_forget_268 : decode b_Sv_forget 268 = .ok (.getfield 19, 3) := by decide +kernel
theorem d_Sv_forget_271 : decode b_Sv_forget 271 = .ok (.iload_n 1, 1) := by decide +kernel
theorem d_Sv_forget_272 : decode b_Sv_forget 272 = .ok (.iload_n 2, 1) := by decide +kernel
theorem d_Sv_forget_273 : decode b_Sv_forget 273 = .ok (.iastore, 1) := by decide +kernel
theorem d_Sv_forget_274 : decode b_Sv_forget 274 = .ok (.aload_n 0, 1) := by decide +kernel
theorem d_Sv_forget_275 : decode b_Sv_forget 275 = .ok (.iload_n 1, 1) := by decide +kernel
theorem d_Sv_forget_276 : decode b_Sv_forget 276 = .ok (.putfield 59, 3) := by decide +kernel
theorem d_Sv_forget_279 : decode b_Sv_forget 279 = .ok (.aload_n 0, 1) := by decide +kernel
theorem d_Sv_forget_280 : decode b_Sv_forget 280 = .ok (.iload_n 2, 1) := by decide +kernel
theorem d_Sv_forget_281 : decode b_Sv_forget 281 = .ok (.putfield 62, 3) := by decide +kernel
theorem d_Sv_forget_284 : decode b_Sv_forget 284 = .ok (.iconst 0, 1) := by decide +kernel
theorem d_Sv_forget_285 : decode b_Sv_forget 285 = .ok (.istore_n 3, 1) := by decide +kernel
theorem d_Sv_forget_286 : decode b_Sv_forget 286 = .ok (.iload_n 3, 1) := by decide +kernel
theorem d_Sv_forget_287 : decode b_Sv_forget 287 = .ok (.aload_n 0, 1) := by decide +kernel
theorem d_Sv_forget_288 : decode b_Sv_forget 288 = .ok (.getfield 68, 3) := by decide +kernel
theorem d_Sv_forget_291 : decode b_Sv_forget 291 = .ok (.if_icmp .ge 48, 3) := by decide +kernel
theorem d_Sv_forget_294 : decode b_Sv_forget 294 = .ok (.aload_n 0, 1) := by decide +kernel
theorem d_Sv_forget_295 : decode b_Sv_forget 295 = .ok (.getfield 43, 3) := by decide +kernel
theorem d_Sv_forget_298 : decode b_Sv_forget 298 = .ok (.iload_n 3, 1) := by decide +kernel
theorem d_Sv_forget_299 : decode b_Sv_forget 299 = .ok (.iaload, 1) := by decide +kernel
theorem d_Sv_forget_300 : decode b_Sv_forget 300 = .ok (.iconst 1, 1) := by decide +kernel
theorem d_Sv_forget_301 : decode b_Sv_forget 301 = .ok (.ishr, 1) := by decide +kernel
theorem d_Sv_forget_302 : decode b_Sv_forget 302 = .ok (.istore 4, 2) := by decide +kernel
theorem d_Sv_forget_304 : decode b_Sv_forget 304 = .ok (.aload_n 0, 1) := by decide +kernel
theorem d_Sv_forget_305 : decode b_Sv_forget 305 = .ok (.getfield 40, 3) := by decide +kernel
theorem d_Sv_forget_308 : decode b_Sv_forget 308 = .ok (.iload 4, 2) := by decide +kernel
theorem d_Sv_forget_310 : decode b_Sv_forget 310 = .ok (.iaload, 1) := by decide +kernel
theorem d_Sv_forget_311 : decode b_Sv_forget 311 = .ok (.ifCond .lt 22, 3) := by decide +kernel
theorem d_Sv_forget_314 : decode b_Sv_forget 314 = .ok (.aload_n 0, 1) := by decide +kernel
theorem d_Sv_forget_315 : decode b_Sv_forget 315 = .ok (.getfield 40, 3) := by decide +kernel
theorem d_Sv_forget_318 : decode b_Sv_forget 318 = .ok (.iload 4, 2) := by decide +kernel
theorem d_Sv_forget_320 : decode b_Sv_forget 320 = .ok (.aload_n 0, 1) := by decide +kernel
theorem d_Sv_forget_321 : decode b_Sv_forget 321 = .ok (.getfield 28, 3) := by decide +kernel
theorem d_Sv_forget_324 : decode b_Sv_forget 324 = .ok (.aload_n 0, 1) := by decide +kernel
theorem d_Sv_forget_325 : decode b_Sv_forget 325 = .ok (.getfield 40, 3) := by decide +kernel
theorem d_Sv_forget_328 : decode b_Sv_forget 328 = .ok (.iload 4, 2) := by decide +kernel
theorem d_Sv_forget_330 : decode b_Sv_forget 330 = .ok (.iaload, 1) := by decide +kernel
theorem d_Sv_forget_331 : decode b_Sv_forget 331 = .ok (.iaload, 1) := by decide +kernel
theorem d_Sv_forget_332 : decode b_Sv_forget 332 = .ok (.iastore, 1) := by decide +kernel
theorem d_Sv_forget_333 : decode b_Sv_forget 333 = .ok (.iinc 3 1, 3) := by decide +kernel
theorem d_Sv_forget_336 : decode b_Sv_forget 336 = .ok (.goto (-50), 3) := by decide +kernel
theorem d_Sv_forget_339 : decode b_Sv_forget 339 = .ok (.return_, 1) := by decide +kernel
theorem d_Sv_watchBest_0 : decode b_Sv_watchBest 0 = .ok (.iload_n 1, 1) := by decide +kernel
theorem d_Sv_watchBest_1 : decode b_Sv_watchBest 1 = .ok (.istore_n 3, 1) := by decide +kernel
theorem d_Sv_watchBest_2 : decode b_Sv_watchBest 2 = .ok (.iload_n 1, 1) := by decide +kernel
theorem d_Sv_watchBest_3 : decode b_Sv_watchBest 3 = .ok (.iconst 1, 1) := by decide +kernel
theorem d_Sv_watchBest_4 : decode b_Sv_watchBest 4 = .ok (.iadd, 1) := by decide +kernel
theorem d_Sv_watchBest_5 : decode b_Sv_watchBest 5 = .ok (.istore 4, 2) := by decide +kernel
theorem d_Sv_watchBest_7 : decode b_Sv_watchBest 7 = .ok (.iload 4, 2) := by decide +kernel
theorem d_Sv_watchBest_9 : decode b_Sv_watchBest 9 = .ok (.iload_n 2, 1) := by decide +kernel
theorem d_Sv_watchBest_10 : decode b_Sv_watchBest 10 = .ok (.if_icmp .ge 36, 3) := by decide +kernel
theorem d_Sv_watchBest_13 : decode b_Sv_watchBest 13 = .ok (.aload_n 0, 1) := by decide +kernel
theorem d_Sv_watchBest_14 : decode b_Sv_watchBest 14 = .ok (.aload_n 0, 1) := by decide +kernel
theorem d_Sv_watchBest_15 : decode b_Sv_watchBest 15 = .ok (.getfield 15, 3) := by decide +kernel
theorem d_Sv_watchBest_18 : decode b_Sv_watchBest 18 = .ok (.iload 4, 2) := by decide +kernel
theorem d_Sv_watchBest_20 : decode b_Sv_watchBest 20 = .ok (.iaload, 1) := by decide +kernel
theorem d_Sv_watchBest_21 : decode b_Sv_watchBest 21 = .ok (.invokevirtual 111, 3) := by decide +kernel
theorem d_Sv_watchBest_24 : decode b_Sv_watchBest 24 = .ok (.aload_n 0, 1) := by decide +kernel
theorem d_Sv_watchBest_25 : decode b_Sv_watchBest 25 = .ok (.aload_n 0, 1) := by decide +kernel
theorem d_Sv_watchBest_26 : decode b_Sv_watchBest 26 = .ok (.getfield 15, 3) := by decide +kernel
theorem d_Sv_watchBest_29 : decode b_Sv_watchBest 29 = .ok (.iload_n 3, 1) := by decide +kernel
theorem d_Sv_watchBest_30 : decode b_Sv_watchBest 30 = .ok (.iaload, 1) := by decide +kernel
theorem d_Sv_watchBest_31 : decode b_Sv_watchBest 31 = .ok (.invokevirtual 111, 3) := by decide +kernel
theorem d_Sv_watchBest_34 : decode b_Sv_watchBest 34 = .ok (.if_icmp .le 6, 3) := by decide +kernel
theorem d_Sv_watchBest_37 : decode b_Sv_watchBest 37 = .ok (.iload 4, 2) := by decide +kernel
theorem d_Sv_watchBest_39 : decode b_Sv_watchBest 39 = .ok (.istore_n 3, 1) := by decide +kernel
theorem d_Sv_watchBest_40 : decode b_Sv_watchBest 40 = .ok (.iinc 4 1, 3) := by decide +kernel
theorem d_Sv_watchBest_43 : decode b_Sv_watchBest 43 = .ok (.goto (-36), 3) := by decide +kernel
theorem d_Sv_watchBest_46 : decode b_Sv_watchBest 46 = .ok (.aload_n 0, 1) := by decide +kernel
theorem d_Sv_watchBest_47 : decode b_Sv_watchBest 47 = .ok (.getfield 15, 3) := by decide +kernel
theorem d_Sv_watchBest_50 : decode b_Sv_watchBest 50 = .ok (.iload_n 1, 1) := by decide +kernel
theorem d_Sv_watchBest_51 : decode b_Sv_watchBest 51 = .ok (.iaload, 1) := by decide +kernel
theorem d_Sv_watchBest_52 : decode b_Sv_watchBest 52 = .ok (.istore 4, 2) := by decide +kernel
theorem d_Sv_watchBest_54 : decode b_Sv_watchBest 54 = .ok (.aload_n 0, 1) := by decide +kernel
theorem d_Sv_watchBest_55 : decode b_Sv_watchBest 55 = .ok (.getfield 15, 3) := by decide +kernel
theorem d_Sv_watchBest_58 : decode b_Sv_watchBest 58 = .ok (.iload_n 1, 1) := by decide +kernel
theorem d_Sv_watchBest_59 : decode b_Sv_watchBest 59 = .ok (.aload_n 0, 1) := by decide +kernel
theorem d_Sv_watchBest_60 : decode b_Sv_watchBest 60 = .ok (.getfield 15, 3) := by decide +kernel
theorem d_Sv_watchBest_63 : decode b_Sv_watchBest 63 = .ok (.iload_n 3, 1) := by decide +kernel
theorem d_Sv_watchBest_64 : decode b_Sv_watchBest 64 = .ok (.iaload, 1) := by decide +kernel
theorem d_Sv_watchBest_65 : decode b_Sv_watchBest 65 = .ok (.iastore, 1) := by decide +kernel
theorem d_Sv_watchBest_66 : decode b_Sv_watchBest 66 = .ok (.aload_n 0, 1) := by decide +kernel
theorem d_Sv_watchBest_67 : decode b_Sv_watchBest 67 = .ok (.getfield 15, 3) := by decide +kernel
theorem d_Sv_watchBest_70 : decode b_Sv_watchBest 70 = .ok (.iload_n 3, 1) := by decide +kernel
theorem d_Sv_watchBest_71 : decode b_Sv_watchBest 71 = .ok (.iload 4, 2) := by decide +kernel
theorem d_Sv_watchBest_73 : decode b_Sv_watchBest 73 = .ok (.iastore, 1) := by decide +kernel
theorem d_Sv_watchBest_74 : decode b_Sv_watchBest 74 = .ok (.return_, 1) := by decide +kernel
theorem d_Sv_rank_0 : decode b_Sv_rank 0 = .ok (.aload_n 0, 1) := by decide +kernel
theorem d_Sv_rank_1 : decode b_Sv_rank 1 = .ok (.iload_n 1, 1) := by decide +kernel
theorem d_Sv_rank_2 : decode b_Sv_rank 2 = .ok (.invokevirtual 90, 3) := by decide +kernel
theorem d_Sv_rank_5 : decode b_Sv_rank 5 = .ok (.ifCond .ge 14, 3) := by decide +kernel
theorem d_Sv_rank_8 : decode b_Sv_rank 8 = .ok (.aload_n 0, 1) := by decide +kernel
theorem d_Sv_rank_9 : decode b_Sv_rank 9 = .ok (.getfield 37, 3) := by decide +kernel
theorem d_Sv_rank_12 : decode b_Sv_rank 12 = .ok (.iload_n 1, 1) := by decide +kernel
theorem d_Sv_rank_13 : decode b_Sv_rank 13 = .ok (.iconst 1, 1) := by decide +kernel
theorem d_Sv_rank_14 : decode b_Sv_rank 14 = .ok (.ishr, 1) := by decide +kernel
theorem d_Sv_rank_15 : decode b_Sv_rank 15 = .ok (.iaload, 1) := by decide +kernel
theorem d_Sv_rank_16 : decode b_Sv_rank 16 = .ok (.goto 5, 3) := by decide +kernel
theorem d_Sv_rank_19 : decode b_Sv_rank 19 = .ok (.bipush 17, 2) := by decide +kernel
theorem d_Sv_rank_21 : decode b_Sv_rank 21 = .ok (.ireturn, 1) := by decide +kernel
theorem d_Sv_look_0 : decode b_Sv_look 0 = .ok (.aload_n 0, 1) := by decide +kernel
theorem d_Sv_look_1 : decode b_Sv_look 1 = .ok (.getfield 15, 3) := by decide +kernel
theorem d_Sv_look_4 : decode b_Sv_look 4 = .ok (.aload_n 0, 1) := by decide +kernel
theorem d_Sv_look_5 : decode b_Sv_look 5 = .ok (.getfield 19, 3) := by decide +kernel
theorem d_Sv_look_8 : decode b_Sv_look 8 = .ok (.iload_n 1, 1) := by decide +kernel
theorem d_Sv_look_9 : decode b_Sv_look 9 = .ok (.iaload, 1) := by decide +kernel
theorem d_Sv_look_10 : decode b_Sv_look 10 = .ok (.iload_n 2, 1) := by decide +kernel
theorem d_Sv_look_11 : decode b_Sv_look 11 = .ok (.iadd, 1) := by decide +kernel
theorem d_Sv_look_12 : decode b_Sv_look 12 = .ok (.iaload, 1) := by decide +kernel
theorem d_Sv_look_13 : decode b_Sv_look 13 = .ok (.istore_n 3, 1) := by decide +kernel
theorem d_Sv_look_14 : decode b_Sv_look 14 = .ok (.aload_n 0, 1) := by decide +kernel
theorem d_Sv_look_15 : decode b_Sv_look 15 = .ok (.getfield 22, 3) := by decide +kernel
theorem d_Sv_look_18 : decode b_Sv_look 18 = .ok (.iconst 2, 1) := by decide +kernel
theorem d_Sv_look_19 : decode b_Sv_look 19 = .ok (.iload_n 1, 1) := by decide +kernel
theorem d_Sv_look_20 : decode b_Sv_look 20 = .ok (.imul, 1) := by decide +kernel
theorem d_Sv_look_21 : decode b_Sv_look 21 = .ok (.iload_n 2, 1) := by decide +kernel
theorem d_Sv_look_22 : decode b_Sv_look 22 = .ok (.iadd, 1) := by decide +kernel
theorem d_Sv_look_23 : decode b_Sv_look 23 = .ok (.aload_n 0, 1) := by decide +kernel
theorem d_Sv_look_24 : decode b_Sv_look 24 = .ok (.getfield 31, 3) := by decide +kernel
theorem d_Sv_look_27 : decode b_Sv_look 27 = .ok (.iload_n 3, 1) := by decide +kernel
theorem d_Sv_look_28 : decode b_Sv_look 28 = .ok (.iaload, 1) := by decide +kernel
theorem d_Sv_look_29 : decode b_Sv_look 29 = .ok (.iastore, 1) := by decide +kernel
theorem d_Sv_look_30 : decode b_Sv_look 30 = .ok (.aload_n 0, 1) := by decide +kernel
theorem d_Sv_look_31 : decode b_Sv_look 31 = .ok (.getfield 31, 3) := by decide +kernel
theorem d_Sv_look_34 : decode b_Sv_look 34 = .ok (.iload_n 3, 1) := by decide +kernel
theorem d_Sv_look_35 : decode b_Sv_look 35 = .ok (.iconst 2, 1) := by decide +kernel
theorem d_Sv_look_36 : decode b_Sv_look 36 = .ok (.iload_n 1, 1) := by decide +kernel
theorem d_Sv_look_37 : decode b_Sv_look 37 = .ok (.imul, 1) := by decide +kernel
theorem d_Sv_look_38 : decode b_Sv_look 38 = .ok (.iload_n 2, 1) := by decide +kernel
theorem d_Sv_look_39 : decode b_Sv_look 39 = .ok (.iadd, 1) := by decide +kernel
theorem d_Sv_look_40 : decode b_Sv_look 40 = .ok (.iastore, 1) := by decide +kernel
theorem d_Sv_look_41 : decode b_Sv_look 41 = .ok (.return_, 1) := by decide +kernel
theorem d_Sv_set_0 : decode b_Sv_set 0 = .ok (.iload_n 1, 1) := by decide +kernel
theorem d_Sv_set_1 : decode b_Sv_set 1 = .ok (.iconst 1, 1) := by decide +kernel
theorem d_Sv_set_2 : decode b_Sv_set 2 = .ok (.ishr, 1) := by decide +kernel
theorem d_Sv_set_3 : decode b_Sv_set 3 = .ok (.istore_n 3, 1) := by decide +kernel
theorem d_Sv_set_4 : decode b_Sv_set 4 = .ok (.aload_n 0, 1) := by decide +kernel
theorem d_Sv_set_5 : decode b_Sv_set 5 = .ok (.getfield 34, 3) := by decide +kernel
theorem d_Sv_set_8 : decode b_Sv_set 8 = .ok (.iload_n 3, 1) := by decide +kernel
theorem d_Sv_set_9 : decode b_Sv_set 9 = .ok (.iload_n 1, 1) := by decide +kernel
theorem d_Sv_set_10 : decode b_Sv_set 10 = .ok (.iconst 1, 1) := by decide +kernel
theorem d_Sv_set_11 : decode b_Sv_set 11 = .ok (.iand, 1) := by decide +kernel
theorem d_Sv_set_12 : decode b_Sv_set 12 = .ok (.ifCond .ne 7, 3) := by decide +kernel
theorem d_Sv_set_15 : decode b_Sv_set 15 = .ok (.iconst 1, 1) := by decide +kernel
theorem d_Sv_set_16 : decode b_Sv_set 16 = .ok (.goto 4, 3) := by decide +kernel
theorem d_Sv_set_19 : decode b_Sv_set 19 = .ok (.iconst (-1), 1) := by decide +kernel
theorem d_Sv_set_20 : decode b_Sv_set 20 = .ok (.iastore, 1) := by decide +kernel
theorem d_Sv_set_21 : decode b_Sv_set 21 = .ok (.aload_n 0, 1) := by decide +kernel
theorem d_Sv_set_22 : decode b_Sv_set 22 = .ok (.getfield 37, 3) := by decide +kernel
theorem d_Sv_set_25 : decode b_Sv_set 25 = .ok (.iload_n 3, 1) := by decide +kernel
theorem d_Sv_set_26 : decode b_Sv_set 26 = .ok (.aload_n 0, 1) := by decide +kernel
theorem d_Sv_set_27 : decode b_Sv_set 27 = .ok (.getfield 71, 3) := by decide +kernel
theorem d_Sv_set_30 : decode b_Sv_set 30 = .ok (.iastore, 1) := by decide +kernel
theorem d_Sv_set_31 : decode b_Sv_set 31 = .ok (.aload_n 0, 1) := by decide +kernel
theorem d_Sv_set_32 : decode b_Sv_set 32 = .ok (.getfield 40, 3) := by decide +kernel
theorem d_Sv_set_35 : decode b_Sv_set 35 = .ok (.iload_n 3, 1) := by decide +kernel
theorem d_Sv_set_36 : decode b_Sv_set 36 = .ok (.iload_n 2, 1) := by decide +kernel
theorem d_Sv_set_37 : decode b_Sv_set 37 = .ok (.iastore, 1) := by decide +kernel
theorem d_Sv_set_38 : decode b_Sv_set 38 = .ok (.aload_n 0, 1) := by decide +kernel
theorem d_Sv_set_39 : decode b_Sv_set 39 = .ok (.getfield 43, 3) := by decide +kernel
theorem d_Sv_set_42 : decode b_Sv_set 42 = .ok (.aload_n 0, 1) := by decide +kernel
theorem d_Sv_set_43 : decode b_Sv_set 43 = .ok (.getfield 68, 3) := by decide +kernel
theorem d_Sv_set_46 : decode b_Sv_set 46 = .ok (.iload_n 1, 1) := by decide +kernel
theorem d_Sv_set_47 : decode b_Sv_set 47 = .ok (.iastore, 1) := by decide +kernel
theorem d_Sv_set_48 : decode b_Sv_set 48 = .ok (.aload_n 0, 1) := by decide +kernel
theorem d_Sv_set_49 : decode b_Sv_set 49 = .ok (.dup, 1) := by decide +kernel
theorem d_Sv_set_50 : decode b_Sv_set 50 = .ok (.getfield 68, 3) := by decide +kernel
theorem d_Sv_set_53 : decode b_Sv_set 53 = .ok (.iconst 1, 1) := by decide +kernel
theorem d_Sv_set_54 : decode b_Sv_set 54 = .ok (.iadd, 1) := by decide +kernel
theorem d_Sv_set_55 : decode b_Sv_set 55 = .ok (.putfield 68, 3) := by decide +kernel
theorem d_Sv_set_58 : decode b_Sv_set 58 = .ok (.return_, 1) := by decide +kernel
theorem d_Sv_propagate_0 : decode b_Sv_propagate 0 = .ok (.aload_n 0, 1) := by decide +kernel
theorem d_Sv_propagate_1 : decode b_Sv_propagate 1 = .ok (.getfield 74, 3) := by decide +kernel
theorem d_Sv_propagate_4 : decode b_Sv_propagate 4 = .ok (.aload_n 0, 1) := by decide +kernel
theorem d_Sv_propagate_5 : decode b_Sv_propagate 5 = .ok (.getfield 68, 3) := by decide +kernel
theorem d_Sv_propagate_8 : decode b_Sv_propagate 8 = .ok (.if_icmp .ge 253, 3) := by decide +kernel
theorem d_Sv_propagate_11 : decode b_Sv_propagate 11 = .ok (.aload_n 0, 1) := by decide +kernel
theorem d_Sv_propagate_12 : decode b_Sv_propagate 12 = .ok (.getfield 43, 3) := by decide +kernel
theorem d_Sv_propagate_15 : decode b_Sv_propagate 15 = .ok (.aload_n 0, 1) := by decide +kernel
theorem d_Sv_propagate_16 : decode b_Sv_propagate 16 = .ok (.getfield 74, 3) := by decide +kernel
theorem d_Sv_propagate_19 : decode b_Sv_propagate 19 = .ok (.iaload, 1) := by decide +kernel
theorem d_Sv_propagate_20 : decode b_Sv_propagate 20 = .ok (.iconst 1, 1) := by decide +kernel
theorem d_Sv_propagate_21 : decode b_Sv_propagate 21 = .ok (.ixor, 1) := by decide +kernel
theorem d_Sv_propagate_22 : decode b_Sv_propagate 22 = .ok (.istore_n 1, 1) := by decide +kernel
theorem d_Sv_propagate_23 : decode b_Sv_propagate 23 = .ok (.aload_n 0, 1) := by decide +kernel
theorem d_Sv_propagate_24 : decode b_Sv_propagate 24 = .ok (.dup, 1) := by decide +kernel
theorem d_Sv_propagate_25 : decode b_Sv_propagate 25 = .ok (.getfield 74, 3) := by decide +kernel
theorem d_Sv_propagate_28 : decode b_Sv_propagate 28 = .ok (.iconst 1, 1) := by decide +kernel
theorem d_Sv_propagate_29 : decode b_Sv_propagate 29 = .ok (.iadd, 1) := by decide +kernel
theorem d_Sv_propagate_30 : decode b_Sv_propagate 30 = .ok (.putfield 74, 3) := by decide +kernel
theorem d_Sv_propagate_33 : decode b_Sv_propagate 33 = .ok (.aload_n 0, 1) := by decide +kernel
theorem d_Sv_propagate_34 : decode b_Sv_propagate 34 = .ok (.getfield 31, 3) := by decide +kernel
theorem d_Sv_propagate_37 : decode b_Sv_propagate 37 = .ok (.iload_n 1, 1) := by decide +kernel
theorem d_Sv_propagate_38 : decode b_Sv_propagate 38 = .ok (.iaload, 1) := by decide +kernel
theorem d_Sv_propagate_39 : decode b_Sv_propagate 39 = .ok (.istore_n 2, 1) := by decide +kernel
theorem d_Sv_propagate_40 : decode b_Sv_propagate 40 = .ok (.aload_n 0, 1) := by decide +kernel
theorem d_Sv_propagate_41 : decode b_Sv_propagate 41 = .ok (.getfield 31, 3) := by decide +kernel
theorem d_Sv_propagate_44 : decode b_Sv_propagate 44 = .ok (.iload_n 1, 1) := by decide +kernel
theorem d_Sv_propagate_45 : decode b_Sv_propagate 45 = .ok (.iconst (-1), 1) := by decide +kernel
theorem d_Sv_propagate_46 : decode b_Sv_propagate 46 = .ok (.iastore, 1) := by decide +kernel
theorem d_Sv_propagate_47 : decode b_Sv_propagate 47 = .ok (.iload_n 2, 1) := by decide +kernel
theorem d_Sv_propagate_48 : decode b_Sv_propagate 48 = .ok (.ifCond .lt 210, 3) := by decide +kernel
theorem d_Sv_propagate_51 : decode b_Sv_propagate 51 = .ok (.iload_n 2, 1) := by decide +kernel
theorem d_Sv_propagate_52 : decode b_Sv_propagate 52 = .ok (.iconst 1, 1) := by decide +kernel
theorem d_Sv_propagate_53 : decode b_Sv_propagate 53 = .ok (.ishr, 1) := by decide +kernel
theorem d_Sv_propagate_54 : decode b_Sv_propagate 54 = .ok (.istore_n 3, 1) := by decide +kernel
theorem d_Sv_propagate_55 : decode b_Sv_propagate 55 = .ok (.iload_n 2, 1) := by decide +kernel
theorem d_Sv_propagate_56 : decode b_Sv_propagate 56 = .ok (.iconst 1, 1) := by decide +kernel
theorem d_Sv_propagate_57 : decode b_Sv_propagate 57 = .ok (.iand, 1) := by decide +kernel
theorem d_Sv_propagate_58 : decode b_Sv_propagate 58 = .ok (.istore 4, 2) := by decide +kernel
theorem d_Sv_propagate_60 : decode b_Sv_propagate 60 = .ok (.aload_n 0, 1) := by decide +kernel
theorem d_Sv_propagate_61 : decode b_Sv_propagate 61 = .ok (.getfield 22, 3) := by decide +kernel
theorem d_Sv_propagate_64 : decode b_Sv_propagate 64 = .ok (.iload_n 2, 1) := by decide +kernel
theorem d_Sv_propagate_65 : decode b_Sv_propagate 65 = .ok (.iaload, 1) := by decide +kernel
theorem d_Sv_propagate_66 : decode b_Sv_propagate 66 = .ok (.istore 5, 2) := by decide +kernel
theorem d_Sv_propagate_68 : decode b_Sv_propagate 68 = .ok (.aload_n 0, 1) := by decide +kernel
theorem d_Sv_propagate_69 : decode b_Sv_propagate 69 = .ok (.getfield 15, 3) := by decide +kernel
theorem d_Sv_propagate_72 : decode b_Sv_propagate 72 = .ok (.aload_n 0, 1) := by decide +kernel
theorem d_Sv_propagate_73 : decode b_Sv_propagate 73 = .ok (.getfield 19, 3) := by decide +kernel
theorem d_Sv_propagate_76 : decode b_Sv_propagate 76 = .ok (.iload_n 3, 1) := by decide +kernel
theorem d_Sv_propagate_77 : decode b_Sv_propagate 77 = .ok (.iaload, 1) := by decide +kernel
theorem d_Sv_propagate_78 : decode b_Sv_propagate 78 = .ok (.iconst 1, 1) := by decide +kernel
theorem d_Sv_propagate_79 : decode b_Sv_propagate 79 = .ok (.iadd, 1) := by decide +kernel
theorem d_Sv_propagate_80 : decode b_Sv_propagate 80 = .ok (.iload 4, 2) := by decide +kernel
theorem d_Sv_propagate_82 : decode b_Sv_propagate 82 = .ok (.isub, 1) := by decide +kernel
theorem d_Sv_propagate_83 : decode b_Sv_propagate 83 = .ok (.iaload, 1) := by decide +kernel
theorem d_Sv_propagate_84 : decode b_Sv_propagate 84 = .ok (.istore 6, 2) := by decide +kernel
theorem d_Sv_propagate_86 : decode b_Sv_propagate 86 = .ok (.aload_n 0, 1) := by decide +kernel
theorem d_Sv_propagate_87 : decode b_Sv_propagate 87 = .ok (.getfield 19, 3) := by decide +kernel
theorem d_Sv_propagate_90 : decode b_Sv_propagate 90 = .ok (.iload_n 3, 1) := by decide +kernel
theorem d_Sv_propagate_91 : decode b_Sv_propagate 91 = .ok (.iaload, 1) := by decide +kernel
theorem d_Sv_propagate_92 : decode b_Sv_propagate 92 = .ok (.iconst 2, 1) := by decide +kernel
theorem d_Sv_propagate_93 : decode b_Sv_propagate 93 = .ok (.iadd, 1) := by decide +kernel
theorem d_Sv_propagate_94 : decode b_Sv_propagate 94 = .ok (.istore 7, 2) := by decide +kernel
theorem d_Sv_propagate_96 : decode b_Sv_propagate 96 = .ok (.aload_n 0, 1) := by decide +kernel
theorem d_Sv_propagate_97 : decode b_Sv_propagate 97 = .ok (.iload 6, 2) := by decide +kernel
theorem d_Sv_propagate_99 : decode b_Sv_propagate 99 = .ok (.invokevirtual 90, 3) := by decide +kernel
theorem d_Sv_propagate_102 : decode b_Sv_propagate 102 = .ok (.ifCond .gt 36, 3) := by decide +kernel
theorem d_Sv_propagate_105 : decode b_Sv_propagate 105 = .ok (.iload 7, 2) := by decide +kernel
theorem d_Sv_propagate_107 : decode b_Sv_propagate 107 = .ok (.aload_n 0, 1) := by decide +kernel
theorem d_Sv_propagate_108 : decode b_Sv_propagate 108 = .ok (.getfield 19, 3) := by decide +kernel
theorem d_Sv_propagate_111 : decode b_Sv_propagate 111 = .ok (.iload_n 3, 1) := by decide +kernel
theorem d_Sv_propagate_112 : decode b_Sv_propagate 112 = .ok (.iconst 1, 1) := by decide +kernel
theorem d_Sv_propagate_113 : decode b_Sv_propagate 113 = .ok (.iadd, 1) := by decide +kernel
theorem d_Sv_propagate_114 : decode b_Sv_propagate 114 = .ok (.iaload, 1) := by decide +kernel
theorem d_Sv_propagate_115 : decode b_Sv_propagate 115 = .ok (.if_icmp .ge 23, 3) := by decide +kernel
theorem d_Sv_propagate_118 : decode b_Sv_propagate 118 = .ok (.aload_n 0, 1) := by decide +kernel
theorem d_Sv_propagate_119 : decode b_Sv_propagate 119 = .ok (.aload_n 0, 1) := by decide +kernel
theorem d_Sv_propagate_120 : decode b_Sv_propagate 120 = .ok (.getfield 15, 3) := by decide +kernel
theorem d_Sv_propagate_123 : decode b_Sv_propagate 123 = .ok (.iload 7, 2) := by decide +kernel
theorem d_Sv_propagate_125 : decode b_Sv_propagate 125 = .ok (.iaload, 1) := by decide +kernel
theorem d_Sv_propagate_126 : decode b_Sv_propagate 126 = .ok (.invokevirtual 90, 3) := by decide +kernel
theorem d_Sv_propagate_129 : decode b_Sv_propagate 129 = .ok (.ifCond .ge 9, 3) := by decide +kernel
theorem d_Sv_propagate_132 : decode b_Sv_propagate 132 = .ok (.iinc 7 1, 3) := by decide +kernel
theorem d_Sv_propagate_135 : decode b_Sv_propagate 135 = .ok (.goto (-30), 3) := by decide +kernel
theorem d_Sv_propagate_138 : decode b_Sv_propagate 138 = .ok (.aload_n 0, 1) := by decide +kernel
theorem d_Sv_propagate_139 : decode b_Sv_propagate 139 = .ok (.iload 6, 2) := by decide +kernel
theorem d_Sv_propagate_141 : decode b_Sv_propagate 141 = .ok (.invokevirtual 90, 3) := by decide +kernel
theorem d_Sv_propagate_144 : decode b_Sv_propagate 144 = .ok (.ifCond .gt 55, 3) := by decide +kernel
theorem d_Sv_propagate_147 : decode b_Sv_propagate 147 = .ok (.iload 7, 2) := by decide +kernel
theorem d_Sv_propagate_149 : decode b_Sv_propagate 149 = .ok (.aload_n 0, 1) := by decide +kernel
theorem d_Sv_propagate_150 : decode b_Sv_propagate 150 = .ok (.getfield 19, 3) := by decide +kernel
theorem d_Sv_propagate_153 : decode b_Sv_propagate 153 = .ok (.iload_n 3, 1) := by decide +kernel
theorem d_Sv_propagate_154 : decode b_Sv_propagate 154 = .ok (.iconst 1, 1) := by decide +kernel
theorem d_Sv_propagate_155 : decode b_Sv_propagate 155 = .ok (.iadd, 1) := by decide +kernel
theorem d_Sv_propagate_156 : decode b_Sv_propagate 156 = .ok (.iaload, 1) := by decide +kernel
theorem d_Sv_propagate_157 : decode b_Sv_propagate 157 = .ok (.if_icmp .ge 42, 3) := by decide +kernel
theorem d_Sv_propagate_160 : decode b_Sv_propagate 160 = .ok (.aload_n 0, 1) := by decide +kernel
theorem d_Sv_propagate_161 : decode b_Sv_propagate 161 = .ok (.getfield 15, 3) := by decide +kernel
theorem d_Sv_propagate_164 : decode b_Sv_propagate 164 = .ok (.aload_n 0, 1) := by decide +kernel
theorem d_Sv_propagate_165 : decode b_Sv_propagate 165 = .ok (.getfield 19, 3) := by decide +kernel
theorem d_Sv_propagate_168 : decode b_Sv_propagate 168 = .ok (.iload_n 3, 1) := by decide +kernel
theorem d_Sv_propagate_169 : decode b_Sv_propagate 169 = .ok (.iaload, 1) := by decide +kernel
theorem d_Sv_propagate_170 : decode b_Sv_propagate 170 = .ok (.iload 4, 2) := by decide +kernel
theorem d_Sv_propagate_172 : decode b_Sv_propagate 172 = .ok (.iadd, 1) := by decide +kernel
theorem d_Sv_propagate_173 : decode b_Sv_propagate 173 = .ok (.aload_n 0, 1) := by decide +kernel
theorem d_Sv_propagate_174 : decode b_Sv_propagate 174 = .ok (.getfield 15, 3) := by decide +kernel
theorem d_Sv_propagate_177 : decode b_Sv_propagate 177 = .ok (.iload 7, 2) := by decide +kernel
theorem d_Sv_propagate_179 : decode b_Sv_propagate 179 = .ok (.iaload, 1) := by decide +kernel
theorem d_Sv_propagate_180 : decode b_Sv_propagate 180 = .ok (.iastore, 1) := by decide +kernel
theorem d_Sv_propagate_181 : decode b_Sv_propagate 181 = .ok (.aload_n 0, 1) := by decide +kernel
theorem d_Sv_propagate_182 : decode b_Sv_propagate 182 = .ok (.getfield 15, 3) := by decide +kernel
theorem d_Sv_propagate_185 : decode b_Sv_propagate 185 = .ok (.iload 7, 2) := by decide +kernel
theorem d_Sv_propagate_187 : decode b_Sv_propagate 187 = .ok (.iload_n 1, 1) := by decide +kernel
theorem d_Sv_propagate_188 : decode b_Sv_propagate 188 = .ok (.iastore, 1) := by decide +kernel
theorem d_Sv_propagate_189 : decode b_Sv_propagate 189 = .ok (.aload_n 0, 1) := by decide +kernel
theorem d_Sv_propagate_190 : decode b_Sv_propagate 190 = .ok (.iload_n 3, 1) := by decide +kernel
theorem d_Sv_propagate_191 : decode b_Sv_propagate 191 = .ok (.iload 4, 2) := by decide +kernel
theorem d_Sv_propagate_193 : decode b_Sv_propagate 193 = .ok (.invokevirtual 105, 3) := by decide +kernel
theorem d_Sv_propagate_196 : decode b_Sv_propagate 196 = .ok (.goto 56, 3) := by decide +kernel
theorem d_Sv_propagate_199 : decode b_Sv_propagate 199 = .ok (.aload_n 0, 1) := by decide +kernel
theorem d_Sv_propagate_200 : decode b_Sv_propagate 200 = .ok (.getfield 22, 3) := by decide +kernel
theorem d_Sv_propagate_203 : decode b_Sv_propagate 203 = .ok (.iload_n 2, 1) := by decide +kernel
theorem d_Sv_propagate_204 : decode b_Sv_propagate 204 = .ok (.aload_n 0, 1) := by decide +kernel
theorem d_Sv_propagate_205 : decode b_Sv_propagate 205 = .ok (.getfield 31, 3) := by decide +kernel
theorem d_Sv_propagate_208 : decode b_Sv_propagate 208 = .ok (.iload_n 1, 1) := by decide +kernel
theorem d_Sv_propagate_209 : decode b_Sv_propagate 209 = .ok (.iaload, 1) := by decide +kernel
theorem d_Sv_propagate_210 : decode b_Sv_propagate 210 = .ok (.iastore, 1) := by decide +kernel
theorem d_Sv_propagate_211 : decode b_Sv_propagate 211 = .ok (.aload_n 0, 1) := by decide +kernel
theorem d_Sv_propagate_212 : decode b_Sv_propagate 212 = .ok (.getfield 31, 3) := by decide +kernel
theorem d_Sv_propagate_215 : decode b_Sv_propagate 215 = .ok (.iload_n 1, 1) := by decide +kernel
theorem d_Sv_propagate_216 : decode b_Sv_propagate 216 = .ok (.iload_n 2, 1) := by decide +kernel
theorem d_Sv_propagate_217 : decode b_Sv_propagate 217 = .ok (.iastore, 1) := by decide +kernel
theorem d_Sv_propagate_218 : decode b_Sv_propagate 218 = .ok (.aload_n 0, 1) := by decide +kernel
theorem d_Sv_propagate_219 : decode b_Sv_propagate 219 = .ok (.iload 6, 2) := by decide +kernel
theorem d_Sv_propagate_221 : decode b_Sv_propagate 221 = .ok (.invokevirtual 90, 3) := by decide +kernel
theorem d_Sv_propagate_224 : decode b_Sv_propagate 224 = .ok (.ifCond .ge 12, 3) := by decide +kernel
theorem d_Sv_propagate_227 : decode b_Sv_propagate 227 = .ok (.aload_n 0, 1) := by decide +kernel
theorem d_Sv_propagate_228 : decode b_Sv_propagate 228 = .ok (.iload 5, 2) := by decide +kernel
theorem d_Sv_propagate_230 : decode b_Sv_propagate 230 = .ok (.iload_n 1, 1) := by decide +kernel
theorem d_Sv_propagate_231 : decode b_Sv_propagate 231 = .ok (.invokevirtual 114, 3) := by decide +kernel
theorem d_Sv_propagate_234 : decode b_Sv_propagate 234 = .ok (.iload_n 3, 1) := by decide +kernel
theorem d_Sv_propagate_235 : decode b_Sv_propagate 235 = .ok (.ireturn, 1) := by decide +kernel
theorem d_Sv_propagate_236 : decode b_Sv_propagate 236 = .ok (.aload_n 0, 1) := by decide +kernel
theorem d_Sv_propagate_237 : decode b_Sv_propagate 237 = .ok (.iload 6, 2) := by decide +kernel
theorem d_Sv_propagate_239 : decode b_Sv_propagate 239 = .ok (.invokevirtual 90, 3) := by decide +kernel
theorem d_Sv_propagate_242 : decode b_Sv_propagate 242 = .ok (.ifCond .ne 10, 3) := by decide +kernel
theorem d_Sv_propagate_245 : decode b_Sv_propagate 245 = .ok (.aload_n 0, 1) := by decide +kernel
theorem d_Sv_propagate_246 : decode b_Sv_propagate 246 = .ok (.iload 6, 2) := by decide +kernel
theorem d_Sv_propagate_248 : decode b_Sv_propagate 248 = .ok (.iload_n 3, 1) := by decide +kernel
theorem d_Sv_propagate_249 : decode b_Sv_propagate 249 = .ok (.invokevirtual 94, 3) := by decide +kernel
theorem d_Sv_propagate_252 : decode b_Sv_propagate 252 = .ok (.iload 5, 2) := by decide +kernel
theorem d_Sv_propagate_254 : decode b_Sv_propagate 254 = .ok (.istore_n 2, 1) := by decide +kernel
theorem d_Sv_propagate_255 : decode b_Sv_propagate 255 = .ok (.goto (-208), 3) := by decide +kernel
theorem d_Sv_propagate_258 : decode b_Sv_propagate 258 = .ok (.goto (-258), 3) := by decide +kernel
theorem d_Sv_propagate_261 : decode b_Sv_propagate 261 = .ok (.iconst (-1), 1) := by decide +kernel
theorem d_Sv_propagate_262 : decode b_Sv_propagate 262 = .ok (.ireturn, 1) := by decide +kernel
theorem d_Sv_rest_0 : decode b_Sv_rest 0 = .ok (.iload_n 1, 1) := by decide +kernel
theorem d_Sv_rest_1 : decode b_Sv_rest 1 = .ok (.istore_n 3, 1) := by decide +kernel
theorem d_Sv_rest_2 : decode b_Sv_rest 2 = .ok (.iload_n 3, 1) := by decide +kernel
theorem d_Sv_rest_3 : decode b_Sv_rest 3 = .ok (.ifCond .lt 36, 3) := by decide +kernel
theorem d_Sv_rest_6 : decode b_Sv_rest 6 = .ok (.aload_n 0, 1) := by decide +kernel
theorem d_Sv_rest_7 : decode b_Sv_rest 7 = .ok (.getfield 22, 3) := by decide +kernel
theorem d_Sv_rest_10 : decode b_Sv_rest 10 = .ok (.iload_n 3, 1) := by decide +kernel
theorem d_Sv_rest_11 : decode b_Sv_rest 11 = .ok (.iaload, 1) := by decide +kernel
theorem d_Sv_rest_12 : decode b_Sv_rest 12 = .ok (.istore 4, 2) := by decide +kernel
theorem d_Sv_rest_14 : decode b_Sv_rest 14 = .ok (.aload_n 0, 1) := by decide +kernel
theorem d_Sv_rest_15 : decode b_Sv_rest 15 = .ok (.getfield 22, 3) := by decide +kernel
theorem d_Sv_rest_18 : decode b_Sv_rest 18 = .ok (.iload_n 3, 1) := by decide +kernel
theorem d_Sv_rest_19 : decode b_Sv_rest 19 = .ok (.aload_n 0, 1) := by decide +kernel
theorem d_Sv_rest_20 : decode b_Sv_rest 20 = .ok (.getfield 31, 3) := by decide +kernel
theorem d_Sv_rest_23 : decode b_Sv_rest 23 = .ok (.iload_n 2, 1) := by decide +kernel
theorem d_Sv_rest_24 : decode b_Sv_rest 24 = .ok (.iaload, 1) := by decide +kernel
theorem d_Sv_rest_25 : decode b_Sv_rest 25 = .ok (.iastore, 1) := by decide +kernel
theorem d_Sv_rest_26 : decode b_Sv_rest 26 = .ok (.aload_n 0, 1) := by decide +kernel
theorem d_Sv_rest_27 : decode b_Sv_rest 27 = .ok (.getfield 31, 3) := by decide +kernel
theorem d_Sv_rest_30 : decode b_Sv_rest 30 = .ok (.iload_n 2, 1) := by decide +kernel
theorem d_Sv_rest_31 : decode b_Sv_rest 31 = .ok (.iload_n 3, 1) := by decide +kernel
theorem d_Sv_rest_32 : decode b_Sv_rest 32 = .ok (.iastore, 1) := by decide +kernel
theorem d_Sv_rest_33 : decode b_Sv_rest 33 = .ok (.iload 4, 2) := by decide +kernel
theorem d_Sv_rest_35 : decode b_Sv_rest 35 = .ok (.istore_n 3, 1) := by decide +kernel
theorem d_Sv_rest_36 : decode b_Sv_rest 36 = .ok (.goto (-34), 3) := by decide +kernel
theorem d_Sv_rest_39 : decode b_Sv_rest 39 = .ok (.return_, 1) := by decide +kernel
theorem d_Sv_back_0 : decode b_Sv_back 0 = .ok (.aload_n 0, 1) := by decide +kernel
theorem d_Sv_back_1 : decode b_Sv_back 1 = .ok (.getfield 71, 3) := by decide +kernel
theorem d_Sv_back_4 : decode b_Sv_back 4 = .ok (.iload_n 1, 1) := by decide +kernel
theorem d_Sv_back_5 : decode b_Sv_back 5 = .ok (.if_icmp .le 59, 3) := by decide +kernel
theorem d_Sv_back_8 : decode b_Sv_back 8 = .ok (.aload_n 0, 1) := by decide +kernel
theorem d_Sv_back_9 : decode b_Sv_back 9 = .ok (.dup, 1) := by decide +kernel
theorem d_Sv_back_10 : decode b_Sv_back 10 = .ok (.getfield 71, 3) := by decide +kernel
theorem d_Sv_back_13 : decode b_Sv_back 13 = .ok (.iconst 1, 1) := by decide +kernel
theorem d_Sv_back_14 : decode b_Sv_back 14 = .ok (.isub, 1) := by decide +kernel
theorem d_Sv_back_15 : decode b_Sv_back 15 = .ok (.putfield 71, 3) := by decide +kernel
theorem d_Sv_back_18 : decode b_Sv_back 18 = .ok (.aload_n 0, 1) := by decide +kernel
theorem d_Sv_back_19 : decode b_Sv_back 19 = .ok (.getfield 68, 3) := by decide +kernel
theorem d_Sv_back_22 : decode b_Sv_back 22 = .ok (.aload_n 0, 1) := by decide +kernel
theorem d_Sv_back_23 : decode b_Sv_back 23 = .ok (.getfield 46, 3) := by decide +kernel
theorem d_Sv_back_26 : decode b_Sv_back 26 = .ok (.aload_n 0, 1) := by decide +kernel
theorem d_Sv_back_27 : decode b_Sv_back 27 = .ok (.getfield 71, 3) := by decide +kernel
theorem d_Sv_back_30 : decode b_Sv_back 30 = .ok (.iaload, 1) := by decide +kernel
theorem d_Sv_back_31 : decode b_Sv_back 31 = .ok (.if_icmp .le (-31), 3) := by decide +kernel
theorem d_Sv_back_34 : decode b_Sv_back 34 = .ok (.aload_n 0, 1) := by decide +kernel
theorem d_Sv_back_35 : decode b_Sv_back 35 = .ok (.dup, 1) := by decide +kernel
theorem d_Sv_back_36 : decode b_Sv_back 36 = .ok (.getfield 68, 3) := by decide +kernel
theorem d_Sv_back_39 : decode b_Sv_back 39 = .ok (.iconst 1, 1) := by decide +kernel
theorem d_Sv_back_40 : decode b_Sv_back 40 = .ok (.isub, 1) := by decide +kernel
theorem d_Sv_back_41 : decode b_Sv_back 41 = .ok (.putfield 68, 3) := by decide +kernel
theorem d_Sv_back_44 : decode b_Sv_back 44 = .ok (.aload_n 0, 1) := by decide +kernel
theorem d_Sv_back_45 : decode b_Sv_back 45 = .ok (.getfield 34, 3) := by decide +kernel
theorem d_Sv_back_48 : decode b_Sv_back 48 = .ok (.aload_n 0, 1) := by decide +kernel
theorem d_Sv_back_49 : decode b_Sv_back 49 = .ok (.getfield 43, 3) := by decide +kernel
theorem d_Sv_back_52 : decode b_Sv_back 52 = .ok (.aload_n 0, 1) := by decide +kernel
theorem d_Sv_back_53 : decode b_Sv_back 53 = .ok (.getfield 68, 3) := by decide +kernel
theorem d_Sv_back_56 : decode b_Sv_back 56 = .ok (.iaload, 1) := by decide +kernel
theorem d_Sv_back_57 : decode b_Sv_back 57 = .ok (.iconst 1, 1) := by decide +kernel
theorem d_Sv_back_58 : decode b_Sv_back 58 = .ok (.ishr, 1) := by decide +kernel
theorem d_Sv_back_59 : decode b_Sv_back 59 = .ok (.iconst 0, 1) := by decide +kernel
theorem d_Sv_back_60 : decode b_Sv_back 60 = .ok (.iastore, 1) := by decide +kernel
theorem d_Sv_back_61 : decode b_Sv_back 61 = .ok (.goto (-43), 3) := by decide +kernel
theorem d_Sv_back_64 : decode b_Sv_back 64 = .ok (.aload_n 0, 1) := by decide +kernel
theorem d_Sv_back_65 : decode b_Sv_back 65 = .ok (.aload_n 0, 1) := by decide +kernel
theorem d_Sv_back_66 : decode b_Sv_back 66 = .ok (.getfield 68, 3) := by decide +kernel
theorem d_Sv_back_69 : decode b_Sv_back 69 = .ok (.putfield 74, 3) := by decide +kernel
theorem d_Sv_back_72 : decode b_Sv_back 72 = .ok (.return_, 1) := by decide +kernel
theorem d_Sv_learn_0 : decode b_Sv_learn 0 = .ok (.iconst 0, 1) := by decide +kernel
theorem d_Sv_learn_1 : decode b_Sv_learn 1 = .ok (.istore_n 2, 1) := by decide +kernel
theorem d_Sv_learn_2 : decode b_Sv_learn 2 = .ok (.aload_n 0, 1) := by decide +kernel
theorem d_Sv_learn_3 : decode b_Sv_learn 3 = .ok (.getfield 19, 3) := by decide +kernel
theorem d_Sv_learn_6 : decode b_Sv_learn 6 = .ok (.iload_n 1, 1) := by decide +kernel
theorem d_Sv_learn_7 : decode b_Sv_learn 7 = .ok (.iaload, 1) := by decide +kernel
theorem d_Sv_learn_8 : decode b_Sv_learn 8 = .ok (.istore_n 3, 1) := by decide +kernel
theorem d_Sv_learn_9 : decode b_Sv_learn 9 = .ok (.iload_n 3, 1) := by decide +kernel
theorem d_Sv_learn_10 : decode b_Sv_learn 10 = .ok (.aload_n 0, 1) := by decide +kernel
theorem d_Sv_learn_11 : decode b_Sv_learn 11 = .ok (.getfield 19, 3) := by decide +kernel
theorem d_Sv_learn_14 : decode b_Sv_learn 14 = .ok (.iload_n 1, 1) := by decide +kernel
theorem d_Sv_learn_15 : decode b_Sv_learn 15 = .ok (.iconst 1, 1) := by decide +kernel
theorem d_Sv_learn_16 : decode b_Sv_learn 16 = .ok (.iadd, 1) := by decide +kernel
theorem d_Sv_learn_17 : decode b_Sv_learn 17 = .ok (.iaload, 1) := by decide +kernel
theorem d_Sv_learn_18 : decode b_Sv_learn 18 = .ok (.if_icmp .ge 27, 3) := by decide +kernel
theorem d_Sv_learn_21 : decode b_Sv_learn 21 = .ok (.iload_n 2, 1) := by decide +kernel
theorem d_Sv_learn_22 : decode b_Sv_learn 22 = .ok (.aload_n 0, 1) := by decide +kernel
theorem d_Sv_learn_23 : decode b_Sv_learn 23 = .ok (.getfield 37, 3) := by decide +kernel
theorem d_Sv_learn_26 : decode b_Sv_learn 26 = .ok (.aload_n 0, 1) := by decide +kernel
theorem d_Sv_learn_27 : decode b_Sv_learn 27 = .ok (.getfield 15, 3) := by decide +kernel
theorem d_Sv_learn_30 : decode b_Sv_learn 30 = .ok (.iload_n 3, 1) := by decide +kernel
theorem d_Sv_learn_31 : decode b_Sv_learn 31 = .ok (.iaload, 1) := by decide +kernel
theorem d_Sv_learn_32 : decode b_Sv_learn 32 = .ok (.iconst 1, 1) := by decide +kernel
theorem d_Sv_learn_33 : decode b_Sv_learn 33 = .ok (.ishr, 1) := by decide +kernel
theorem d_Sv_learn_34 : decode b_Sv_learn 34 = .ok (.iaload, 1) := by decide +kernel
theorem d_Sv_learn_35 : decode b_Sv_learn 35 = .ok (.invokestatic 117, 3) := by decide +kernel
theorem d_Sv_learn_38 : decode b_Sv_learn 38 = .ok (.istore_n 2, 1) := by decide +kernel
theorem d_Sv_learn_39 : decode b_Sv_learn 39 = .ok (.iinc 3 1, 3) := by decide +kernel
theorem d_Sv_learn_42 : decode b_Sv_learn 42 = .ok (.goto (-33), 3) := by decide +kernel
theorem d_Sv_learn_45 : decode b_Sv_learn 45 = .ok (.aload_n 0, 1) := by decide +kernel
theorem d_Sv_learn_46 : decode b_Sv_learn 46 = .ok (.iload_n 2, 1) := by decide +kernel
theorem d_Sv_learn_47 : decode b_Sv_learn 47 = .ok (.invokevirtual 123, 3) := by decide +kernel
theorem d_Sv_learn_50 : decode b_Sv_learn 50 = .ok (.iload_n 2, 1) := by decide +kernel
theorem d_Sv_learn_51 : decode b_Sv_learn 51 = .ok (.ifCond .ne 5, 3) := by decide +kernel
theorem d_Sv_learn_54 : decode b_Sv_learn 54 = .ok (.iconst 0, 1) := by decide +kernel
theorem d_Sv_learn_55 : decode b_Sv_learn 55 = .ok (.ireturn, 1) := by decide +kernel
theorem d_Sv_learn_56 : decode b_Sv_learn 56 = .ok (.aload_n 0, 1) := by decide +kernel
theorem d_Sv_learn_57 : decode b_Sv_learn 57 = .ok (.getfield 52, 3) := by decide +kernel
theorem d_Sv_learn_60 : decode b_Sv_learn 60 = .ok (.iconst 0, 1) := by decide +kernel
theorem d_Sv_learn_61 : decode b_Sv_learn 61 = .ok (.invokestatic 127, 3) := by decide +kernel
theorem d_Sv_learn_64 : decode b_Sv_learn 64 = .ok (.aload_n 0, 1) := by decide +kernel
theorem d_Sv_learn_65 : decode b_Sv_learn 65 = .ok (.iconst 1, 1) := by decide +kernel
theorem d_Sv_learn_66 : decode b_Sv_learn 66 = .ok (.putfield 81, 3) := by decide +kernel
theorem d_Sv_learn_69 : decode b_Sv_learn 69 = .ok (.iconst 0, 1) := by decide +kernel
theorem d_Sv_learn_70 : decode b_Sv_learn 70 = .ok (.istore_n 3, 1) := by decide +kernel
theorem d_Sv_learn_71 : decode b_Sv_learn 71 = .ok (.aload_n 0, 1) := by decide +kernel
theorem d_Sv_learn_72 : decode b_Sv_learn 72 = .ok (.getfield 68, 3) := by decide +kernel
theorem d_Sv_learn_75 : decode b_Sv_learn 75 = .ok (.istore 4, 2) := by decide +kernel
theorem d_Sv_learn_77 : decode b_Sv_learn 77 = .ok (.iload_n 1, 1) := by decide +kernel
theorem d_Sv_learn_78 : decode b_Sv_learn 78 = .ok (.istore 5, 2) := by decide +kernel
theorem d_Sv_learn_80 : decode b_Sv_learn 80 = .ok (.iconst (-1), 1) := by decide +kernel
theorem d_Sv_learn_81 : decode b_Sv_learn 81 = .ok (.istore 6, 2) := by decide +kernel
theorem d_Sv_learn_83 : decode b_Sv_learn 83 = .ok (.aload_n 0, 1) := by decide +kernel
theorem d_Sv_learn_84 : decode b_Sv_learn 84 = .ok (.getfield 19, 3) := by decide +kernel
theorem d_Sv_learn_87 : decode b_Sv_learn 87 = .ok (.iload 5, 2) := by decide +kernel
theorem d_Sv_learn_89 : decode b_Sv_learn 89 = .ok (.iaload, 1) := by decide +kernel
theorem d_Sv_learn_90 : decode b_Sv_learn 90 = .ok (.istore 7, 2) := by decide +kernel
theorem d_Sv_learn_92 : decode b_Sv_learn 92 = .ok (.iload 7, 2) := by decide +kernel
theorem d_Sv_learn_94 : decode b_Sv_learn 94 = .ok (.aload_n 0, 1) := by decide +kernel
theorem d_Sv_learn_95 : decode b_Sv_learn 95 = .ok (.getfield 19, 3) := by decide +kernel
theorem d_Sv_learn_98 : decode b_Sv_learn 98 = .ok (.iload 5, 2) := by decide +kernel
theorem d_Sv_learn_100 : decode b_Sv_learn 100 = .ok (.iconst 1, 1) := by decide +kernel
theorem d_Sv_learn_101 : decode b_Sv_learn 101 = .ok (.iadd, 1) := by decide +kernel
theorem d_Sv_learn_102 : decode b_Sv_learn 102 = .ok (.iaload, 1) := by decide +kernel
theorem d_Sv_learn_103 : decode b_Sv_learn 103 = .ok (.if_icmp .ge 104, 3) := by decide +kernel
theorem d_Sv_learn_106 : decode b_Sv_learn 106 = .ok (.aload_n 0, 1) := by decide +kernel
theorem d_Sv_learn_107 : decode b_Sv_learn 107 = .ok (.getfield 15, 3) := by decide +kernel
theorem d_Sv_learn_110 : decode b_Sv_learn 110 = .ok (.iload 7, 2) := by decide +kernel
theorem d_Sv_learn_112 : decode b_Sv_learn 112 = .ok (.iaload, 1) := by decide +kernel
theorem d_Sv_learn_113 : decode b_Sv_learn 113 = .ok (.iconst 1, 1) := by decide +kernel
theorem d_Sv_learn_114 : decode b_Sv_learn 114 = .ok (.ishr, 1) := by decide +kernel
theorem d_Sv_learn_115 : decode b_Sv_learn 115 = .ok (.istore 8, 2) := by decide +kernel
theorem d_Sv_learn_117 : decode b_Sv_learn 117 = .ok (.iload 8, 2) := by decide +kernel
theorem d_Sv_learn_119 : decode b_Sv_learn 119 = .ok (.iload 6, 2) := by decide +kernel
theorem d_Sv_learn_121 : decode b_Sv_learn 121 = .ok (.if_icmp .eq 80, 3) := by decide +kernel
theorem d_Sv_learn_124 : decode b_Sv_learn 124 = .ok (.aload_n 0, 1) := by decide +kernel
theorem d_Sv_learn_125 : decode b_Sv_learn 125 = .ok (.getfield 52, 3) := by decide +kernel
theorem d_Sv_learn_128 : decode b_Sv_learn 128 = .ok (.iload 8, 2) := by decide +kernel
theorem d_Sv_learn_130 : decode b_Sv_learn 130 = .ok (.baload, 1) := by decide +kernel
theorem d_Sv_learn_131 : decode b_Sv_learn 131 = .ok (.ifCond .ne 70, 3) := by decide +kernel
theorem d_Sv_learn_134 : decode b_Sv_learn 134 = .ok (.aload_n 0, 1) := by decide +kernel
theorem d_Sv_learn_135 : decode b_Sv_learn 135 = .ok (.getfield 37, 3) := by decide +kernel
theorem d_Sv_learn_138 : decode b_Sv_learn 138 = .ok (.iload 8, 2) := by decide +kernel
theorem d_Sv_learn_140 : decode b_Sv_learn 140 = .ok (.iaload, 1) := by decide +kernel
theorem d_Sv_learn_141 : decode b_Sv_learn 141 = .ok (.ifCond .ne 6, 3) := by decide +kernel
theorem d_Sv_learn_144 : decode b_Sv_learn 144 = .ok (.goto 57, 3) := by decide +kernel
theorem d_Sv_learn_147 : decode b_Sv_learn 147 = .ok (.aload_n 0, 1) := by decide +kernel
theorem d_Sv_learn_148 : decode b_Sv_learn 148 = .ok (.getfield 52, 3) := by decide +kernel
theorem d_Sv_learn_151 : decode b_Sv_learn 151 = .ok (.iload 8, 2) := by decide +kernel
theorem d_Sv_learn_153 : decode b_Sv_learn 153 = .ok (.iconst 1, 1) := by decide +kernel
theorem d_Sv_learn_154 : decode b_Sv_learn 154 = .ok (.bastore, 1) := by decide +kernel
theorem d_Sv_learn_155 : decode b_Sv_learn 155 = .ok (.aload_n 0, 1) := by decide +kernel
theorem d_Sv_learn_156 : decode b_Sv_learn 156 = .ok (.getfield 37, 3) := by decide +kernel
theorem d_Sv_learn_159 : decode b_Sv_learn 159 = .ok (.iload 8, 2) := by decide +kernel
theorem d_Sv_learn_161 : decode b_Sv_learn 161 = .ok (.iaload, 1) := by decide +kernel
theorem d_Sv_learn_162 : decode b_Sv_learn 162 = .ok (.aload_n 0, 1) := by decide +kernel
theorem d_Sv_learn_163 : decode b_Sv_learn 163 = .ok (.getfield 71, 3) := by decide +kernel
theorem d_Sv_learn_166 : decode b_Sv_learn 166 = .ok (.if_icmp .ne 9, 3) := by decide +kernel
theorem d_Sv_learn_169 : decode b_Sv_learn 169 = .ok (.iinc 3 1, 3) := by decide +kernel
theorem d_Sv_learn_172 : decode b_Sv_learn 172 = .ok (.goto 29, 3) := by decide +kernel
theorem d_Sv_learn_175 : decode b_Sv_learn 175 = .ok (.aload_n 0, 1) := by decide +kernel
theorem d_Sv_learn_176 : decode b_Sv_learn 176 = .ok (.getfield 49, 3) := by decide +kernel
theorem d_Sv_learn_179 : decode b_Sv_learn 179 = .ok (.aload_n 0, 1) := by decide +kernel
theorem d_Sv_learn_180 : decode b_Sv_learn 180 = .ok (.getfield 81, 3) := by decide +kernel
theorem d_Sv_learn_183 : decode b_Sv_learn 183 = .ok (.aload_n 0, 1) := by decide +kernel
theorem d_Sv_learn_184 : decode b_Sv_learn 184 = .ok (.getfield 15, 3) := by decide +kernel
theorem d_Sv_learn_187 : decode b_Sv_learn 187 = .ok (.iload 7, 2) := by decide +kernel
theorem d_Sv_learn_189 : decode b_Sv_learn 189 = .ok (.iaload, 1) := by decide +kernel
theorem d_Sv_learn_190 : decode b_Sv_learn 190 = .ok (.iastore, 1) := by decide +kernel
theorem d_Sv_learn_191 : decode b_Sv_learn 191 = .ok (.aload_n 0, 1) := by decide +kernel
theorem d_Sv_learn_192 : decode b_Sv_learn 192 = .ok (.dup, 1) := by decide +kernel
theorem d_Sv_learn_193 : decode b_Sv_learn 193 = .ok (.getfield 81, 3) := by decide +kernel
theorem d_Sv_learn_196 : decode b_Sv_learn 196 = .ok (.iconst 1, 1) := by decide +kernel
theorem d_Sv_learn_197 : decode b_Sv_learn 197 = .ok (.iadd, 1) := by decide +kernel
theorem d_Sv_learn_198 : decode b_Sv_learn 198 = .ok (.putfield 81, 3) := by decide +kernel
theorem d_Sv_learn_201 : decode b_Sv_learn 201 = .ok (.iinc 7 1, 3) := by decide +kernel
theorem d_Sv_learn_204 : decode b_Sv_learn 204 = .ok (.goto (-112), 3) := by decide +kernel
theorem d_Sv_learn_207 : decode b_Sv_learn 207 = .ok (.iinc 4 (-1), 3) := by decide +kernel
theorem d_Sv_learn_210 : decode b_Sv_learn 210 = .ok (.aload_n 0, 1) := by decide +kernel
theorem d_Sv_learn_211 : decode b_Sv_learn 211 = .ok (.getfield 52, 3) := by decide +kernel
theorem d_Sv_learn_214 : decode b_Sv_learn 214 = .ok (.aload_n 0, 1) := by decide +kernel
theorem d_Sv_learn_215 : decode b_Sv_learn 215 = .ok (.getfield 43, 3) := by decide +kernel
theorem d_Sv_learn_218 : decode b_Sv_learn 218 = .ok (.iload 4, 2) := by decide +kernel
theorem d_Sv_learn_220 : decode b_Sv_learn 220 = .ok (.iaload, 1) := by decide +kernel
theorem d_Sv_learn_221 : decode b_Sv_learn 221 = .ok (.iconst 1, 1) := by decide +kernel
theorem d_Sv_learn_222 : decode b_Sv_learn 222 = .ok (.ishr, 1) := by decide +kernel
theorem d_Sv_learn_223 : decode b_Sv_learn 223 = .ok (.baload, 1) := by decide +kernel
theorem d_Sv_learn_224 : decode b_Sv_learn 224 = .ok (.ifCond .ne 9, 3) := by decide +kernel
theorem d_Sv_learn_227 : decode b_Sv_learn 227 = .ok (.iinc 4 (-1), 3) := by decide +kernel
theorem d_Sv_learn_230 : decode b_Sv_learn 230 = .ok (.goto (-20), 3) := by decide +kernel
theorem d_Sv_learn_233 : decode b_Sv_learn 233 = .ok (.aload_n 0, 1) := by decide +kernel
theorem d_Sv_learn_234 : decode b_Sv_learn 234 = .ok (.getfield 43, 3) := by decide +kernel
theorem d_Sv_learn_237 : decode b_Sv_learn 237 = .ok (.iload 4, 2) := by decide +kernel
theorem d_Sv_learn_239 : decode b_Sv_learn 239 = .ok (.iaload, 1) := by decide +kernel
theorem d_Sv_learn_240 : decode b_Sv_learn 240 = .ok (.iconst 1, 1) := by decide +kernel
theorem d_Sv_learn_241 : decode b_Sv_learn 241 = .ok (.ishr, 1) := by decide +kernel
theorem d_Sv_learn_242 : decode b_Sv_learn 242 = .ok (.istore 6, 2) := by decide +kernel
theorem d_Sv_learn_244 : decode b_Sv_learn 244 = .ok (.aload_n 0, 1) := by decide +kernel
theorem d_Sv_learn_245 : decode b_Sv_learn 245 = .ok (.getfield 40, 3) := by decide +kernel
theorem d_Sv_learn_248 : decode b_Sv_learn 248 = .ok (.iload 6, 2) := by decide +kernel
theorem d_Sv_learn_250 : decode b_Sv_learn 250 = .ok (.iaload, 1) := by decide +kernel
theorem d_Sv_learn_251 : decode b_Sv_learn 251 = .ok (.istore 5, 2) := by decide +kernel
theorem d_Sv_learn_253 : decode b_Sv_learn 253 = .ok (.iinc 3 (-1), 3) := by decide +kernel
theorem d_Sv_learn_256 : decode b_Sv_learn 256 = .ok (.iload_n 3, 1) := by decide +kernel
theorem d_Sv_learn_257 : decode b_Sv_learn 257 = .ok (.ifCond .gt (-174), 3) := by decide +kernel
theorem d_Sv_learn_260 : decode b_Sv_learn 260 = .ok (.aload_n 0, 1) := by decide +kernel
theorem d_Sv_learn_261 : decode b_Sv_learn 261 = .ok (.getfield 49, 3) := by decide +kernel
theorem d_Sv_learn_264 : decode b_Sv_learn 264 = .ok (.iconst 0, 1) := by decide +kernel
theorem d_Sv_learn_265 : decode b_Sv_learn 265 = .ok (.aload_n 0, 1) := by decide +kernel
theorem d_Sv_learn_266 : decode b_Sv_learn 266 = .ok (.getfield 43, 3) := by decide +kernel
theorem d_Sv_learn_269 : decode b_Sv_learn 269 = .ok (.iload 4, 2) := by decide +kernel
theorem d_Sv_learn_271 : decode b_Sv_learn 271 = .ok (.iaload, 1) := by decide +kernel
theorem d_Sv_learn_272 : decode b_Sv_learn 272 = .ok (.iconst 1, 1) := by decide +kernel
theorem d_Sv_learn_273 : decode b_Sv_learn 273 = .ok (.ixor, 1) := by decide +kernel
theorem d_Sv_learn_274 : decode b_Sv_learn 274 = .ok (.iastore, 1) := by decide +kernel
theorem d_Sv_learn_275 : decode b_Sv_learn 275 = .ok (.iconst 0, 1) := by decide +kernel
theorem d_Sv_learn_276 : decode b_Sv_learn 276 = .ok (.istore 7, 2) := by decide +kernel
theorem d_Sv_learn_278 : decode b_Sv_learn 278 = .ok (.iconst 1, 1) := by decide +kernel
theorem d_Sv_learn_279 : decode b_Sv_learn 279 = .ok (.istore 8, 2) := by decide +kernel
theorem d_Sv_learn_281 : decode b_Sv_learn 281 = .ok (.iload 8, 2) := by decide +kernel
theorem d_Sv_learn_283 : decode b_Sv_learn 283 = .ok (.aload_n 0, 1) := by decide +kernel
theorem d_Sv_learn_284 : decode b_Sv_learn 284 = .ok (.getfield 81, 3) := by decide +kernel
theorem d_Sv_learn_287 : decode b_Sv_learn 287 = .ok (.if_icmp .ge 77, 3) := by decide +kernel
theorem d_Sv_learn_290 : decode b_Sv_learn 290 = .ok (.aload_n 0, 1) := by decide +kernel
theorem d_Sv_learn_291 : decode b_Sv_learn 291 = .ok (.getfield 37, 3) := by decide +kernel
theorem d_Sv_learn_294 : decode b_Sv_learn 294 = .ok (.aload_n 0, 1) := by decide +kernel
theorem d_Sv_learn_295 : decode b_Sv_learn 295 = .ok (.getfield 49, 3) := by decide +kernel
theorem d_Sv_learn_298 : decode b_Sv_learn 298 = .ok (.iload 8, 2) := by decide +kernel
theorem d_Sv_learn_300 : decode b_Sv_learn 300 = .ok (.iaload, 1) := by decide +kernel
theorem d_Sv_learn_301 : decode b_Sv_learn 301 = .ok (.iconst 1, 1) := by decide +kernel
theorem d_Sv_learn_302 : decode b_Sv_learn 302 = .ok (.ishr, 1) := by decide +kernel
theorem d_Sv_learn_303 : decode b_Sv_learn 303 = .ok (.iaload, 1) := by decide +kernel
theorem d_Sv_learn_304 : decode b_Sv_learn 304 = .ok (.iload 7, 2) := by decide +kernel
theorem d_Sv_learn_306 : decode b_Sv_learn 306 = .ok (.if_icmp .gt 6, 3) := by decide +kernel
theorem d_Sv_learn_309 : decode b_Sv_learn 309 = .ok (.goto 49, 3) := by decide +kernel
theorem d_Sv_learn_312 : decode b_Sv_learn 312 = .ok (.aload_n 0, 1) := by decide +kernel
theorem d_Sv_learn_313 : decode b_Sv_learn 313 = .ok (.getfield 37, 3) := by decide +kernel
theorem d_Sv_learn_316 : decode b_Sv_learn 316 = .ok (.aload_n 0, 1) := by decide +kernel
theorem d_Sv_learn_317 : decode b_Sv_learn 317 = .ok (.getfield 49, 3) := by decide +kernel
theorem d_Sv_learn_320 : decode b_Sv_learn 320 = .ok (.iload 8, 2) := by decide +kernel
theorem d_Sv_learn_322 : decode b_Sv_learn 322 = .ok (.iaload, 1) := by decide +kernel
theorem d_Sv_learn_323 : decode b_Sv_learn 323 = .ok (.iconst 1, 1) := by decide +kernel
theorem d_Sv_learn_324 : decode b_Sv_learn 324 = .ok (.ishr, 1) := by decide +kernel
theorem d_Sv_learn_325 : decode b_Sv_learn 325 = .ok (.iaload, 1) := by decide +kernel
theorem d_Sv_learn_326 : decode b_Sv_learn 326 = .ok (.istore 7, 2) := by decide +kernel
theorem d_Sv_learn_328 : decode b_Sv_learn 328 = .ok (.aload_n 0, 1) := by decide +kernel
theorem d_Sv_learn_329 : decode b_Sv_learn 329 = .ok (.getfield 49, 3) := by decide +kernel
theorem d_Sv_learn_332 : decode b_Sv_learn 332 = .ok (.iload 8, 2) := by decide +kernel
theorem d_Sv_learn_334 : decode b_Sv_learn 334 = .ok (.iaload, 1) := by decide +kernel
theorem d_Sv_learn_335 : decode b_Sv_learn 335 = .ok (.istore 9, 2) := by decide +kernel
theorem d_Sv_learn_337 : decode b_Sv_learn 337 = .ok (.aload_n 0, 1) := by decide +kernel
theorem d_Sv_learn_338 : decode b_Sv_learn 338 = .ok (.getfield 49, 3) := by decide +kernel
theorem d_Sv_learn_341 : decode b_Sv_learn 341 = .ok (.iload 8, 2) := by decide +kernel
theorem d_Sv_learn_343 : decode b_Sv_learn 343 = .ok (.aload_n 0, 1) := by decide +kernel
theorem d_Sv_learn_344 : decode b_Sv_learn 344 = .ok (.getfield 49, 3) := by decide +kernel
theorem d_Sv_learn_347 : decode b_Sv_learn 347 = .ok (.iconst 1, 1) := by decide +kernel
theorem d_Sv_learn_348 : decode b_Sv_learn 348 = .ok (.iaload, 1) := by decide +kernel
theorem d_Sv_learn_349 : decode b_Sv_learn 349 = .ok (.iastore, 1) := by decide +kernel
theorem d_Sv_learn_350 : decode b_Sv_learn 350 = .ok (.aload_n 0, 1) := by decide +kernel
theorem d_Sv_learn_351 : decode b_Sv_learn 351 = .ok (.getfield 49, 3) := by decide +kernel
theorem d_Sv_learn_354 : decode b_Sv_learn 354 = .ok (.iconst 1, 1) := by decide +kernel
theorem d_Sv_learn_355 : decode b_Sv_learn 355 = .ok (.iload 9, 2) := by decide +kernel
theorem d_Sv_learn_357 : decode b_Sv_learn 357 = .ok (.iastore, 1) := by decide +kernel
theorem d_Sv_learn_358 : decode b_Sv_learn 358 = .ok (.iinc 8 1, 3) := by decide +kernel
theorem d_Sv_learn_361 : decode b_Sv_learn 361 = .ok (.goto (-80), 3) := by decide +kernel
theorem d_Sv_learn_364 : decode b_Sv_learn 364 = .ok (.aload_n 0, 1) := by decide +kernel
theorem d_Sv_learn_365 : decode b_Sv_learn 365 = .ok (.iload 7, 2) := by decide +kernel
theorem d_Sv_learn_367 : decode b_Sv_learn 367 = .ok (.invokevirtual 123, 3) := by decide +kernel
theorem d_Sv_learn_370 : decode b_Sv_learn 370 = .ok (.aload_n 0, 1) := by decide +kernel
theorem d_Sv_learn_371 : decode b_Sv_learn 371 = .ok (.getfield 81, 3) := by decide +kernel
theorem d_Sv_learn_374 : decode b_Sv_learn 374 = .ok (.iconst 1, 1) := by decide +kernel
theorem d_Sv_learn_375 : decode b_Sv_learn 375 = .ok (.if_icmp .ne 17, 3) := by decide +kernel
theorem d_Sv_learn_378 : decode b_Sv_learn 378 = .ok (.aload_n 0, 1) := by decide +kernel
theorem d_Sv_learn_379 : decode b_Sv_learn 379 = .ok (.aload_n 0, 1) := by decide +kernel
theorem d_Sv_learn_380 : decode b_Sv_learn 380 = .ok (.getfield 49, 3) := by decide +kernel
theorem d_Sv_learn_383 : decode b_Sv_learn 383 = .ok (.iconst 0, 1) := by decide +kernel
theorem d_Sv_learn_384 : decode b_Sv_learn 384 = .ok (.iaload, 1) := by decide +kernel
theorem d_Sv_learn_385 : decode b_Sv_learn 385 = .ok (.iconst (-1), 1) := by decide +kernel
theorem d_Sv_learn_386 : decode b_Sv_learn 386 = .ok (.invokevirtual 94, 3) := by decide +kernel
theorem d_Sv_learn_389 : decode b_Sv_learn 389 = .ok (.goto 18, 3) := by decide +kernel
theorem d_Sv_learn_392 : decode b_Sv_learn 392 = .ok (.aload_n 0, 1) := by decide +kernel
theorem d_Sv_learn_393 : decode b_Sv_learn 393 = .ok (.aload_n 0, 1) := by decide +kernel
theorem d_Sv_learn_394 : decode b_Sv_learn 394 = .ok (.getfield 49, 3) := by decide +kernel
theorem d_Sv_learn_397 : decode b_Sv_learn 397 = .ok (.iconst 0, 1) := by decide +kernel
theorem d_Sv_learn_398 : decode b_Sv_learn 398 = .ok (.iaload, 1) := by decide +kernel
theorem d_Sv_learn_399 : decode b_Sv_learn 399 = .ok (.aload_n 0, 1) := by decide +kernel
theorem d_Sv_learn_400 : decode b_Sv_learn 400 = .ok (.iconst 1, 1) := by decide +kernel
theorem d_Sv_learn_401 : decode b_Sv_learn 401 = .ok (.invokevirtual 98, 3) := by decide +kernel
theorem d_Sv_learn_404 : decode b_Sv_learn 404 = .ok (.invokevirtual 94, 3) := by decide +kernel
theorem d_Sv_learn_407 : decode b_Sv_learn 407 = .ok (.aload_n 0, 1) := by decide +kernel
theorem d_Sv_learn_408 : decode b_Sv_learn 408 = .ok (.iconst 0, 1) := by decide +kernel
theorem d_Sv_learn_409 : decode b_Sv_learn 409 = .ok (.putfield 81, 3) := by decide +kernel
theorem d_Sv_learn_412 : decode b_Sv_learn 412 = .ok (.iconst 1, 1) := by decide +kernel
theorem d_Sv_learn_413 : decode b_Sv_learn 413 = .ok (.ireturn, 1) := by decide +kernel
theorem d_Sv_settle_0 : decode b_Sv_settle 0 = .ok (.aload_n 0, 1) := by decide +kernel
theorem d_Sv_settle_1 : decode b_Sv_settle 1 = .ok (.invokevirtual 130, 3) := by decide +kernel
theorem d_Sv_settle_4 : decode b_Sv_settle 4 = .ok (.istore_n 1, 1) := by decide +kernel
theorem d_Sv_settle_5 : decode b_Sv_settle 5 = .ok (.iload_n 1, 1) := by decide +kernel
theorem d_Sv_settle_6 : decode b_Sv_settle 6 = .ok (.ifCond .lt 21, 3) := by decide +kernel
theorem d_Sv_settle_9 : decode b_Sv_settle 9 = .ok (.aload_n 0, 1) := by decide +kernel
theorem d_Sv_settle_10 : decode b_Sv_settle 10 = .ok (.iload_n 1, 1) := by decide +kernel
theorem d_Sv_settle_11 : decode b_Sv_settle 11 = .ok (.invokevirtual 134, 3) := by decide +kernel
theorem d_Sv_settle_14 : decode b_Sv_settle 14 = .ok (.ifCond .ne 5, 3) := by decide +kernel
theorem d_Sv_settle_17 : decode b_Sv_settle 17 = .ok (.iconst 0, 1) := by decide +kernel
theorem d_Sv_settle_18 : decode b_Sv_settle 18 = .ok (.ireturn, 1) := by decide +kernel
theorem d_Sv_settle_19 : decode b_Sv_settle 19 = .ok (.aload_n 0, 1) := by decide +kernel
theorem d_Sv_settle_20 : decode b_Sv_settle 20 = .ok (.invokevirtual 130, 3) := by decide +kernel
theorem d_Sv_settle_23 : decode b_Sv_settle 23 = .ok (.istore_n 1, 1) := by decide +kernel
theorem d_Sv_settle_24 : decode b_Sv_settle 24 = .ok (.goto (-19), 3) := by decide +kernel
theorem d_Sv_settle_27 : decode b_Sv_settle 27 = .ok (.iconst 1, 1) := by decide +kernel
theorem d_Sv_settle_28 : decode b_Sv_settle 28 = .ok (.ireturn, 1) := by decide +kernel
theorem d_Sv_open_0 : decode b_Sv_open 0 = .ok (.iconst 0, 1) := by decide +kernel
theorem d_Sv_open_1 : decode b_Sv_open 1 = .ok (.istore_n 1, 1) := by decide +kernel
theorem d_Sv_open_2 : decode b_Sv_open 2 = .ok (.iload_n 1, 1) := by decide +kernel
theorem d_Sv_open_3 : decode b_Sv_open 3 = .ok (.aload_n 0, 1) := by decide +kernel
theorem d_Sv_open_4 : decode b_Sv_open 4 = .ok (.getfield 55, 3) := by decide +kernel
theorem d_Sv_open_7 : decode b_Sv_open 7 = .ok (.if_icmp .ge 20, 3) := by decide +kernel
theorem d_Sv_open_10 : decode b_Sv_open 10 = .ok (.aload_n 0, 1) := by decide +kernel
theorem d_Sv_open_11 : decode b_Sv_open 11 = .ok (.getfield 34, 3) := by decide +kernel
theorem d_Sv_open_14 : decode b_Sv_open 14 = .ok (.iload_n 1, 1) := by decide +kernel
theorem d_Sv_open_15 : decode b_Sv_open 15 = .ok (.iaload, 1) := by decide +kernel
theorem d_Sv_open_16 : decode b_Sv_open 16 = .ok (.ifCond .ne 5, 3) := by decide +kernel
theorem d_Sv_open_19 : decode b_Sv_open 19 = .ok (.iload_n 1, 1) := by decide +kernel
theorem d_Sv_open_20 : decode b_Sv_open 20 = .ok (.ireturn, 1) := by decide +kernel
theorem d_Sv_open_21 : decode b_Sv_open 21 = .ok (.iinc 1 1, 3) := by decide +kernel
theorem d_Sv_open_24 : decode b_Sv_open 24 = .ok (.goto (-22), 3) := by decide +kernel
theorem d_Sv_open_27 : decode b_Sv_open 27 = .ok (.iconst (-1), 1) := by decide +kernel
theorem d_Sv_open_28 : decode b_Sv_open 28 = .ok (.ireturn, 1) := by decide +kernel
theorem d_Sv_solve_0 : decode b_Sv_solve 0 = .ok (.aload_n 0, 1) := by decide +kernel
theorem d_Sv_solve_1 : decode b_Sv_solve 1 = .ok (.getfield 77, 3) := by decide +kernel
theorem d_Sv_solve_4 : decode b_Sv_solve 4 = .ok (.ifCond .ne 10, 3) := by decide +kernel
theorem d_Sv_solve_7 : decode b_Sv_solve 7 = .ok (.aload_n 0, 1) := by decide +kernel
theorem d_Sv_solve_8 : decode b_Sv_solve 8 = .ok (.invokevirtual 138, 3) := by decide +kernel
theorem d_Sv_solve_11 : decode b_Sv_solve 11 = .ok (.ifCond .ne 5, 3) := by decide +kernel
theorem d_Sv_solve_14 : decode b_Sv_solve 14 = .ok (.iconst 0, 1) := by decide +kernel
theorem d_Sv_solve_15 : decode b_Sv_solve 15 = .ok (.ireturn, 1) := by decide +kernel
theorem d_Sv_solve_16 : decode b_Sv_solve 16 = .ok (.aload_n 0, 1) := by decide +kernel
theorem d_Sv_solve_17 : decode b_Sv_solve 17 = .ok (.invokevirtual 142, 3) := by decide +kernel
theorem d_Sv_solve_20 : decode b_Sv_solve 20 = .ok (.istore_n 1, 1) := by decide +kernel
theorem d_Sv_solve_21 : decode b_Sv_solve 21 = .ok (.iload_n 1, 1) := by decide +kernel
theorem d_Sv_solve_22 : decode b_Sv_solve 22 = .ok (.ifCond .lt 68, 3) := by decide +kernel
theorem d_Sv_solve_25 : decode b_Sv_solve 25 = .ok (.aload_n 0, 1) := by decide +kernel
theorem d_Sv_solve_26 : decode b_Sv_solve 26 = .ok (.getfield 46, 3) := by decide +kernel
theorem d_Sv_solve_29 : decode b_Sv_solve 29 = .ok (.aload_n 0, 1) := by decide +kernel
theorem d_Sv_solve_30 : decode b_Sv_solve 30 = .ok (.getfield 71, 3) := by decide +kernel
theorem d_Sv_solve_33 : decode b_Sv_solve 33 = .ok (.aload_n 0, 1) := by decide +kernel
theorem d_Sv_solve_34 : decode b_Sv_solve 34 = .ok (.getfield 68, 3) := by decide +kernel
theorem d_Sv_solve_37 : decode b_Sv_solve 37 = .ok (.iastore, 1) := by decide +kernel
theorem d_Sv_solve_38 : decode b_Sv_solve 38 = .ok (.aload_n 0, 1) := by decide +kernel
theorem d_Sv_solve_39 : decode b_Sv_solve 39 = .ok (.dup, 1) := by decide +kernel
theorem d_Sv_solve_40 : decode b_Sv_solve 40 = .ok (.getfield 71, 3) := by decide +kernel
theorem d_Sv_solve_43 : decode b_Sv_solve 43 = .ok (.iconst 1, 1) := by decide +kernel
theorem d_Sv_solve_44 : decode b_Sv_solve 44 = .ok (.iadd, 1) := by decide +kernel
theorem d_Sv_solve_45 : decode b_Sv_solve 45 = .ok (.putfield 71, 3) := by decide +kernel
theorem d_Sv_solve_48 : decode b_Sv_solve 48 = .ok (.aload_n 0, 1) := by decide +kernel
theorem d_Sv_solve_49 : decode b_Sv_solve 49 = .ok (.aload_n 0, 1) := by decide +kernel
theorem d_Sv_solve_50 : decode b_Sv_solve 50 = .ok (.getfield 11, 3) := by decide +kernel
theorem d_Sv_solve_53 : decode b_Sv_solve 53 = .ok (.iload_n 1, 1) := by decide +kernel
theorem d_Sv_solve_54 : decode b_Sv_solve 54 = .ok (.baload, 1) := by decide +kernel
theorem d_Sv_solve_55 : decode b_Sv_solve 55 = .ok (.ifCond .eq 10, 3) := by decide +kernel
theorem d_Sv_solve_58 : decode b_Sv_solve 58 = .ok (.iload_n 1, 1) := by decide +kernel
theorem d_Sv_solve_59 : decode b_Sv_solve 59 = .ok (.invokestatic 145, 3) := by decide +kernel
theorem d_Sv_solve_62 : decode b_Sv_solve 62 = .ok (.goto 7, 3) := by decide +kernel
theorem d_Sv_solve_65 : decode b_Sv_solve 65 = .ok (.iload_n 1, 1) := by decide +kernel
theorem d_Sv_solve_66 : decode b_Sv_solve 66 = .ok (.invokestatic 148, 3) := by decide +kernel
theorem d_Sv_solve_69 : decode b_Sv_solve 69 = .ok (.iconst (-1), 1) := by decide +kernel
theorem d_Sv_solve_70 : decode b_Sv_solve 70 = .ok (.invokevirtual 94, 3) := by decide +kernel
theorem d_Sv_solve_73 : decode b_Sv_solve 73 = .ok (.aload_n 0, 1) := by decide +kernel
theorem d_Sv_solve_74 : decode b_Sv_solve 74 = .ok (.invokevirtual 138, 3) := by decide +kernel
theorem d_Sv_solve_77 : decode b_Sv_solve 77 = .ok (.ifCond .ne 5, 3) := by decide +kernel
theorem d_Sv_solve_80 : decode b_Sv_solve 80 = .ok (.iconst 0, 1) := by decide +kernel
theorem d_Sv_solve_81 : decode b_Sv_solve 81 = .ok (.ireturn, 1) := by decide +kernel
theorem d_Sv_solve_82 : decode b_Sv_solve 82 = .ok (.aload_n 0, 1) := by decide +kernel
theorem d_Sv_solve_83 : decode b_Sv_solve 83 = .ok (.invokevirtual 142, 3) := by decide +kernel
theorem d_Sv_solve_86 : decode b_Sv_solve 86 = .ok (.istore_n 1, 1) := by decide +kernel
theorem d_Sv_solve_87 : decode b_Sv_solve 87 = .ok (.goto (-66), 3) := by decide +kernel
theorem d_Sv_solve_90 : decode b_Sv_solve 90 = .ok (.iconst 1, 1) := by decide +kernel
theorem d_Sv_solve_91 : decode b_Sv_solve 91 = .ok (.ireturn, 1) := by decide +kernel
end
section
theorem d_Ou_in_0 : decode b_Ou_in 0 = .ok (.iload_n 0, 1) := by decide +kernel
theorem d_Ou_in_1 : decode b_Ou_in 1 = .ok (.iload_n 1, 1) := by decide +kernel
theorem d_Ou_in_2 : decode b_Ou_in 2 = .ok (.if_icmp .lt 12, 3) := by decide +kernel
theorem d_Ou_in_5 : decode b_Ou_in 5 = .ok (.iload_n 0, 1) := by decide +kernel
theorem d_Ou_in_6 : decode b_Ou_in 6 = .ok (.iload_n 2, 1) := by decide +kernel
theorem d_Ou_in_7 : decode b_Ou_in 7 = .ok (.if_icmp .gt 7, 3) := by decide +kernel
theorem d_Ou_in_10 : decode b_Ou_in 10 = .ok (.iconst 1, 1) := by decide +kernel
theorem d_Ou_in_11 : decode b_Ou_in 11 = .ok (.goto 4, 3) := by decide +kernel
theorem d_Ou_in_14 : decode b_Ou_in 14 = .ok (.iconst 0, 1) := by decide +kernel
theorem d_Ou_in_15 : decode b_Ou_in 15 = .ok (.ireturn, 1) := by decide +kernel
theorem d_Ou_init_0 : decode b_Ou_init 0 = .ok (.aload_n 0, 1) := by decide +kernel
theorem d_Ou_init_1 : decode b_Ou_init 1 = .ok (.invokespecial 1, 3) := by decide +kernel
theorem d_Ou_init_4 : decode b_Ou_init 4 = .ok (.aload_n 0, 1) := by decide +kernel
theorem d_Ou_init_5 : decode b_Ou_init 5 = .ok (.new 7, 3) := by decide +kernel
theorem d_Ou_init_8 : decode b_Ou_init 8 = .ok (.dup, 1) := by decide +kernel
theorem d_Ou_init_9 : decode b_Ou_init 9 = .ok (.invokespecial 9, 3) := by decide +kernel
theorem d_Ou_init_12 : decode b_Ou_init 12 = .ok (.putfield 10, 3) := by decide +kernel
theorem d_Ou_init_15 : decode b_Ou_init 15 = .ok (.aload_n 0, 1) := by decide +kernel
theorem d_Ou_init_16 : decode b_Ou_init 16 = .ok (.sipush 400, 3) := by decide +kernel
theorem d_Ou_init_19 : decode b_Ou_init 19 = .ok (.newarray .int, 2) := by decide +kernel
theorem d_Ou_init_21 : decode b_Ou_init 21 = .ok (.putfield 16, 3) := by decide +kernel
theorem d_Ou_init_24 : decode b_Ou_init 24 = .ok (.aload_n 0, 1) := by decide +kernel
theorem d_Ou_init_25 : decode b_Ou_init 25 = .ok (.sipush 400, 3) := by decide +kernel
theorem d_Ou_init_28 : decode b_Ou_init 28 = .ok (.newarray .int, 2) := by decide +kernel
theorem d_Ou_init_30 : decode b_Ou_init 30 = .ok (.putfield 20, 3) := by decide +kernel
theorem d_Ou_init_33 : decode b_Ou_init 33 = .ok (.aload_n 0, 1) := by decide +kernel
theorem d_Ou_init_34 : decode b_Ou_init 34 = .ok (.bipush 16, 2) := by decide +kernel
theorem d_Ou_init_36 : decode b_Ou_init 36 = .ok (.newarray .boolean, 2) := by decide +kernel
theorem d_Ou_init_38 : decode b_Ou_init 38 = .ok (.putfield 23, 3) := by decide +kernel
theorem d_Ou_init_41 : decode b_Ou_init 41 = .ok (.aload_n 0, 1) := by decide +kernel
theorem d_Ou_init_42 : decode b_Ou_init 42 = .ok (.bipush 16, 2) := by decide +kernel
theorem d_Ou_init_44 : decode b_Ou_init 44 = .ok (.iconst 1, 1) := by decide +kernel
theorem d_Ou_init_45 : decode b_Ou_init 45 = .ok (.iload_n 1, 1) := by decide +kernel
theorem d_Ou_init_46 : decode b_Ou_init 46 = .ok (.invokestatic 27, 3) := by decide +kernel
theorem d_Ou_init_49 : decode b_Ou_init 49 = .ok (.invokestatic 33, 3) := by decide +kernel
theorem d_Ou_init_52 : decode b_Ou_init 52 = .ok (.putfield 36, 3) := by decide +kernel
theorem d_Ou_init_55 : decode b_Ou_init 55 = .ok (.return_, 1) := by decide +kernel
theorem d_Ou_wish_0 : decode b_Ou_wish 0 = .ok (.iload_n 1, 1) := by decide +kernel
theorem d_Ou_wish_1 : decode b_Ou_wish 1 = .ok (.iconst 0, 1) := by decide +kernel
theorem d_Ou_wish_2 : decode b_Ou_wish 2 = .ok (.aload_n 0, 1) := by decide +kernel
theorem d_Ou_wish_3 : decode b_Ou_wish 3 = .ok (.getfield 36, 3) := by decide +kernel
theorem d_Ou_wish_6 : decode b_Ou_wish 6 = .ok (.iconst 1, 1) := by decide +kernel
theorem d_Ou_wish_7 : decode b_Ou_wish 7 = .ok (.isub, 1) := by decide +kernel
theorem d_Ou_wish_8 : decode b_Ou_wish 8 = .ok (.invokestatic 40, 3) := by decide +kernel
theorem d_Ou_wish_11 : decode b_Ou_wish 11 = .ok (.ifCond .ne 5, 3) := by decide +kernel
theorem d_Ou_wish_14 : decode b_Ou_wish 14 = .ok (.iconst 0, 1) := by decide +kernel
theorem d_Ou_wish_15 : decode b_Ou_wish 15 = .ok (.ireturn, 1) := by decide +kernel
theorem d_Ou_wish_16 : decode b_Ou_wish 16 = .ok (.aload_n 0, 1) := by decide +kernel
theorem d_Ou_wish_17 : decode b_Ou_wish 17 = .ok (.iconst 0, 1) := by decide +kernel
theorem d_Ou_wish_18 : decode b_Ou_wish 18 = .ok (.putfield 44, 3) := by decide +kernel
theorem d_Ou_wish_21 : decode b_Ou_wish 21 = .ok (.aload_n 0, 1) := by decide +kernel
theorem d_Ou_wish_22 : decode b_Ou_wish 22 = .ok (.getfield 23, 3) := by decide +kernel
theorem d_Ou_wish_25 : decode b_Ou_wish 25 = .ok (.iload_n 1, 1) := by decide +kernel
theorem d_Ou_wish_26 : decode b_Ou_wish 26 = .ok (.baload, 1) := by decide +kernel
theorem d_Ou_wish_27 : decode b_Ou_wish 27 = .ok (.istore_n 3, 1) := by decide +kernel
theorem d_Ou_wish_28 : decode b_Ou_wish 28 = .ok (.aload_n 0, 1) := by decide +kernel
theorem d_Ou_wish_29 : decode b_Ou_wish 29 = .ok (.getfield 23, 3) := by decide +kernel
theorem d_Ou_wish_32 : decode b_Ou_wish 32 = .ok (.iload_n 1, 1) := by decide +kernel
theorem d_Ou_wish_33 : decode b_Ou_wish 33 = .ok (.iload_n 2, 1) := by decide +kernel
theorem d_Ou_wish_34 : decode b_Ou_wish 34 = .ok (.bastore, 1) := by decide +kernel
theorem d_Ou_wish_35 : decode b_Ou_wish 35 = .ok (.iload_n 3, 1) := by decide +kernel
theorem d_Ou_wish_36 : decode b_Ou_wish 36 = .ok (.ireturn, 1) := by decide +kernel
theorem d_Ou_literal_0 : decode b_Ou_literal 0 = .ok (.iload_n 1, 1) := by decide +kernel
theorem d_Ou_literal_1 : decode b_Ou_literal 1 = .ok (.iconst 0, 1) := by decide +kernel
theorem d_Ou_literal_2 : decode b_Ou_literal 2 = .ok (.aload_n 0, 1) := by decide +kernel
theorem d_Ou_literal_3 : decode b_Ou_literal 3 = .ok (.getfield 36, 3) := by decide +kernel
theorem d_Ou_literal_6 : decode b_Ou_literal 6 = .ok (.iconst 1, 1) := by decide +kernel
theorem d_Ou_literal_7 : decode b_Ou_literal 7 = .ok (.isub, 1) := by decide +kernel
theorem d_Ou_literal_8 : decode b_Ou_literal 8 = .ok (.invokestatic 40, 3) := by decide +kernel
theorem d_Ou_literal_11 : decode b_Ou_literal 11 = .ok (.ifCond .ne 5, 3) := by decide +kernel
theorem d_Ou_literal_14 : decode b_Ou_literal 14 = .ok (.iconst (-1), 1) := by decide +kernel
theorem d_Ou_literal_15 : decode b_Ou_literal 15 = .ok (.ireturn, 1) := by decide +kernel
theorem d_Ou_literal_16 : decode b_Ou_literal 16 = .ok (.iload_n 2, 1) := by decide +kernel
theorem d_Ou_literal_17 : decode b_Ou_literal 17 = .ok (.ifCond .eq 18, 3) := by decide +kernel
theorem d_Ou_literal_20 : decode b_Ou_literal 20 = .ok (.aload_n 0, 1) := by decide +kernel
theorem d_Ou_literal_21 : decode b_Ou_literal 21 = .ok (.dup, 1) := by decide +kernel
theorem d_Ou_literal_22 : decode b_Ou_literal 22 = .ok (.getfield 48, 3) := by decide +kernel
theorem d_Ou_literal_25 : decode b_Ou_literal 25 = .ok (.iconst 1, 1) := by decide +kernel
theorem d_Ou_literal_26 : decode b_Ou_literal 26 = .ok (.iload_n 1, 1) := by decide +kernel
theorem d_Ou_literal_27 : decode b_Ou_literal 27 = .ok (.ishl, 1) := by decide +kernel
theorem d_Ou_literal_28 : decode b_Ou_literal 28 = .ok (.ior, 1) := by decide +kernel
theorem d_Ou_literal_29 : decode b_Ou_literal 29 = .ok (.putfield 48, 3) := by decide +kernel
theorem d_Ou_literal_32 : decode b_Ou_literal 32 = .ok (.goto 15, 3) := by decide +kernel
theorem d_Ou_literal_35 : decode b_Ou_literal 35 = .ok (.aload_n 0, 1) := by decide +kernel
theorem d_Ou_literal_36 : decode b_Ou_literal 36 = .ok (.dup, 1) := by decide +kernel
theorem d_Ou_literal_37 : decode b_Ou_literal 37 = .ok (.getfield 51, 3) := by decide +kernel
theorem d_Ou_literal_40 : decode b_Ou_literal 40 = .ok (.iconst 1, 1) := by decide +kernel
theorem d_Ou_literal_41 : decode b_Ou_literal 41 = .ok (.iload_n 1, 1) := by decide +kernel
theorem d_Ou_literal_42 : decode b_Ou_literal 42 = .ok (.ishl, 1) := by decide +kernel
theorem d_Ou_literal_43 : decode b_Ou_literal 43 = .ok (.ior, 1) := by decide +kernel
theorem d_Ou_literal_44 : decode b_Ou_literal 44 = .ok (.putfield 51, 3) := by decide +kernel
theorem d_Ou_literal_47 : decode b_Ou_literal 47 = .ok (.aload_n 0, 1) := by decide +kernel
theorem d_Ou_literal_48 : decode b_Ou_literal 48 = .ok (.getfield 48, 3) := by decide +kernel
theorem d_Ou_literal_51 : decode b_Ou_literal 51 = .ok (.invokestatic 54, 3) := by decide +kernel
theorem d_Ou_literal_54 : decode b_Ou_literal 54 = .ok (.aload_n 0, 1) := by decide +kernel
theorem d_Ou_literal_55 : decode b_Ou_literal 55 = .ok (.getfield 51, 3) := by decide +kernel
theorem d_Ou_literal_58 : decode b_Ou_literal 58 = .ok (.invokestatic 54, 3) := by decide +kernel
theorem d_Ou_literal_61 : decode b_Ou_literal 61 = .ok (.iadd, 1) := by decide +kernel
theorem d_Ou_literal_62 : decode b_Ou_literal 62 = .ok (.ireturn, 1) := by decide +kernel
theorem d_Ou_clause_0 : decode b_Ou_clause 0 = .ok (.aload_n 0, 1) := by decide +kernel
theorem d_Ou_clause_1 : decode b_Ou_clause 1 = .ok (.getfield 60, 3) := by decide +kernel
theorem d_Ou_clause_4 : decode b_Ou_clause 4 = .ok (.sipush 400, 3) := by decide +kernel
theorem d_Ou_clause_7 : decode b_Ou_clause 7 = .ok (.if_icmp .ne 6, 3) := by decide +kernel
theorem d_Ou_clause_10 : decode b_Ou_clause 10 = .ok (.bipush (-3), 2) := by decide +kernel
theorem d_Ou_clause_12 : decode b_Ou_clause 12 = .ok (.ireturn, 1) := by decide +kernel
theorem d_Ou_clause_13 : decode b_Ou_clause 13 = .ok (.aload_n 0, 1) := by decide +kernel
theorem d_Ou_clause_14 : decode b_Ou_clause 14 = .ok (.aload_n 0, 1) := by decide +kernel
theorem d_Ou_clause_15 : decode b_Ou_clause 15 = .ok (.getfield 48, 3) := by decide +kernel
theorem d_Ou_clause_18 : decode b_Ou_clause 18 = .ok (.aload_n 0, 1) := by decide +kernel
theorem d_Ou_clause_19 : decode b_Ou_clause 19 = .ok (.getfield 51, 3) := by decide +kernel
theorem d_Ou_clause_22 : decode b_Ou_clause 22 = .ok (.invokevirtual 63, 3) := by decide +kernel
theorem d_Ou_clause_25 : decode b_Ou_clause 25 = .ok (.ireturn, 1) := by decide +kernel
theorem d_Ou_keep_0 : decode b_Ou_keep 0 = .ok (.aload_n 0, 1) := by decide +kernel
theorem d_Ou_keep_1 : decode b_Ou_keep 1 = .ok (.getfield 16, 3) := by decide +kernel
theorem d_Ou_keep_4 : decode b_Ou_keep 4 = .ok (.aload_n 0, 1) := by decide +kernel
theorem d_Ou_keep_5 : decode b_Ou_keep 5 = .ok (.getfield 60, 3) := by decide +kernel
theorem d_Ou_keep_8 : decode b_Ou_keep 8 = .ok (.iload_n 1, 1) := by decide +kernel
theorem d_Ou_keep_9 : decode b_Ou_keep 9 = .ok (.iastore, 1) := by decide +kernel
theorem d_Ou_keep_10 : decode b_Ou_keep 10 = .ok (.aload_n 0, 1) := by decide +kernel
theorem d_Ou_keep_11 : decode b_Ou_keep 11 = .ok (.getfield 20, 3) := by decide +kernel
theorem d_Ou_keep_14 : decode b_Ou_keep 14 = .ok (.aload_n 0, 1) := by decide +kernel
theorem d_Ou_keep_15 : decode b_Ou_keep 15 = .ok (.getfield 60, 3) := by decide +kernel
theorem d_Ou_keep_18 : decode b_Ou_keep 18 = .ok (.iload_n 2, 1) := by decide +kernel
theorem d_Ou_keep_19 : decode b_Ou_keep 19 = .ok (.iastore, 1) := by decide +kernel
theorem d_Ou_keep_20 : decode b_Ou_keep 20 = .ok (.aload_n 0, 1) := by decide +kernel
theorem d_Ou_keep_21 : decode b_Ou_keep 21 = .ok (.dup, 1) := by decide +kernel
theorem d_Ou_keep_22 : decode b_Ou_keep 22 = .ok (.getfield 60, 3) := by decide +kernel
theorem d_Ou_keep_25 : decode b_Ou_keep 25 = .ok (.iconst 1, 1) := by decide +kernel
theorem d_Ou_keep_26 : decode b_Ou_keep 26 = .ok (.iadd, 1) := by decide +kernel
theorem d_Ou_keep_27 : decode b_Ou_keep 27 = .ok (.putfield 60, 3) := by decide +kernel
theorem d_Ou_keep_30 : decode b_Ou_keep 30 = .ok (.aload_n 0, 1) := by decide +kernel
theorem d_Ou_keep_31 : decode b_Ou_keep 31 = .ok (.iconst 0, 1) := by decide +kernel
theorem d_Ou_keep_32 : decode b_Ou_keep 32 = .ok (.putfield 48, 3) := by decide +kernel
theorem d_Ou_keep_35 : decode b_Ou_keep 35 = .ok (.aload_n 0, 1) := by decide +kernel
theorem d_Ou_keep_36 : decode b_Ou_keep 36 = .ok (.iconst 0, 1) := by decide +kernel
theorem d_Ou_keep_37 : decode b_Ou_keep 37 = .ok (.putfield 51, 3) := by decide +kernel
theorem d_Ou_keep_40 : decode b_Ou_keep 40 = .ok (.aload_n 0, 1) := by decide +kernel
theorem d_Ou_keep_41 : decode b_Ou_keep 41 = .ok (.iconst 0, 1) := by decide +kernel
theorem d_Ou_keep_42 : decode b_Ou_keep 42 = .ok (.putfield 44, 3) := by decide +kernel
theorem d_Ou_keep_45 : decode b_Ou_keep 45 = .ok (.aload_n 0, 1) := by decide +kernel
theorem d_Ou_keep_46 : decode b_Ou_keep 46 = .ok (.getfield 60, 3) := by decide +kernel
theorem d_Ou_keep_49 : decode b_Ou_keep 49 = .ok (.ireturn, 1) := by decide +kernel
theorem d_Ou_some_0 : decode b_Ou_some 0 = .ok (.iconst 1, 1) := by decide +kernel
theorem d_Ou_some_1 : decode b_Ou_some 1 = .ok (.aload_n 0, 1) := by decide +kernel
theorem d_Ou_some_2 : decode b_Ou_some 2 = .ok (.getfield 36, 3) := by decide +kernel
theorem d_Ou_some_5 : decode b_Ou_some 5 = .ok (.ishl, 1) := by decide +kernel
theorem d_Ou_some_6 : decode b_Ou_some 6 = .ok (.iconst 1, 1) := by decide +kernel
theorem d_Ou_some_7 : decode b_Ou_some 7 = .ok (.isub, 1) := by decide +kernel
theorem d_Ou_some_8 : decode b_Ou_some 8 = .ok (.istore_n 3, 1) := by decide +kernel
theorem d_Ou_some_9 : decode b_Ou_some 9 = .ok (.aload_n 0, 1) := by decide +kernel
theorem d_Ou_some_10 : decode b_Ou_some 10 = .ok (.getfield 60, 3) := by decide +kernel
theorem d_Ou_some_13 : decode b_Ou_some 13 = .ok (.sipush 400, 3) := by decide +kernel
theorem d_Ou_some_16 : decode b_Ou_some 16 = .ok (.if_icmp .ne 6, 3) := by decide +kernel
theorem d_Ou_some_19 : decode b_Ou_some 19 = .ok (.bipush (-3), 2) := by decide +kernel
theorem d_Ou_some_21 : decode b_Ou_some 21 = .ok (.ireturn, 1) := by decide +kernel
theorem d_Ou_some_22 : decode b_Ou_some 22 = .ok (.aload_n 0, 1) := by decide +kernel
theorem d_Ou_some_23 : decode b_Ou_some 23 = .ok (.getfield 48, 3) := by decide +kernel
theorem d_Ou_some_26 : decode b_Ou_some 26 = .ok (.istore 4, 2) := by decide +kernel
theorem d_Ou_some_28 : decode b_Ou_some 28 = .ok (.aload_n 0, 1) := by decide +kernel
theorem d_Ou_some_29 : decode b_Ou_some 29 = .ok (.getfield 51, 3) := by decide +kernel
theorem d_Ou_some_32 : decode b_Ou_some 32 = .ok (.istore 5, 2) := by decide +kernel
theorem d_Ou_some_34 : decode b_Ou_some 34 = .ok (.aload_n 0, 1) := by decide +kernel
theorem d_Ou_some_35 : decode b_Ou_some 35 = .ok (.iload_n 1, 1) := by decide +kernel
theorem d_Ou_some_36 : decode b_Ou_some 36 = .ok (.iload_n 3, 1) := by decide +kernel
theorem d_Ou_some_37 : decode b_Ou_some 37 = .ok (.iand, 1) := by decide +kernel
theorem d_Ou_some_38 : decode b_Ou_some 38 = .ok (.iload_n 2, 1) := by decide +kernel
theorem d_Ou_some_39 : decode b_Ou_some 39 = .ok (.iload_n 3, 1) := by decide +kernel
theorem d_Ou_some_40 : decode b_Ou_some 40 = .ok (.iand, 1) := by decide +kernel
theorem d_Ou_some_41 : decode b_Ou_some 41 = .ok (.invokevirtual 63, 3) := by decide +kernel
theorem d_Ou_some_44 : decode b_Ou_some 44 = .ok (.istore 6, 2) := by decide +kernel
theorem d_Ou_some_46 : decode b_Ou_some 46 = .ok (.aload_n 0, 1) := by decide +kernel
theorem d_Ou_some_47 : decode b_Ou_some 47 = .ok (.iload 4, 2) := by decide +kernel
theorem d_Ou_some_49 : decode b_Ou_some 49 = .ok (.putfield 48, 3) := by decide +kernel
theorem d_Ou_some_52 : decode b_Ou_some 52 = .ok (.aload_n 0, 1) := by decide +kernel
theorem d_Ou_some_53 : decode b_Ou_some 53 = .ok (.iload 5, 2) := by decide +kernel
theorem d_Ou_some_55 : decode b_Ou_some 55 = .ok (.putfield 51, 3) := by decide +kernel
theorem d_Ou_some_58 : decode b_Ou_some 58 = .ok (.iload 6, 2) := by decide +kernel
theorem d_Ou_some_60 : decode b_Ou_some 60 = .ok (.ireturn, 1) := by decide +kernel
theorem d_Ou_drop_0 : decode b_Ou_drop 0 = .ok (.iload_n 1, 1) := by decide +kernel
theorem d_Ou_drop_1 : decode b_Ou_drop 1 = .ok (.iconst 0, 1) := by decide +kernel
theorem d_Ou_drop_2 : decode b_Ou_drop 2 = .ok (.aload_n 0, 1) := by decide +kernel
theorem d_Ou_drop_3 : decode b_Ou_drop 3 = .ok (.getfield 60, 3) := by decide +kernel
theorem d_Ou_drop_6 : decode b_Ou_drop 6 = .ok (.iconst 1, 1) := by decide +kernel
theorem d_Ou_drop_7 : decode b_Ou_drop 7 = .ok (.isub, 1) := by decide +kernel
theorem d_Ou_drop_8 : decode b_Ou_drop 8 = .ok (.invokestatic 40, 3) := by decide +kernel
theorem d_Ou_drop_11 : decode b_Ou_drop 11 = .ok (.ifCond .ne 6, 3) := by decide +kernel
theorem d_Ou_drop_14 : decode b_Ou_drop 14 = .ok (.bipush (-2), 2) := by decide +kernel
theorem d_Ou_drop_16 : decode b_Ou_drop 16 = .ok (.ireturn, 1) := by decide +kernel
theorem d_Ou_drop_17 : decode b_Ou_drop 17 = .ok (.aload_n 0, 1) := by decide +kernel
theorem d_Ou_drop_18 : decode b_Ou_drop 18 = .ok (.dup, 1) := by decide +kernel
theorem d_Ou_drop_19 : decode b_Ou_drop 19 = .ok (.getfield 60, 3) := by decide +kernel
theorem d_Ou_drop_22 : decode b_Ou_drop 22 = .ok (.iconst 1, 1) := by decide +kernel
theorem d_Ou_drop_23 : decode b_Ou_drop 23 = .ok (.isub, 1) := by decide +kernel
theorem d_Ou_drop_24 : decode b_Ou_drop 24 = .ok (.putfield 60, 3) := by decide +kernel
theorem d_Ou_drop_27 : decode b_Ou_drop 27 = .ok (.aload_n 0, 1) := by decide +kernel
theorem d_Ou_drop_28 : decode b_Ou_drop 28 = .ok (.getfield 16, 3) := by decide +kernel
theorem d_Ou_drop_31 : decode b_Ou_drop 31 = .ok (.iload_n 1, 1) := by decide +kernel
theorem d_Ou_drop_32 : decode b_Ou_drop 32 = .ok (.aload_n 0, 1) := by decide +kernel
theorem d_Ou_drop_33 : decode b_Ou_drop 33 = .ok (.getfield 16, 3) := by decide +kernel
theorem d_Ou_drop_36 : decode b_Ou_drop 36 = .ok (.aload_n 0, 1) := by decide +kernel
theorem d_Ou_drop_37 : decode b_Ou_drop 37 = .ok (.getfield 60, 3) := by decide +kernel
theorem d_Ou_drop_40 : decode b_Ou_drop 40 = .ok (.iaload, 1) := by decide +kernel
theorem d_Ou_drop_41 : decode b_Ou_drop 41 = .ok (.iastore, 1) := by decide +kernel
theorem d_Ou_drop_42 : decode b_Ou_drop 42 = .ok (.aload_n 0, 1) := by decide +kernel
theorem d_Ou_drop_43 : decode b_Ou_drop 43 = .ok (.getfield 20, 3) := by decide +kernel
theorem d_Ou_drop_46 : decode b_Ou_drop 46 = .ok (.iload_n 1, 1) := by decide +kernel
theorem d_Ou_drop_47 : decode b_Ou_drop 47 = .ok (.aload_n 0, 1) := by decide +kernel
theorem d_Ou_drop_48 : decode b_Ou_drop 48 = .ok (.getfield 20, 3) := by decide +kernel
theorem d_Ou_drop_51 : decode b_Ou_drop 51 = .ok (.aload_n 0, 1) := by decide +kernel
theorem d_Ou_drop_52 : decode b_Ou_drop 52 = .ok (.getfield 60, 3) := by decide +kernel
theorem d_Ou_drop_55 : decode b_Ou_drop 55 = .ok (.iaload, 1) := by decide +kernel
theorem d_Ou_drop_56 : decode b_Ou_drop 56 = .ok (.iastore, 1) := by decide +kernel
theorem d_Ou_drop_57 : decode b_Ou_drop 57 = .ok (.aload_n 0, 1) := by decide +kernel
theorem d_Ou_drop_58 : decode b_Ou_drop 58 = .ok (.iconst 0, 1) := by decide +kernel
theorem d_Ou_drop_59 : decode b_Ou_drop 59 = .ok (.putfield 44, 3) := by decide +kernel
theorem d_Ou_drop_62 : decode b_Ou_drop 62 = .ok (.aload_n 0, 1) := by decide +kernel
theorem d_Ou_drop_63 : decode b_Ou_drop 63 = .ok (.getfield 60, 3) := by decide +kernel
theorem d_Ou_drop_66 : decode b_Ou_drop 66 = .ok (.ireturn, 1) := by decide +kernel
theorem d_Ou_solve_0 : decode b_Ou_solve 0 = .ok (.aload_n 0, 1) := by decide +kernel
theorem d_Ou_solve_1 : decode b_Ou_solve 1 = .ok (.getfield 44, 3) := by decide +kernel
theorem d_Ou_solve_4 : decode b_Ou_solve 4 = .ok (.ifCond .eq 8, 3) := by decide +kernel
theorem d_Ou_solve_7 : decode b_Ou_solve 7 = .ok (.aload_n 0, 1) := by decide +kernel
theorem d_Ou_solve_8 : decode b_Ou_solve 8 = .ok (.getfield 66, 3) := by decide +kernel
theorem d_Ou_solve_11 : decode b_Ou_solve 11 = .ok (.ireturn, 1) := by decide +kernel
theorem d_Ou_solve_12 : decode b_Ou_solve 12 = .ok (.aload_n 0, 1) := by decide +kernel
theorem d_Ou_solve_13 : decode b_Ou_solve 13 = .ok (.iconst 1, 1) := by decide +kernel
theorem d_Ou_solve_14 : decode b_Ou_solve 14 = .ok (.putfield 44, 3) := by decide +kernel
theorem d_Ou_solve_17 : decode b_Ou_solve 17 = .ok (.aload_n 0, 1) := by decide +kernel
theorem d_Ou_solve_18 : decode b_Ou_solve 18 = .ok (.getfield 10, 3) := by decide +kernel
theorem d_Ou_solve_21 : decode b_Ou_solve 21 = .ok (.aload_n 0, 1) := by decide +kernel
theorem d_Ou_solve_22 : decode b_Ou_solve 22 = .ok (.getfield 36, 3) := by decide +kernel
theorem d_Ou_solve_25 : decode b_Ou_solve 25 = .ok (.invokevirtual 69, 3) := by decide +kernel
theorem d_Ou_solve_28 : decode b_Ou_solve 28 = .ok (.iconst 0, 1) := by decide +kernel
theorem d_Ou_solve_29 : decode b_Ou_solve 29 = .ok (.istore_n 1, 1) := by decide +kernel
theorem d_Ou_solve_30 : decode b_Ou_solve 30 = .ok (.iload_n 1, 1) := by decide +kernel
theorem d_Ou_solve_31 : decode b_Ou_solve 31 = .ok (.aload_n 0, 1) := by decide +kernel
theorem d_Ou_solve_32 : decode b_Ou_solve 32 = .ok (.getfield 36, 3) := by decide +kernel
theorem d_Ou_solve_35 : decode b_Ou_solve 35 = .ok (.if_icmp .ge 24, 3) := by decide +kernel
theorem d_Ou_solve_38 : decode b_Ou_solve 38 = .ok (.aload_n 0, 1) := by decide +kernel
theorem d_Ou_solve_39 : decode b_Ou_solve 39 = .ok (.getfield 10, 3) := by decide +kernel
theorem d_Ou_solve_42 : decode b_Ou_solve 42 = .ok (.getfield 73, 3) := by decide +kernel
theorem d_Ou_solve_45 : decode b_Ou_solve 45 = .ok (.iload_n 1, 1) := by decide +kernel
theorem d_Ou_solve_46 : decode b_Ou_solve 46 = .ok (.aload_n 0, 1) := by decide +kernel
theorem d_Ou_solve_47 : decode b_Ou_solve 47 = .ok (.getfield 23, 3) := by decide +kernel
theorem d_Ou_solve_50 : decode b_Ou_solve 50 = .ok (.iload_n 1, 1) := by decide +kernel
theorem d_Ou_solve_51 : decode b_Ou_solve 51 = .ok (.baload, 1) := by decide +kernel
theorem d_Ou_solve_52 : decode b_Ou_solve 52 = .ok (.bastore, 1) := by decide +kernel
theorem d_Ou_solve_53 : decode b_Ou_solve 53 = .ok (.iinc 1 1, 3) := by decide +kernel
theorem d_Ou_solve_56 : decode b_Ou_solve 56 = .ok (.goto (-26), 3) := by decide +kernel
theorem d_Ou_solve_59 : decode b_Ou_solve 59 = .ok (.iconst 0, 1) := by decide +kernel
theorem d_Ou_solve_60 : decode b_Ou_solve 60 = .ok (.istore_n 1, 1) := by decide +kernel
theorem d_Ou_solve_61 : decode b_Ou_solve 61 = .ok (.iload_n 1, 1) := by decide +kernel
theorem d_Ou_solve_62 : decode b_Ou_solve 62 = .ok (.aload_n 0, 1) := by decide +kernel
theorem d_Ou_solve_63 : decode b_Ou_solve 63 = .ok (.getfield 60, 3) := by decide +kernel
theorem d_Ou_solve_66 : decode b_Ou_solve 66 = .ok (.if_icmp .ge 82, 3) := by decide +kernel
theorem d_Ou_solve_69 : decode b_Ou_solve 69 = .ok (.iconst 0, 1) := by decide +kernel
theorem d_Ou_solve_70 : decode b_Ou_solve 70 = .ok (.istore_n 2, 1) := by decide +kernel
theorem d_Ou_solve_71 : decode b_Ou_solve 71 = .ok (.iload_n 2, 1) := by decide +kernel
theorem d_Ou_solve_72 : decode b_Ou_solve 72 = .ok (.aload_n 0, 1) := by decide +kernel
theorem d_Ou_solve_73 : decode b_Ou_solve 73 = .ok (.getfield 36, 3) := by decide +kernel
theorem d_Ou_solve_76 : decode b_Ou_solve 76 = .ok (.if_icmp .ge 59, 3) := by decide +kernel
theorem d_Ou_solve_79 : decode b_Ou_solve 79 = .ok (.aload_n 0, 1) := by decide +kernel
theorem d_Ou_solve_80 : decode b_Ou_solve 80 = .ok (.getfield 16, 3) := by decide +kernel
theorem d_Ou_solve_83 : decode b_Ou_solve 83 = .ok (.iload_n 1, 1) := by decide +kernel
theorem d_Ou_solve_84 : decode b_Ou_solve 84 = .ok (.iaload, 1) := by decide +kernel
theorem d_Ou_solve_85 : decode b_Ou_solve 85 = .ok (.iload_n 2, 1) := by decide +kernel
theorem d_Ou_solve_86 : decode b_Ou_solve 86 = .ok (.ishr, 1) := by decide +kernel
theorem d_Ou_solve_87 : decode b_Ou_solve 87 = .ok (.iconst 1, 1) := by decide +kernel
theorem d_Ou_solve_88 : decode b_Ou_solve 88 = .ok (.iand, 1) := by decide +kernel
theorem d_Ou_solve_89 : decode b_Ou_solve 89 = .ok (.iconst 1, 1) := by decide +kernel
theorem d_Ou_solve_90 : decode b_Ou_solve 90 = .ok (.if_icmp .ne 14, 3) := by decide +kernel
theorem d_Ou_solve_93 : decode b_Ou_solve 93 = .ok (.aload_n 0, 1) := by decide +kernel
theorem d_Ou_solve_94 : decode b_Ou_solve 94 = .ok (.getfield 10, 3) := by decide +kernel
theorem d_Ou_solve_97 : decode b_Ou_solve 97 = .ok (.iload_n 2, 1) := by decide +kernel
theorem d_Ou_solve_98 : decode b_Ou_solve 98 = .ok (.invokestatic 74, 3) := by decide +kernel
theorem d_Ou_solve_101 : decode b_Ou_solve 101 = .ok (.invokevirtual 76, 3) := by decide +kernel
theorem d_Ou_solve_104 : decode b_Ou_solve 104 = .ok (.aload_n 0, 1) := by decide +kernel
theorem d_Ou_solve_105 : decode b_Ou_solve 105 = .ok (.getfield 20, 3) := by decide +kernel
theorem d_Ou_solve_108 : decode b_Ou_solve 108 = .ok (.iload_n 1, 1) := by decide +kernel
theorem d_Ou_solve_109 : decode b_Ou_solve 109 = .ok (.iaload, 1) := by decide +kernel
theorem d_Ou_solve_110 : decode b_Ou_solve 110 = .ok (.iload_n 2, 1) := by decide +kernel
theorem d_Ou_solve_111 : decode b_Ou_solve 111 = .ok (.ishr, 1) := by decide +kernel
theorem d_Ou_solve_112 : decode b_Ou_solve 112 = .ok (.iconst 1, 1) := by decide +kernel
theorem d_Ou_solve_113 : decode b_Ou_solve 113 = .ok (.iand, 1) := by decide +kernel
theorem d_Ou_solve_114 : decode b_Ou_solve 114 = .ok (.iconst 1, 1) := by decide +kernel
theorem d_Ou_solve_115 : decode b_Ou_solve 115 = .ok (.if_icmp .ne 14, 3) := by decide +kernel
theorem d_Ou_solve_118 : decode b_Ou_solve 118 = .ok (.aload_n 0, 1) := by decide +kernel
theorem d_Ou_solve_119 : decode b_Ou_solve 119 = .ok (.getfield 10, 3) := by decide +kernel
theorem d_Ou_solve_122 : decode b_Ou_solve 122 = .ok (.iload_n 2, 1) := by decide +kernel
theorem d_Ou_solve_123 : decode b_Ou_solve 123 = .ok (.invokestatic 79, 3) := by decide +kernel
theorem d_Ou_solve_126 : decode b_Ou_solve 126 = .ok (.invokevirtual 76, 3) := by decide +kernel
theorem d_Ou_solve_129 : decode b_Ou_solve 129 = .ok (.iinc 2 1, 3) := by decide +kernel
theorem d_Ou_solve_132 : decode b_Ou_solve 132 = .ok (.goto (-61), 3) := by decide +kernel
theorem d_Ou_solve_135 : decode b_Ou_solve 135 = .ok (.aload_n 0, 1) := by decide +kernel
theorem d_Ou_solve_136 : decode b_Ou_solve 136 = .ok (.getfield 10, 3) := by decide +kernel
theorem d_Ou_solve_139 : decode b_Ou_solve 139 = .ok (.invokevirtual 81, 3) := by decide +kernel
theorem d_Ou_solve_142 : decode b_Ou_solve 142 = .ok (.iinc 1 1, 3) := by decide +kernel
theorem d_Ou_solve_145 : decode b_Ou_solve 145 = .ok (.goto (-84), 3) := by decide +kernel
theorem d_Ou_solve_148 : decode b_Ou_solve 148 = .ok (.aload_n 0, 1) := by decide +kernel
theorem d_Ou_solve_149 : decode b_Ou_solve 149 = .ok (.aload_n 0, 1) := by decide +kernel
theorem d_Ou_solve_150 : decode b_Ou_solve 150 = .ok (.getfield 10, 3) := by decide +kernel
theorem d_Ou_solve_153 : decode b_Ou_solve 153 = .ok (.invokevirtual 84, 3) := by decide +kernel
theorem d_Ou_solve_156 : decode b_Ou_solve 156 = .ok (.putfield 66, 3) := by decide +kernel
theorem d_Ou_solve_159 : decode b_Ou_solve 159 = .ok (.aload_n 0, 1) := by decide +kernel
theorem d_Ou_solve_160 : decode b_Ou_solve 160 = .ok (.getfield 66, 3) := by decide +kernel
theorem d_Ou_solve_163 : decode b_Ou_solve 163 = .ok (.ireturn, 1) := by decide +kernel
theorem d_Ou_answer_0 : decode b_Ou_answer 0 = .ok (.aload_n 0, 1) := by decide +kernel
theorem d_Ou_answer_1 : decode b_Ou_answer 1 = .ok (.invokevirtual 88, 3) := by decide +kernel
theorem d_Ou_answer_4 : decode b_Ou_answer 4 = .ok (.ifCond .ne 6, 3) := by decide +kernel
theorem d_Ou_answer_7 : decode b_Ou_answer 7 = .ok (.bipush (-2), 2) := by decide +kernel
theorem d_Ou_answer_9 : decode b_Ou_answer 9 = .ok (.ireturn, 1) := by decide +kernel
theorem d_Ou_answer_10 : decode b_Ou_answer 10 = .ok (.iconst 0, 1) := by decide +kernel
theorem d_Ou_answer_11 : decode b_Ou_answer 11 = .ok (.istore_n 1, 1) := by decide +kernel
theorem d_Ou_answer_12 : decode b_Ou_answer 12 = .ok (.iconst 0, 1) := by decide +kernel
theorem d_Ou_answer_13 : decode b_Ou_answer 13 = .ok (.istore_n 2, 1) := by decide +kernel
theorem d_Ou_answer_14 : decode b_Ou_answer 14 = .ok (.iload_n 2, 1) := by decide +kernel
theorem d_Ou_answer_15 : decode b_Ou_answer 15 = .ok (.aload_n 0, 1) := by decide +kernel
theorem d_Ou_answer_16 : decode b_Ou_answer 16 = .ok (.getfield 36, 3) := by decide +kernel
theorem d_Ou_answer_19 : decode b_Ou_answer 19 = .ok (.if_icmp .ge 26, 3) := by decide +kernel
theorem d_Ou_answer_22 : decode b_Ou_answer 22 = .ok (.aload_n 0, 1) := by decide +kernel
theorem d_Ou_answer_23 : decode b_Ou_answer 23 = .ok (.getfield 10, 3) := by decide +kernel
theorem d_Ou_answer_26 : decode b_Ou_answer 26 = .ok (.iload_n 2, 1) := by decide +kernel
theorem d_Ou_answer_27 : decode b_Ou_answer 27 = .ok (.invokevirtual 89, 3) := by decide +kernel
theorem d_Ou_answer_30 : decode b_Ou_answer 30 = .ok (.ifCond .eq 9, 3) := by decide +kernel
theorem d_Ou_answer_33 : decode b_Ou_answer 33 = .ok (.iload_n 1, 1) := by decide +kernel
theorem d_Ou_answer_34 : decode b_Ou_answer 34 = .ok (.iconst 1, 1) := by decide +kernel
theorem d_Ou_answer_35 : decode b_Ou_answer 35 = .ok (.iload_n 2, 1) := by decide +kernel
theorem d_Ou_answer_36 : decode b_Ou_answer 36 = .ok (.ishl, 1) := by decide +kernel
theorem d_Ou_answer_37 : decode b_Ou_answer 37 = .ok (.ior, 1) := by decide +kernel
theorem d_Ou_answer_38 : decode b_Ou_answer 38 = .ok (.istore_n 1, 1) := by decide +kernel
theorem d_Ou_answer_39 : decode b_Ou_answer 39 = .ok (.iinc 2 1, 3) := by decide +kernel
theorem d_Ou_answer_42 : decode b_Ou_answer 42 = .ok (.goto (-28), 3) := by decide +kernel
theorem d_Ou_answer_45 : decode b_Ou_answer 45 = .ok (.iload_n 1, 1) := by decide +kernel
theorem d_Ou_answer_46 : decode b_Ou_answer 46 = .ok (.ireturn, 1) := by decide +kernel
theorem d_Ou_count_0 : decode b_Ou_count 0 = .ok (.iload_n 1, 1) := by decide +kernel
theorem d_Ou_count_1 : decode b_Ou_count 1 = .ok (.tableswitch 53 0 2 #[27, 32, 37], 27) := by decide +kernel
theorem d_Ou_count_28 : decode b_Ou_count 28 = .ok (.aload_n 0, 1) := by decide +kernel
theorem d_Ou_count_29 : decode b_Ou_count 29 = .ok (.getfield 36, 3) := by decide +kernel
theorem d_Ou_count_32 : decode b_Ou_count 32 = .ok (.ireturn, 1) := by decide +kernel
theorem d_Ou_count_33 : decode b_Ou_count 33 = .ok (.aload_n 0, 1) := by decide +kernel
theorem d_Ou_count_34 : decode b_Ou_count 34 = .ok (.getfield 60, 3) := by decide +kernel
theorem d_Ou_count_37 : decode b_Ou_count 37 = .ok (.ireturn, 1) := by decide +kernel
theorem d_Ou_count_38 : decode b_Ou_count 38 = .ok (.aload_n 0, 1) := by decide +kernel
theorem d_Ou_count_39 : decode b_Ou_count 39 = .ok (.getfield 48, 3) := by decide +kernel
theorem d_Ou_count_42 : decode b_Ou_count 42 = .ok (.invokestatic 54, 3) := by decide +kernel
theorem d_Ou_count_45 : decode b_Ou_count 45 = .ok (.aload_n 0, 1) := by decide +kernel
theorem d_Ou_count_46 : decode b_Ou_count 46 = .ok (.getfield 51, 3) := by decide +kernel
theorem d_Ou_count_49 : decode b_Ou_count 49 = .ok (.invokestatic 54, 3) := by decide +kernel
theorem d_Ou_count_52 : decode b_Ou_count 52 = .ok (.iadd, 1) := by decide +kernel
theorem d_Ou_count_53 : decode b_Ou_count 53 = .ok (.ireturn, 1) := by decide +kernel
theorem d_Ou_count_54 : decode b_Ou_count 54 = .ok (.iconst (-1), 1) := by decide +kernel
theorem d_Ou_count_55 : decode b_Ou_count 55 = .ok (.ireturn, 1) := by decide +kernel
theorem d_Mo_init_0 : decode b_Mo_init 0 = .ok (.aload_n 0, 1) := by decide +kernel
theorem d_Mo_init_1 : decode b_Mo_init 1 = .ok (.invokespecial 1, 3) := by decide +kernel
theorem d_Mo_init_4 : decode b_Mo_init 4 = .ok (.aload_n 0, 1) := by decide +kernel
theorem d_Mo_init_5 : decode b_Mo_init 5 = .ok (.bipush 16, 2) := by decide +kernel
theorem d_Mo_init_7 : decode b_Mo_init 7 = .ok (.newarray .boolean, 2) := by decide +kernel
theorem d_Mo_init_9 : decode b_Mo_init 9 = .ok (.putfield 7, 3) := by decide +kernel
theorem d_Mo_init_12 : decode b_Mo_init 12 = .ok (.aload_n 0, 1) := by decide +kernel
theorem d_Mo_init_13 : decode b_Mo_init 13 = .ok (.sipush 400, 3) := by decide +kernel
theorem d_Mo_init_16 : decode b_Mo_init 16 = .ok (.newarray .int, 2) := by decide +kernel
theorem d_Mo_init_18 : decode b_Mo_init 18 = .ok (.putfield 13, 3) := by decide +kernel
theorem d_Mo_init_21 : decode b_Mo_init 21 = .ok (.aload_n 0, 1) := by decide +kernel
theorem d_Mo_init_22 : decode b_Mo_init 22 = .ok (.sipush 400, 3) := by decide +kernel
theorem d_Mo_init_25 : decode b_Mo_init 25 = .ok (.newarray .int, 2) := by decide +kernel
theorem d_Mo_init_27 : decode b_Mo_init 27 = .ok (.putfield 17, 3) := by decide +kernel
theorem d_Mo_init_30 : decode b_Mo_init 30 = .ok (.aload_n 0, 1) := by decide +kernel
theorem d_Mo_init_31 : decode b_Mo_init 31 = .ok (.iload_n 1, 1) := by decide +kernel
theorem d_Mo_init_32 : decode b_Mo_init 32 = .ok (.iconst 1, 1) := by decide +kernel
theorem d_Mo_init_33 : decode b_Mo_init 33 = .ok (.if_icmp .ge 7, 3) := by decide +kernel
theorem d_Mo_init_36 : decode b_Mo_init 36 = .ok (.iconst 1, 1) := by decide +kernel
theorem d_Mo_init_37 : decode b_Mo_init 37 = .ok (.goto 15, 3) := by decide +kernel
theorem d_Mo_init_40 : decode b_Mo_init 40 = .ok (.iload_n 1, 1) := by decide +kernel
theorem d_Mo_init_41 : decode b_Mo_init 41 = .ok (.bipush 16, 2) := by decide +kernel
theorem d_Mo_init_43 : decode b_Mo_init 43 = .ok (.if_icmp .le 8, 3) := by decide +kernel
theorem d_Mo_init_46 : decode b_Mo_init 46 = .ok (.bipush 16, 2) := by decide +kernel
theorem d_Mo_init_48 : decode b_Mo_init 48 = .ok (.goto 4, 3) := by decide +kernel
theorem d_Mo_init_51 : decode b_Mo_init 51 = .ok (.iload_n 1, 1) := by decide +kernel
theorem d_Mo_init_52 : decode b_Mo_init 52 = .ok (.putfield 20, 3) := by decide +kernel
theorem d_Mo_init_55 : decode b_Mo_init 55 = .ok (.return_, 1) := by decide +kernel
theorem d_Mo_is_0 : decode b_Mo_is 0 = .ok (.iload_n 1, 1) := by decide +kernel
theorem d_Mo_is_1 : decode b_Mo_is 1 = .ok (.ifCond .lt 15, 3) := by decide +kernel
theorem d_Mo_is_4 : decode b_Mo_is 4 = .ok (.iload_n 1, 1) := by decide +kernel
theorem d_Mo_is_5 : decode b_Mo_is 5 = .ok (.aload_n 0, 1) := by decide +kernel
theorem d_Mo_is_6 : decode b_Mo_is 6 = .ok (.getfield 20, 3) := by decide +kernel
theorem d_Mo_is_9 : decode b_Mo_is 9 = .ok (.if_icmp .ge 7, 3) := by decide +kernel
theorem d_Mo_is_12 : decode b_Mo_is 12 = .ok (.iconst 1, 1) := by decide +kernel
theorem d_Mo_is_13 : decode b_Mo_is 13 = .ok (.goto 4, 3) := by decide +kernel
theorem d_Mo_is_16 : decode b_Mo_is 16 = .ok (.iconst 0, 1) := by decide +kernel
theorem d_Mo_is_17 : decode b_Mo_is 17 = .ok (.ireturn, 1) := by decide +kernel
theorem d_Mo_wish_0 : decode b_Mo_wish 0 = .ok (.aload_n 0, 1) := by decide +kernel
theorem d_Mo_wish_1 : decode b_Mo_wish 1 = .ok (.iload_n 1, 1) := by decide +kernel
theorem d_Mo_wish_2 : decode b_Mo_wish 2 = .ok (.invokevirtual 24, 3) := by decide +kernel
theorem d_Mo_wish_5 : decode b_Mo_wish 5 = .ok (.ifCond .ne 5, 3) := by decide +kernel
theorem d_Mo_wish_8 : decode b_Mo_wish 8 = .ok (.iconst 0, 1) := by decide +kernel
theorem d_Mo_wish_9 : decode b_Mo_wish 9 = .ok (.ireturn, 1) := by decide +kernel
theorem d_Mo_wish_10 : decode b_Mo_wish 10 = .ok (.aload_n 0, 1) := by decide +kernel
theorem d_Mo_wish_11 : decode b_Mo_wish 11 = .ok (.getfield 7, 3) := by decide +kernel
theorem d_Mo_wish_14 : decode b_Mo_wish 14 = .ok (.iload_n 1, 1) := by decide +kernel
theorem d_Mo_wish_15 : decode b_Mo_wish 15 = .ok (.baload, 1) := by decide +kernel
theorem d_Mo_wish_16 : decode b_Mo_wish 16 = .ok (.istore_n 3, 1) := by decide +kernel
theorem d_Mo_wish_17 : decode b_Mo_wish 17 = .ok (.aload_n 0, 1) := by decide +kernel
theorem d_Mo_wish_18 : decode b_Mo_wish 18 = .ok (.getfield 7, 3) := by decide +kernel
theorem d_Mo_wish_21 : decode b_Mo_wish 21 = .ok (.iload_n 1, 1) := by decide +kernel
theorem d_Mo_wish_22 : decode b_Mo_wish 22 = .ok (.iload_n 2, 1) := by decide +kernel
theorem d_Mo_wish_23 : decode b_Mo_wish 23 = .ok (.bastore, 1) := by decide +kernel
theorem d_Mo_wish_24 : decode b_Mo_wish 24 = .ok (.aload_n 0, 1) := by decide +kernel
theorem d_Mo_wish_25 : decode b_Mo_wish 25 = .ok (.iconst 0, 1) := by decide +kernel
theorem d_Mo_wish_26 : decode b_Mo_wish 26 = .ok (.putfield 28, 3) := by decide +kernel
theorem d_Mo_wish_29 : decode b_Mo_wish 29 = .ok (.iload_n 3, 1) := by decide +kernel
theorem d_Mo_wish_30 : decode b_Mo_wish 30 = .ok (.ireturn, 1) := by decide +kernel
theorem d_Mo_bits_0 : decode b_Mo_bits 0 = .ok (.iconst 0, 1) := by decide +kernel
theorem d_Mo_bits_1 : decode b_Mo_bits 1 = .ok (.istore_n 1, 1) := by decide +kernel
theorem d_Mo_bits_2 : decode b_Mo_bits 2 = .ok (.iconst 0, 1) := by decide +kernel
theorem d_Mo_bits_3 : decode b_Mo_bits 3 = .ok (.istore_n 2, 1) := by decide +kernel
theorem d_Mo_bits_4 : decode b_Mo_bits 4 = .ok (.iload_n 2, 1) := by decide +kernel
theorem d_Mo_bits_5 : decode b_Mo_bits 5 = .ok (.bipush 16, 2) := by decide +kernel
theorem d_Mo_bits_7 : decode b_Mo_bits 7 = .ok (.if_icmp .ge 17, 3) := by decide +kernel
theorem d_Mo_bits_10 : decode b_Mo_bits 10 = .ok (.iload_n 1, 1) := by decide +kernel
theorem d_Mo_bits_11 : decode b_Mo_bits 11 = .ok (.iload_n 0, 1) := by decide +kernel
theorem d_Mo_bits_12 : decode b_Mo_bits 12 = .ok (.iload_n 2, 1) := by decide +kernel
theorem d_Mo_bits_13 : decode b_Mo_bits 13 = .ok (.ishr, 1) := by decide +kernel
theorem d_Mo_bits_14 : decode b_Mo_bits 14 = .ok (.iconst 1, 1) := by decide +kernel
theorem d_Mo_bits_15 : decode b_Mo_bits 15 = .ok (.iand, 1) := by decide +kernel
theorem d_Mo_bits_16 : decode b_Mo_bits 16 = .ok (.iadd, 1) := by decide +kernel
theorem d_Mo_bits_17 : decode b_Mo_bits 17 = .ok (.istore_n 1, 1) := by decide +kernel
theorem d_Mo_bits_18 : decode b_Mo_bits 18 = .ok (.iinc 2 1, 3) := by decide +kernel
theorem d_Mo_bits_21 : decode b_Mo_bits 21 = .ok (.goto (-17), 3) := by decide +kernel
theorem d_Mo_bits_24 : decode b_Mo_bits 24 = .ok (.iload_n 1, 1) := by decide +kernel
theorem d_Mo_bits_25 : decode b_Mo_bits 25 = .ok (.ireturn, 1) := by decide +kernel
theorem d_Mo_literal_0 : decode b_Mo_literal 0 = .ok (.aload_n 0, 1) := by decide +kernel
theorem d_Mo_literal_1 : decode b_Mo_literal 1 = .ok (.iload_n 1, 1) := by decide +kernel
theorem d_Mo_literal_2 : decode b_Mo_literal 2 = .ok (.invokevirtual 24, 3) := by decide +kernel
theorem d_Mo_literal_5 : decode b_Mo_literal 5 = .ok (.ifCond .ne 5, 3) := by decide +kernel
theorem d_Mo_literal_8 : decode b_Mo_literal 8 = .ok (.iconst (-1), 1) := by decide +kernel
theorem d_Mo_literal_9 : decode b_Mo_literal 9 = .ok (.ireturn, 1) := by decide +kernel
theorem d_Mo_literal_10 : decode b_Mo_literal 10 = .ok (.iload_n 2, 1) := by decide +kernel
theorem d_Mo_literal_11 : decode b_Mo_literal 11 = .ok (.ifCond .eq 18, 3) := by decide +kernel
theorem d_Mo_literal_14 : decode b_Mo_literal 14 = .ok (.aload_n 0, 1) := by decide +kernel
theorem d_Mo_literal_15 : decode b_Mo_literal 15 = .ok (.dup, 1) := by decide +kernel
theorem d_Mo_literal_16 : decode b_Mo_literal 16 = .ok (.getfield 32, 3) := by decide +kernel
theorem d_Mo_literal_19 : decode b_Mo_literal 19 = .ok (.iconst 1, 1) := by decide +kernel
theorem d_Mo_literal_20 : decode b_Mo_literal 20 = .ok (.iload_n 1, 1) := by decide +kernel
theorem d_Mo_literal_21 : decode b_Mo_literal 21 = .ok (.ishl, 1) := by decide +kernel
theorem d_Mo_literal_22 : decode b_Mo_literal 22 = .ok (.ior, 1) := by decide +kernel
theorem d_Mo_literal_23 : decode b_Mo_literal 23 = .ok (.putfield 32, 3) := by decide +kernel
theorem d_Mo_literal_26 : decode b_Mo_literal 26 = .ok (.goto 15, 3) := by decide +kernel
theorem d_Mo_literal_29 : decode b_Mo_literal 29 = .ok (.aload_n 0, 1) := by decide +kernel
theorem d_Mo_literal_30 : decode b_Mo_literal 30 = .ok (.dup, 1) := by decide +kernel
theorem d_Mo_literal_31 : decode b_Mo_literal 31 = .ok (.getfield 35, 3) := by decide +kernel
theorem d_Mo_literal_34 : decode b_Mo_literal 34 = .ok (.iconst 1, 1) := by decide +kernel
theorem d_Mo_literal_35 : decode b_Mo_literal 35 = .ok (.iload_n 1, 1) := by decide +kernel
theorem d_Mo_literal_36 : decode b_Mo_literal 36 = .ok (.ishl, 1) := by decide +kernel
theorem d_Mo_literal_37 : decode b_Mo_literal 37 = .ok (.ior, 1) := by decide +kernel
theorem d_Mo_literal_38 : decode b_Mo_literal 38 = .ok (.putfield 35, 3) := by decide +kernel
theorem d_Mo_literal_41 : decode b_Mo_literal 41 = .ok (.aload_n 0, 1) := by decide +kernel
theorem d_Mo_literal_42 : decode b_Mo_literal 42 = .ok (.getfield 32, 3) := by decide +kernel
theorem d_Mo_literal_45 : decode b_Mo_literal 45 = .ok (.invokestatic 38, 3) := by decide +kernel
theorem d_Mo_literal_48 : decode b_Mo_literal 48 = .ok (.aload_n 0, 1) := by decide +kernel
theorem d_Mo_literal_49 : decode b_Mo_literal 49 = .ok (.getfield 35, 3) := by decide +kernel
theorem d_Mo_literal_52 : decode b_Mo_literal 52 = .ok (.invokestatic 38, 3) := by decide +kernel
theorem d_Mo_literal_55 : decode b_Mo_literal 55 = .ok (.iadd, 1) := by decide +kernel
theorem d_Mo_literal_56 : decode b_Mo_literal 56 = .ok (.ireturn, 1) := by decide +kernel
theorem d_Mo_clause_0 : decode b_Mo_clause 0 = .ok (.aload_n 0, 1) := by decide +kernel
theorem d_Mo_clause_1 : decode b_Mo_clause 1 = .ok (.getfield 42, 3) := by decide +kernel
theorem d_Mo_clause_4 : decode b_Mo_clause 4 = .ok (.sipush 400, 3) := by decide +kernel
theorem d_Mo_clause_7 : decode b_Mo_clause 7 = .ok (.if_icmp .ne 6, 3) := by decide +kernel
theorem d_Mo_clause_10 : decode b_Mo_clause 10 = .ok (.bipush (-3), 2) := by decide +kernel
theorem d_Mo_clause_12 : decode b_Mo_clause 12 = .ok (.ireturn, 1) := by decide +kernel
theorem d_Mo_clause_13 : decode b_Mo_clause 13 = .ok (.aload_n 0, 1) := by decide +kernel
theorem d_Mo_clause_14 : decode b_Mo_clause 14 = .ok (.aload_n 0, 1) := by decide +kernel
theorem d_Mo_clause_15 : decode b_Mo_clause 15 = .ok (.getfield 32, 3) := by decide +kernel
theorem d_Mo_clause_18 : decode b_Mo_clause 18 = .ok (.aload_n 0, 1) := by decide +kernel
theorem d_Mo_clause_19 : decode b_Mo_clause 19 = .ok (.getfield 35, 3) := by decide +kernel
theorem d_Mo_clause_22 : decode b_Mo_clause 22 = .ok (.invokevirtual 45, 3) := by decide +kernel
theorem d_Mo_clause_25 : decode b_Mo_clause 25 = .ok (.pop, 1) := by decide +kernel
theorem d_Mo_clause_26 : decode b_Mo_clause 26 = .ok (.aload_n 0, 1) := by decide +kernel
theorem d_Mo_clause_27 : decode b_Mo_clause 27 = .ok (.iconst 0, 1) := by decide +kernel
theorem d_Mo_clause_28 : decode b_Mo_clause 28 = .ok (.putfield 32, 3) := by decide +kernel
theorem d_Mo_clause_31 : decode b_Mo_clause 31 = .ok (.aload_n 0, 1) := by decide +kernel
theorem d_Mo_clause_32 : decode b_Mo_clause 32 = .ok (.iconst 0, 1) := by decide +kernel
theorem d_Mo_clause_33 : decode b_Mo_clause 33 = .ok (.putfield 35, 3) := by decide +kernel
theorem d_Mo_clause_36 : decode b_Mo_clause 36 = .ok (.aload_n 0, 1) := by decide +kernel
theorem d_Mo_clause_37 : decode b_Mo_clause 37 = .ok (.getfield 42, 3) := by decide +kernel
theorem d_Mo_clause_40 : decode b_Mo_clause 40 = .ok (.ireturn, 1) := by decide +kernel
theorem d_Mo_some_0 : decode b_Mo_some 0 = .ok (.aload_n 0, 1) := by decide +kernel
theorem d_Mo_some_1 : decode b_Mo_some 1 = .ok (.getfield 42, 3) := by decide +kernel
theorem d_Mo_some_4 : decode b_Mo_some 4 = .ok (.sipush 400, 3) := by decide +kernel
theorem d_Mo_some_7 : decode b_Mo_some 7 = .ok (.if_icmp .ne 6, 3) := by decide +kernel
theorem d_Mo_some_10 : decode b_Mo_some 10 = .ok (.bipush (-3), 2) := by decide +kernel
theorem d_Mo_some_12 : decode b_Mo_some 12 = .ok (.ireturn, 1) := by decide +kernel
theorem d_Mo_some_13 : decode b_Mo_some 13 = .ok (.aload_n 0, 1) := by decide +kernel
theorem d_Mo_some_14 : decode b_Mo_some 14 = .ok (.getfield 13, 3) := by decide +kernel
theorem d_Mo_some_17 : decode b_Mo_some 17 = .ok (.aload_n 0, 1) := by decide +kernel
theorem d_Mo_some_18 : decode b_Mo_some 18 = .ok (.getfield 42, 3) := by decide +kernel
theorem d_Mo_some_21 : decode b_Mo_some 21 = .ok (.iload_n 1, 1) := by decide +kernel
theorem d_Mo_some_22 : decode b_Mo_some 22 = .ok (.iconst 1, 1) := by decide +kernel
theorem d_Mo_some_23 : decode b_Mo_some 23 = .ok (.aload_n 0, 1) := by decide +kernel
theorem d_Mo_some_24 : decode b_Mo_some 24 = .ok (.getfield 20, 3) := by decide +kernel
theorem d_Mo_some_27 : decode b_Mo_some 27 = .ok (.ishl, 1) := by decide +kernel
theorem d_Mo_some_28 : decode b_Mo_some 28 = .ok (.iconst 1, 1) := by decide +kernel
theorem d_Mo_some_29 : decode b_Mo_some 29 = .ok (.isub, 1) := by decide +kernel
theorem d_Mo_some_30 : decode b_Mo_some 30 = .ok (.iand, 1) := by decide +kernel
theorem d_Mo_some_31 : decode b_Mo_some 31 = .ok (.iastore, 1) := by decide +kernel
theorem d_Mo_some_32 : decode b_Mo_some 32 = .ok (.aload_n 0, 1) := by decide +kernel
theorem d_Mo_some_33 : decode b_Mo_some 33 = .ok (.getfield 17, 3) := by decide +kernel
theorem d_Mo_some_36 : decode b_Mo_some 36 = .ok (.aload_n 0, 1) := by decide +kernel
theorem d_Mo_some_37 : decode b_Mo_some 37 = .ok (.getfield 42, 3) := by decide +kernel
theorem d_Mo_some_40 : decode b_Mo_some 40 = .ok (.iload_n 2, 1) := by decide +kernel
theorem d_Mo_some_41 : decode b_Mo_some 41 = .ok (.iconst 1, 1) := by decide +kernel
theorem d_Mo_some_42 : decode b_Mo_some 42 = .ok (.aload_n 0, 1) := by decide +kernel
theorem d_Mo_some_43 : decode b_Mo_some 43 = .ok (.getfield 20, 3) := by decide +kernel
theorem d_Mo_some_46 : decode b_Mo_some 46 = .ok (.ishl, 1) := by decide +kernel
theorem d_Mo_some_47 : decode b_Mo_some 47 = .ok (.iconst 1, 1) := by decide +kernel
theorem d_Mo_some_48 : decode b_Mo_some 48 = .ok (.isub, 1) := by decide +kernel
theorem d_Mo_some_49 : decode b_Mo_some 49 = .ok (.iand, 1) := by decide +kernel
theorem d_Mo_some_50 : decode b_Mo_some 50 = .ok (.iastore, 1) := by decide +kernel
theorem d_Mo_some_51 : decode b_Mo_some 51 = .ok (.aload_n 0, 1) := by decide +kernel
theorem d_Mo_some_52 : decode b_Mo_some 52 = .ok (.dup, 1) := by decide +kernel
theorem d_Mo_some_53 : decode b_Mo_some 53 = .ok (.getfield 42, 3) := by decide +kernel
theorem d_Mo_some_56 : decode b_Mo_some 56 = .ok (.iconst 1, 1) := by decide +kernel
theorem d_Mo_some_57 : decode b_Mo_some 57 = .ok (.iadd, 1) := by decide +kernel
theorem d_Mo_some_58 : decode b_Mo_some 58 = .ok (.putfield 42, 3) := by decide +kernel
theorem d_Mo_some_61 : decode b_Mo_some 61 = .ok (.aload_n 0, 1) := by decide +kernel
theorem d_Mo_some_62 : decode b_Mo_some 62 = .ok (.iconst 0, 1) := by decide +kernel
theorem d_Mo_some_63 : decode b_Mo_some 63 = .ok (.putfield 28, 3) := by decide +kernel
theorem d_Mo_some_66 : decode b_Mo_some 66 = .ok (.aload_n 0, 1) := by decide +kernel
theorem d_Mo_some_67 : decode b_Mo_some 67 = .ok (.getfield 42, 3) := by decide +kernel
theorem d_Mo_some_70 : decode b_Mo_some 70 = .ok (.ireturn, 1) := by decide +kernel
theorem d_Mo_drop_0 : decode b_Mo_drop 0 = .ok (.iload_n 1, 1) := by decide +kernel
theorem d_Mo_drop_1 : decode b_Mo_drop 1 = .ok (.ifCond .lt 11, 3) := by decide +kernel
theorem d_Mo_drop_4 : decode b_Mo_drop 4 = .ok (.iload_n 1, 1) := by decide +kernel
theorem d_Mo_drop_5 : decode b_Mo_drop 5 = .ok (.aload_n 0, 1) := by decide +kernel
theorem d_Mo_drop_6 : decode b_Mo_drop 6 = .ok (.getfield 42, 3) := by decide +kernel
theorem d_Mo_drop_9 : decode b_Mo_drop 9 = .ok (.if_icmp .lt 6, 3) := by decide +kernel
theorem d_Mo_drop_12 : decode b_Mo_drop 12 = .ok (.bipush (-2), 2) := by decide +kernel
theorem d_Mo_drop_14 : decode b_Mo_drop 14 = .ok (.ireturn, 1) := by decide +kernel
theorem d_Mo_drop_15 : decode b_Mo_drop 15 = .ok (.aload_n 0, 1) := by decide +kernel
theorem d_Mo_drop_16 : decode b_Mo_drop 16 = .ok (.dup, 1) := by decide +kernel
theorem d_Mo_drop_17 : decode b_Mo_drop 17 = .ok (.getfield 42, 3) := by decide +kernel
theorem d_Mo_drop_20 : decode b_Mo_drop 20 = .ok (.iconst 1, 1) := by decide +kernel
theorem d_Mo_drop_21 : decode b_Mo_drop 21 = .ok (.isub, 1) := by decide +kernel
theorem d_Mo_drop_22 : decode b_Mo_drop 22 = .ok (.putfield 42, 3) := by decide +kernel
theorem d_Mo_drop_25 : decode b_Mo_drop 25 = .ok (.aload_n 0, 1) := by decide +kernel
theorem d_Mo_drop_26 : decode b_Mo_drop 26 = .ok (.getfield 13, 3) := by decide +kernel
theorem d_Mo_drop_29 : decode b_Mo_drop 29 = .ok (.iload_n 1, 1) := by decide +kernel
theorem d_Mo_drop_30 : decode b_Mo_drop 30 = .ok (.aload_n 0, 1) := by decide +kernel
theorem d_Mo_drop_31 : decode b_Mo_drop 31 = .ok (.getfield 13, 3) := by decide +kernel
theorem d_Mo_drop_34 : decode b_Mo_drop 34 = .ok (.aload_n 0, 1) := by decide +kernel
theorem d_Mo_drop_35 : decode b_Mo_drop 35 = .ok (.getfield 42, 3) := by decide +kernel
theorem d_Mo_drop_38 : decode b_Mo_drop 38 = .ok (.iaload, 1) := by decide +kernel
theorem d_Mo_drop_39 : decode b_Mo_drop 39 = .ok (.iastore, 1) := by decide +kernel
theorem d_Mo_drop_40 : decode b_Mo_drop 40 = .ok (.aload_n 0, 1) := by decide +kernel
theorem d_Mo_drop_41 : decode b_Mo_drop 41 = .ok (.getfield 17, 3) := by decide +kernel
theorem d_Mo_drop_44 : decode b_Mo_drop 44 = .ok (.iload_n 1, 1) := by decide +kernel
theorem d_Mo_drop_45 : decode b_Mo_drop 45 = .ok (.aload_n 0, 1) := by decide +kernel
theorem d_Mo_drop_46 : decode b_Mo_drop 46 = .ok (.getfield 17, 3) := by decide +kernel
theorem d_Mo_drop_49 : decode b_Mo_drop 49 = .ok (.aload_n 0, 1) := by decide +kernel
theorem d_Mo_drop_50 : decode b_Mo_drop 50 = .ok (.getfield 42, 3) := by decide +kernel
theorem d_Mo_drop_53 : decode b_Mo_drop 53 = .ok (.iaload, 1) := by decide +kernel
theorem d_Mo_drop_54 : decode b_Mo_drop 54 = .ok (.iastore, 1) := by decide +kernel
theorem d_Mo_drop_55 : decode b_Mo_drop 55 = .ok (.aload_n 0, 1) := by decide +kernel
theorem d_Mo_drop_56 : decode b_Mo_drop 56 = .ok (.iconst 0, 1) := by decide +kernel
theorem d_Mo_drop_57 : decode b_Mo_drop 57 = .ok (.putfield 28, 3) := by decide +kernel
theorem d_Mo_drop_60 : decode b_Mo_drop 60 = .ok (.aload_n 0, 1) := by decide +kernel
theorem d_Mo_drop_61 : decode b_Mo_drop 61 = .ok (.getfield 42, 3) := by decide +kernel
theorem d_Mo_drop_64 : decode b_Mo_drop 64 = .ok (.ireturn, 1) := by decide +kernel
theorem d_Mo_holds_0 : decode b_Mo_holds 0 = .ok (.iconst 0, 1) := by decide +kernel
theorem d_Mo_holds_1 : decode b_Mo_holds 1 = .ok (.istore_n 3, 1) := by decide +kernel
theorem d_Mo_holds_2 : decode b_Mo_holds 2 = .ok (.iload_n 3, 1) := by decide +kernel
theorem d_Mo_holds_3 : decode b_Mo_holds 3 = .ok (.aload_n 0, 1) := by decide +kernel
theorem d_Mo_holds_4 : decode b_Mo_holds 4 = .ok (.getfield 42, 3) := by decide +kernel
theorem d_Mo_holds_7 : decode b_Mo_holds 7 = .ok (.if_icmp .ge 53, 3) := by decide +kernel
theorem d_Mo_holds_10 : decode b_Mo_holds 10 = .ok (.aload_n 0, 1) := by decide +kernel
theorem d_Mo_holds_11 : decode b_Mo_holds 11 = .ok (.getfield 13, 3) := by decide +kernel
theorem d_Mo_holds_14 : decode b_Mo_holds 14 = .ok (.iload_n 3, 1) := by decide +kernel
theorem d_Mo_holds_15 : decode b_Mo_holds 15 = .ok (.iaload, 1) := by decide +kernel
theorem d_Mo_holds_16 : decode b_Mo_holds 16 = .ok (.aload_n 0, 1) := by decide +kernel
theorem d_Mo_holds_17 : decode b_Mo_holds 17 = .ok (.getfield 17, 3) := by decide +kernel
theorem d_Mo_holds_20 : decode b_Mo_holds 20 = .ok (.iload_n 3, 1) := by decide +kernel
theorem d_Mo_holds_21 : decode b_Mo_holds 21 = .ok (.iaload, 1) := by decide +kernel
theorem d_Mo_holds_22 : decode b_Mo_holds 22 = .ok (.ior, 1) := by decide +kernel
theorem d_Mo_holds_23 : decode b_Mo_holds 23 = .ok (.iload_n 2, 1) := by decide +kernel
theorem d_Mo_holds_24 : decode b_Mo_holds 24 = .ok (.ishr, 1) := by decide +kernel
theorem d_Mo_holds_25 : decode b_Mo_holds 25 = .ok (.ifCond .ne 29, 3) := by decide +kernel
theorem d_Mo_holds_28 : decode b_Mo_holds 28 = .ok (.iload_n 1, 1) := by decide +kernel
theorem d_Mo_holds_29 : decode b_Mo_holds 29 = .ok (.aload_n 0, 1) := by decide +kernel
theorem d_Mo_holds_30 : decode b_Mo_holds 30 = .ok (.getfield 13, 3) := by decide +kernel
theorem d_Mo_holds_33 : decode b_Mo_holds 33 = .ok (.iload_n 3, 1) := by decide +kernel
theorem d_Mo_holds_34 : decode b_Mo_holds 34 = .ok (.iaload, 1) := by decide +kernel
theorem d_Mo_holds_35 : decode b_Mo_holds 35 = .ok (.iand, 1) := by decide +kernel
theorem d_Mo_holds_36 : decode b_Mo_holds 36 = .ok (.ifCond .ne 18, 3) := by decide +kernel
theorem d_Mo_holds_39 : decode b_Mo_holds 39 = .ok (.iload_n 1, 1) := by decide +kernel
theorem d_Mo_holds_40 : decode b_Mo_holds 40 = .ok (.iconst (-1), 1) := by decide +kernel
theorem d_Mo_holds_41 : decode b_Mo_holds 41 = .ok (.ixor, 1) := by decide +kernel
theorem d_Mo_holds_42 : decode b_Mo_holds 42 = .ok (.aload_n 0, 1) := by decide +kernel
theorem d_Mo_holds_43 : decode b_Mo_holds 43 = .ok (.getfield 17, 3) := by decide +kernel
theorem d_Mo_holds_46 : decode b_Mo_holds 46 = .ok (.iload_n 3, 1) := by decide +kernel
theorem d_Mo_holds_47 : decode b_Mo_holds 47 = .ok (.iaload, 1) := by decide +kernel
theorem d_Mo_holds_48 : decode b_Mo_holds 48 = .ok (.iand, 1) := by decide +kernel
theorem d_Mo_holds_49 : decode b_Mo_holds 49 = .ok (.ifCond .ne 5, 3) := by decide +kernel
theorem d_Mo_holds_52 : decode b_Mo_holds 52 = .ok (.iconst 0, 1) := by decide +kernel
theorem d_Mo_holds_53 : decode b_Mo_holds 53 = .ok (.ireturn, 1) := by decide +kernel
theorem d_Mo_holds_54 : decode b_Mo_holds 54 = .ok (.iinc 3 1, 3) := by decide +kernel
theorem d_Mo_holds_57 : decode b_Mo_holds 57 = .ok (.goto (-55), 3) := by decide +kernel
theorem d_Mo_holds_60 : decode b_Mo_holds 60 = .ok (.iconst 1, 1) := by decide +kernel
theorem d_Mo_holds_61 : decode b_Mo_holds 61 = .ok (.ireturn, 1) := by decide +kernel
theorem d_Mo_search_0 : decode b_Mo_search 0 = .ok (.aload_n 0, 1) := by decide +kernel
theorem d_Mo_search_1 : decode b_Mo_search 1 = .ok (.iload_n 1, 1) := by decide +kernel
theorem d_Mo_search_2 : decode b_Mo_search 2 = .ok (.iload_n 2, 1) := by decide +kernel
theorem d_Mo_search_3 : decode b_Mo_search 3 = .ok (.invokevirtual 49, 3) := by decide +kernel
theorem d_Mo_search_6 : decode b_Mo_search 6 = .ok (.ifCond .ne 6, 3) := by decide +kernel
theorem d_Mo_search_9 : decode b_Mo_search 9 = .ok (.bipush (-2), 2) := by decide +kernel
theorem d_Mo_search_11 : decode b_Mo_search 11 = .ok (.ireturn, 1) := by decide +kernel
theorem d_Mo_search_12 : decode b_Mo_search 12 = .ok (.iload_n 2, 1) := by decide +kernel
theorem d_Mo_search_13 : decode b_Mo_search 13 = .ok (.aload_n 0, 1) := by decide +kernel
theorem d_Mo_search_14 : decode b_Mo_search 14 = .ok (.getfield 20, 3) := by decide +kernel
theorem d_Mo_search_17 : decode b_Mo_search 17 = .ok (.if_icmp .ne 5, 3) := by decide +kernel
theorem d_Mo_search_20 : decode b_Mo_search 20 = .ok (.iload_n 1, 1) := by decide +kernel
theorem d_Mo_search_21 : decode b_Mo_search 21 = .ok (.ireturn, 1) := by decide +kernel
theorem d_Mo_search_22 : decode b_Mo_search 22 = .ok (.iconst 1, 1) := by decide +kernel
theorem d_Mo_search_23 : decode b_Mo_search 23 = .ok (.iload_n 2, 1) := by decide +kernel
theorem d_Mo_search_24 : decode b_Mo_search 24 = .ok (.ishl, 1) := by decide +kernel
theorem d_Mo_search_25 : decode b_Mo_search 25 = .ok (.istore_n 3, 1) := by decide +kernel
theorem d_Mo_search_26 : decode b_Mo_search 26 = .ok (.aload_n 0, 1) := by decide +kernel
theorem d_Mo_search_27 : decode b_Mo_search 27 = .ok (.aload_n 0, 1) := by decide +kernel
theorem d_Mo_search_28 : decode b_Mo_search 28 = .ok (.getfield 7, 3) := by decide +kernel
theorem d_Mo_search_31 : decode b_Mo_search 31 = .ok (.iload_n 2, 1) := by decide +kernel
theorem d_Mo_search_32 : decode b_Mo_search 32 = .ok (.baload, 1) := by decide +kernel
theorem d_Mo_search_33 : decode b_Mo_search 33 = .ok (.ifCond .eq 9, 3) := by decide +kernel
theorem d_Mo_search_36 : decode b_Mo_search 36 = .ok (.iload_n 1, 1) := by decide +kernel
theorem d_Mo_search_37 : decode b_Mo_search 37 = .ok (.iload_n 3, 1) := by decide +kernel
theorem d_Mo_search_38 : decode b_Mo_search 38 = .ok (.ior, 1) := by decide +kernel
theorem d_Mo_search_39 : decode b_Mo_search 39 = .ok (.goto 4, 3) := by decide +kernel
theorem d_Mo_search_42 : decode b_Mo_search 42 = .ok (.iload_n 1, 1) := by decide +kernel
theorem d_Mo_search_43 : decode b_Mo_search 43 = .ok (.iload_n 2, 1) := by decide +kernel
theorem d_Mo_search_44 : decode b_Mo_search 44 = .ok (.iconst 1, 1) := by decide +kernel
theorem d_Mo_search_45 : decode b_Mo_search 45 = .ok (.iadd, 1) := by decide +kernel
theorem d_Mo_search_46 : decode b_Mo_search 46 = .ok (.invokevirtual 53, 3) := by decide +kernel
theorem d_Mo_search_49 : decode b_Mo_search 49 = .ok (.istore 4, 2) := by decide +kernel
theorem d_Mo_search_51 : decode b_Mo_search 51 = .ok (.iload 4, 2) := by decide +kernel
theorem d_Mo_search_53 : decode b_Mo_search 53 = .ok (.ifCond .lt 8, 3) := by decide +kernel
theorem d_Mo_search_56 : decode b_Mo_search 56 = .ok (.iload 4, 2) := by decide +kernel
theorem d_Mo_search_58 : decode b_Mo_search 58 = .ok (.goto 26, 3) := by decide +kernel
theorem d_Mo_search_61 : decode b_Mo_search 61 = .ok (.aload_n 0, 1) := by decide +kernel
theorem d_Mo_search_62 : decode b_Mo_search 62 = .ok (.aload_n 0, 1) := by decide +kernel
theorem d_Mo_search_63 : decode b_Mo_search 63 = .ok (.getfield 7, 3) := by decide +kernel
theorem d_Mo_search_66 : decode b_Mo_search 66 = .ok (.iload_n 2, 1) := by decide +kernel
theorem d_Mo_search_67 : decode b_Mo_search 67 = .ok (.baload, 1) := by decide +kernel
theorem d_Mo_search_68 : decode b_Mo_search 68 = .ok (.ifCond .eq 7, 3) := by decide +kernel
theorem d_Mo_search_71 : decode b_Mo_search 71 = .ok (.iload_n 1, 1) := by decide +kernel
theorem d_Mo_search_72 : decode b_Mo_search 72 = .ok (.goto 6, 3) := by decide +kernel
theorem d_Mo_search_75 : decode b_Mo_search 75 = .ok (.iload_n 1, 1) := by decide +kernel
theorem d_Mo_search_76 : decode b_Mo_search 76 = .ok (.iload_n 3, 1) := by decide +kernel
theorem d_Mo_search_77 : decode b_Mo_search 77 = .ok (.ior, 1) := by decide +kernel
theorem d_Mo_search_78 : decode b_Mo_search 78 = .ok (.iload_n 2, 1) := by decide +kernel
theorem d_Mo_search_79 : decode b_Mo_search 79 = .ok (.iconst 1, 1) := by decide +kernel
theorem d_Mo_search_80 : decode b_Mo_search 80 = .ok (.iadd, 1) := by decide +kernel
theorem d_Mo_search_81 : decode b_Mo_search 81 = .ok (.invokevirtual 53, 3) := by decide +kernel
theorem d_Mo_search_84 : decode b_Mo_search 84 = .ok (.ireturn, 1) := by decide +kernel
theorem d_Mo_answer_0 : decode b_Mo_answer 0 = .ok (.aload_n 0, 1) := by decide +kernel
theorem d_Mo_answer_1 : decode b_Mo_answer 1 = .ok (.getfield 28, 3) := by decide +kernel
theorem d_Mo_answer_4 : decode b_Mo_answer 4 = .ok (.ifCond .ne 13, 3) := by decide +kernel
theorem d_Mo_answer_7 : decode b_Mo_answer 7 = .ok (.aload_n 0, 1) := by decide +kernel
theorem d_Mo_answer_8 : decode b_Mo_answer 8 = .ok (.aload_n 0, 1) := by decide +kernel
theorem d_Mo_answer_9 : decode b_Mo_answer 9 = .ok (.iconst 0, 1) := by decide +kernel
theorem d_Mo_answer_10 : decode b_Mo_answer 10 = .ok (.iconst 0, 1) := by decide +kernel
theorem d_Mo_answer_11 : decode b_Mo_answer 11 = .ok (.invokevirtual 53, 3) := by decide +kernel
theorem d_Mo_answer_14 : decode b_Mo_answer 14 = .ok (.putfield 56, 3) := by decide +kernel
theorem d_Mo_answer_17 : decode b_Mo_answer 17 = .ok (.aload_n 0, 1) := by decide +kernel
theorem d_Mo_answer_18 : decode b_Mo_answer 18 = .ok (.iconst 1, 1) := by decide +kernel
theorem d_Mo_answer_19 : decode b_Mo_answer 19 = .ok (.putfield 28, 3) := by decide +kernel
theorem d_Mo_answer_22 : decode b_Mo_answer 22 = .ok (.aload_n 0, 1) := by decide +kernel
theorem d_Mo_answer_23 : decode b_Mo_answer 23 = .ok (.getfield 56, 3) := by decide +kernel
theorem d_Mo_answer_26 : decode b_Mo_answer 26 = .ok (.ireturn, 1) := by decide +kernel
theorem d_Mo_solve_0 : decode b_Mo_solve 0 = .ok (.aload_n 0, 1) := by decide +kernel
theorem d_Mo_solve_1 : decode b_Mo_solve 1 = .ok (.invokevirtual 59, 3) := by decide +kernel
theorem d_Mo_solve_4 : decode b_Mo_solve 4 = .ok (.ifCond .lt 7, 3) := by decide +kernel
theorem d_Mo_solve_7 : decode b_Mo_solve 7 = .ok (.iconst 1, 1) := by decide +kernel
theorem d_Mo_solve_8 : decode b_Mo_solve 8 = .ok (.goto 4, 3) := by decide +kernel
theorem d_Mo_solve_11 : decode b_Mo_solve 11 = .ok (.iconst 0, 1) := by decide +kernel
theorem d_Mo_solve_12 : decode b_Mo_solve 12 = .ok (.ireturn, 1) := by decide +kernel
theorem d_Mo_count_0 : decode b_Mo_count 0 = .ok (.iload_n 1, 1) := by decide +kernel
theorem d_Mo_count_1 : decode b_Mo_count 1 = .ok (.tableswitch 53 0 2 #[27, 32, 37], 27) := by decide +kernel
theorem d_Mo_count_28 : decode b_Mo_count 28 = .ok (.aload_n 0, 1) := by decide +kernel
theorem d_Mo_count_29 : decode b_Mo_count 29 = .ok (.getfield 20, 3) := by decide +kernel
theorem d_Mo_count_32 : decode b_Mo_count 32 = .ok (.ireturn, 1) := by decide +kernel
theorem d_Mo_count_33 : decode b_Mo_count 33 = .ok (.aload_n 0, 1) := by decide +kernel
theorem d_Mo_count_34 : decode b_Mo_count 34 = .ok (.getfield 42, 3) := by decide +kernel
theorem d_Mo_count_37 : decode b_Mo_count 37 = .ok (.ireturn, 1) := by decide +kernel
theorem d_Mo_count_38 : decode b_Mo_count 38 = .ok (.aload_n 0, 1) := by decide +kernel
theorem d_Mo_count_39 : decode b_Mo_count 39 = .ok (.getfield 32, 3) := by decide +kernel
theorem d_Mo_count_42 : decode b_Mo_count 42 = .ok (.invokestatic 38, 3) := by decide +kernel
theorem d_Mo_count_45 : decode b_Mo_count 45 = .ok (.aload_n 0, 1) := by decide +kernel
theorem d_Mo_count_46 : decode b_Mo_count 46 = .ok (.getfield 35, 3) := by decide +kernel
theorem d_Mo_count_49 : decode b_Mo_count 49 = .ok (.invokestatic 38, 3) := by decide +kernel
theorem d_Mo_count_52 : decode b_Mo_count 52 = .ok (.iadd, 1) := by decide +kernel
theorem d_Mo_count_53 : decode b_Mo_count 53 = .ok (.ireturn, 1) := by decide +kernel
theorem d_Mo_count_54 : decode b_Mo_count 54 = .ok (.iconst (-1), 1) := by decide +kernel
theorem d_Mo_count_55 : decode b_Mo_count 55 = .ok (.ireturn, 1) := by decide +kernel
theorem d_La_cell_0 : decode b_La_cell 0 = .ok (.iload_n 1, 1) := by decide +kernel
theorem d_La_cell_1 : decode b_La_cell 1 = .ok (.aload_n 0, 1) := by decide +kernel
theorem d_La_cell_2 : decode b_La_cell 2 = .ok (.arraylength, 1) := by decide +kernel
theorem d_La_cell_3 : decode b_La_cell 3 = .ok (.if_icmp .ge 9, 3) := by decide +kernel
theorem d_La_cell_6 : decode b_La_cell 6 = .ok (.aload_n 0, 1) := by decide +kernel
theorem d_La_cell_7 : decode b_La_cell 7 = .ok (.iload_n 1, 1) := by decide +kernel
theorem d_La_cell_8 : decode b_La_cell 8 = .ok (.iaload, 1) := by decide +kernel
theorem d_La_cell_9 : decode b_La_cell 9 = .ok (.goto 4, 3) := by decide +kernel
theorem d_La_cell_12 : decode b_La_cell 12 = .ok (.iconst 0, 1) := by decide +kernel
theorem d_La_cell_13 : decode b_La_cell 13 = .ok (.ireturn, 1) := by decide +kernel
theorem d_In_bitCount_0 : decode b_In_bitCount 0 = .ok (.iload_n 0, 1) := by decide +kernel
theorem d_In_bitCount_1 : decode b_In_bitCount 1 = .ok (.iload_n 0, 1) := by decide +kernel
theorem d_In_bitCount_2 : decode b_In_bitCount 2 = .ok (.iconst 1, 1) := by decide +kernel
theorem d_In_bitCount_3 : decode b_In_bitCount 3 = .ok (.iushr, 1) := by decide +kernel
theorem d_In_bitCount_4 : decode b_In_bitCount 4 = .ok (.ldc_w 265, 3) := by decide +kernel
theorem d_In_bitCount_7 : decode b_In_bitCount 7 = .ok (.iand, 1) := by decide +kernel
theorem d_In_bitCount_8 : decode b_In_bitCount 8 = .ok (.isub, 1) := by decide +kernel
theorem d_In_bitCount_9 : decode b_In_bitCount 9 = .ok (.istore_n 0, 1) := by decide +kernel
theorem d_In_bitCount_10 : decode b_In_bitCount 10 = .ok (.iload_n 0, 1) := by decide +kernel
theorem d_In_bitCount_11 : decode b_In_bitCount 11 = .ok (.ldc_w 266, 3) := by decide +kernel
theorem d_In_bitCount_14 : decode b_In_bitCount 14 = .ok (.iand, 1) := by decide +kernel
theorem d_In_bitCount_15 : decode b_In_bitCount 15 = .ok (.iload_n 0, 1) := by decide +kernel
theorem d_In_bitCount_16 : decode b_In_bitCount 16 = .ok (.iconst 2, 1) := by decide +kernel
theorem d_In_bitCount_17 : decode b_In_bitCount 17 = .ok (.iushr, 1) := by decide +kernel
theorem d_In_bitCount_18 : decode b_In_bitCount 18 = .ok (.ldc_w 266, 3) := by decide +kernel
theorem d_In_bitCount_21 : decode b_In_bitCount 21 = .ok (.iand, 1) := by decide +kernel
theorem d_In_bitCount_22 : decode b_In_bitCount 22 = .ok (.iadd, 1) := by decide +kernel
theorem d_In_bitCount_23 : decode b_In_bitCount 23 = .ok (.istore_n 0, 1) := by decide +kernel
theorem d_In_bitCount_24 : decode b_In_bitCount 24 = .ok (.iload_n 0, 1) := by decide +kernel
theorem d_In_bitCount_25 : decode b_In_bitCount 25 = .ok (.iload_n 0, 1) := by decide +kernel
theorem d_In_bitCount_26 : decode b_In_bitCount 26 = .ok (.iconst 4, 1) := by decide +kernel
theorem d_In_bitCount_27 : decode b_In_bitCount 27 = .ok (.iushr, 1) := by decide +kernel
theorem d_In_bitCount_28 : decode b_In_bitCount 28 = .ok (.iadd, 1) := by decide +kernel
theorem d_In_bitCount_29 : decode b_In_bitCount 29 = .ok (.ldc_w 267, 3) := by decide +kernel
theorem d_In_bitCount_32 : decode b_In_bitCount 32 = .ok (.iand, 1) := by decide +kernel
theorem d_In_bitCount_33 : decode b_In_bitCount 33 = .ok (.istore_n 0, 1) := by decide +kernel
theorem d_In_bitCount_34 : decode b_In_bitCount 34 = .ok (.iload_n 0, 1) := by decide +kernel
theorem d_In_bitCount_35 : decode b_In_bitCount 35 = .ok (.iload_n 0, 1) := by decide +kernel
theorem d_In_bitCount_36 : decode b_In_bitCount 36 = .ok (.bipush 8, 2) := by decide +kernel
theorem d_In_bitCount_38 : decode b_In_bitCount 38 = .ok (.iushr, 1) := by decide +kernel
theorem d_In_bitCount_39 : decode b_In_bitCount 39 = .ok (.iadd, 1) := by decide +kernel
theorem d_In_bitCount_40 : decode b_In_bitCount 40 = .ok (.istore_n 0, 1) := by decide +kernel
theorem d_In_bitCount_41 : decode b_In_bitCount 41 = .ok (.iload_n 0, 1) := by decide +kernel
theorem d_In_bitCount_42 : decode b_In_bitCount 42 = .ok (.iload_n 0, 1) := by decide +kernel
theorem d_In_bitCount_43 : decode b_In_bitCount 43 = .ok (.bipush 16, 2) := by decide +kernel
theorem d_In_bitCount_45 : decode b_In_bitCount 45 = .ok (.iushr, 1) := by decide +kernel
theorem d_In_bitCount_46 : decode b_In_bitCount 46 = .ok (.iadd, 1) := by decide +kernel
theorem d_In_bitCount_47 : decode b_In_bitCount 47 = .ok (.istore_n 0, 1) := by decide +kernel
theorem d_In_bitCount_48 : decode b_In_bitCount 48 = .ok (.iload_n 0, 1) := by decide +kernel
theorem d_In_bitCount_49 : decode b_In_bitCount 49 = .ok (.bipush 63, 2) := by decide +kernel
theorem d_In_bitCount_51 : decode b_In_bitCount 51 = .ok (.iand, 1) := by decide +kernel
theorem d_In_bitCount_52 : decode b_In_bitCount 52 = .ok (.ireturn, 1) := by decide +kernel
theorem d_Ma_max_0 : decode b_Ma_max 0 = .ok (.iload_n 0, 1) := by decide +kernel
theorem d_Ma_max_1 : decode b_Ma_max 1 = .ok (.iload_n 1, 1) := by decide +kernel
theorem d_Ma_max_2 : decode b_Ma_max 2 = .ok (.if_icmp .lt 7, 3) := by decide +kernel
theorem d_Ma_max_5 : decode b_Ma_max 5 = .ok (.iload_n 0, 1) := by decide +kernel
theorem d_Ma_max_6 : decode b_Ma_max 6 = .ok (.goto 4, 3) := by decide +kernel
theorem d_Ma_max_9 : decode b_Ma_max 9 = .ok (.iload_n 1, 1) := by decide +kernel
theorem d_Ma_max_10 : decode b_Ma_max 10 = .ok (.ireturn, 1) := by decide +kernel
theorem d_Ma_min_0 : decode b_Ma_min 0 = .ok (.iload_n 0, 1) := by decide +kernel
theorem d_Ma_min_1 : decode b_Ma_min 1 = .ok (.iload_n 1, 1) := by decide +kernel
theorem d_Ma_min_2 : decode b_Ma_min 2 = .ok (.if_icmp .gt 7, 3) := by decide +kernel
theorem d_Ma_min_5 : decode b_Ma_min 5 = .ok (.iload_n 0, 1) := by decide +kernel
theorem d_Ma_min_6 : decode b_Ma_min 6 = .ok (.goto 4, 3) := by decide +kernel
theorem d_Ma_min_9 : decode b_Ma_min 9 = .ok (.iload_n 1, 1) := by decide +kernel
theorem d_Ma_min_10 : decode b_Ma_min 10 = .ok (.ireturn, 1) := by decide +kernel
theorem d_Ar_fillI_0 : decode b_Ar_fillI 0 = .ok (.iconst 0, 1) := by decide +kernel
theorem d_Ar_fillI_1 : decode b_Ar_fillI 1 = .ok (.istore_n 2, 1) := by decide +kernel
theorem d_Ar_fillI_2 : decode b_Ar_fillI 2 = .ok (.aload_n 0, 1) := by decide +kernel
theorem d_Ar_fillI_3 : decode b_Ar_fillI 3 = .ok (.arraylength, 1) := by decide +kernel
theorem d_Ar_fillI_4 : decode b_Ar_fillI 4 = .ok (.istore_n 3, 1) := by decide +kernel
theorem d_Ar_fillI_5 : decode b_Ar_fillI 5 = .ok (.iload_n 2, 1) := by decide +kernel
theorem d_Ar_fillI_6 : decode b_Ar_fillI 6 = .ok (.iload_n 3, 1) := by decide +kernel
theorem d_Ar_fillI_7 : decode b_Ar_fillI 7 = .ok (.if_icmp .ge 13, 3) := by decide +kernel
theorem d_Ar_fillI_10 : decode b_Ar_fillI 10 = .ok (.aload_n 0, 1) := by decide +kernel
theorem d_Ar_fillI_11 : decode b_Ar_fillI 11 = .ok (.iload_n 2, 1) := by decide +kernel
theorem d_Ar_fillI_12 : decode b_Ar_fillI 12 = .ok (.iload_n 1, 1) := by decide +kernel
theorem d_Ar_fillI_13 : decode b_Ar_fillI 13 = .ok (.iastore, 1) := by decide +kernel
theorem d_Ar_fillI_14 : decode b_Ar_fillI 14 = .ok (.iinc 2 1, 3) := by decide +kernel
theorem d_Ar_fillI_17 : decode b_Ar_fillI 17 = .ok (.goto (-12), 3) := by decide +kernel
theorem d_Ar_fillI_20 : decode b_Ar_fillI 20 = .ok (.return_, 1) := by decide +kernel
theorem d_Ar_fillZ_0 : decode b_Ar_fillZ 0 = .ok (.iconst 0, 1) := by decide +kernel
theorem d_Ar_fillZ_1 : decode b_Ar_fillZ 1 = .ok (.istore_n 2, 1) := by decide +kernel
theorem d_Ar_fillZ_2 : decode b_Ar_fillZ 2 = .ok (.aload_n 0, 1) := by decide +kernel
theorem d_Ar_fillZ_3 : decode b_Ar_fillZ 3 = .ok (.arraylength, 1) := by decide +kernel
theorem d_Ar_fillZ_4 : decode b_Ar_fillZ 4 = .ok (.istore_n 3, 1) := by decide +kernel
theorem d_Ar_fillZ_5 : decode b_Ar_fillZ 5 = .ok (.iload_n 2, 1) := by decide +kernel
theorem d_Ar_fillZ_6 : decode b_Ar_fillZ 6 = .ok (.iload_n 3, 1) := by decide +kernel
theorem d_Ar_fillZ_7 : decode b_Ar_fillZ 7 = .ok (.if_icmp .ge 13, 3) := by decide +kernel
theorem d_Ar_fillZ_10 : decode b_Ar_fillZ 10 = .ok (.aload_n 0, 1) := by decide +kernel
theorem d_Ar_fillZ_11 : decode b_Ar_fillZ 11 = .ok (.iload_n 2, 1) := by decide +kernel
theorem d_Ar_fillZ_12 : decode b_Ar_fillZ 12 = .ok (.iload_n 1, 1) := by decide +kernel
theorem d_Ar_fillZ_13 : decode b_Ar_fillZ 13 = .ok (.bastore, 1) := by decide +kernel
theorem d_Ar_fillZ_14 : decode b_Ar_fillZ 14 = .ok (.iinc 2 1, 3) := by decide +kernel
theorem d_Ar_fillZ_17 : decode b_Ar_fillZ 17 = .ok (.goto (-12), 3) := by decide +kernel
theorem d_Ar_fillZ_20 : decode b_Ar_fillZ 20 = .ok (.return_, 1) := by decide +kernel
end
section
/-! the solver's layout, its rows; bits of literals -/
def Y_Sv : Lay := (0, 23, (fun k => match k with | 0 => false | 6 => false | 7 => false | 8 => false | 16 => false | 17 => false | 18 => false | 19 => false | 21 => false | _ => true), [1, 2, 3, 4, 5, 9, 10, 11, 12, 13, 14, 15, 20, 22], (fun k => match k with | 1 => 16 | 2 => 9872 | 3 => 618 | 4 => 1234 | 5 => 617 | 9 => 617 | 10 => 32 | 11 => 16 | 12 => 16 | 13 => 16 | 14 => 16 | 15 => 17 | 20 => 32 | _ => 16), (fun k => match k with | 1 => .boolean | 5 => .boolean | 22 => .boolean | _ => .int))
theorem Y_Sv_ok : LayOk Y_Sv := ⟨by decide, by decide, R_Sv, F_Sv, rfl⟩
abbrev sw (h0 : Nat) (ad : Nat → Nat) (cA : Nat → ClassId) : Sv → va_W := ow Y_Sv h0 ad cA
abbrev sty (cA : Nat → ClassId) : List (ClassId × FieldType) := oty Y_Sv cA
theorem Ln_Sv {tys : List (ClassId × FieldType)} {h0 : Nat} {ad : Nat → Nat} {cA : Nat → ClassId} (h : tys = sty cA) : Ln (sw h0 ad cA) tys Y_Sv h0 ad cA := Ln_own Y_Sv_ok (fun q hq => h ▸ hq)
theorem rgi {x : Int} (h1 : -2147483648 ≤ x) (h2 : x < 2147483648) : rg x := ⟨h1, h2⟩
section ROWS
variable {K : Cx} {cc : ByteArray} {w : Sv → va_W} {S : Sv} {pc : Nat} {lv : List (Nat × Value)} {st : List Value} {h0 : Nat} {ad : Nat → Nat} {cA : Nat → ClassId}
theorem s_get (C : Ok K R_Sv cc) (L : Ln w (xt K) Y_Sv h0 ad cA) (k : Nat) (hk : k < 23) (hr : Y_Sv.2.2.1 k = false) (v : Int) (hv : S k 0 = v) (hd : decode cc pc = .ok (.getfield (ix_Sv k), 3)) (kk : J K (w S) (pc + 3) lv (jv v :: st)) : J K (w S) pc lv (.ref h0 :: st) := j_get C L rfl i_Sv k hk hr (k_Sv k hk) hv hd kk
theorem s_getA (C : Ok K R_Sv cc) (L : Ln w (xt K) Y_Sv h0 ad cA) (k : Nat) (hk : k < 23) (hr : Y_Sv.2.2.1 k = true) (hd : decode cc pc = .ok (.getfield (ix_Sv k), 3)) (kk : J K (w S) (pc + 3) lv (.ref (ad k) :: st)) : J K (w S) pc lv (.ref h0 :: st) := j_getA C L rfl i_Sv k hk hr (k_Sv k hk) hd kk
theorem s_put (C : Ok K R_Sv cc) (L : Ln w (xt K) Y_Sv h0 ad cA) (k : Nat) (hk : k < 23) (hr : Y_Sv.2.2.1 k = false) (hf : (F_Sv k).2.2.2 = false) (ht : t_Sv k = .int) {x : Int} (hd : decode cc pc = .ok (.putfield (ix_Sv k), 3)) (kk : J K (w (u2 S k 0 x)) (pc + 3) lv st) : J K (w S) pc lv (jv x :: .ref h0 :: st) := j_put C L rfl i_Sv t_Sv t_Sv_ok n_Sv k hk hr (k_Sv k hk) hf (by rw [ht]; rfl) (by rw [ht]; rfl) hd kk
theorem bz {x : Int} (h : x = 0 ∨ x = 1) : narrow .boolean (jv x) = jv x ∧ fits .boolean (jv x) = true := by rcases h with rfl | rfl <;> exact ⟨by decide, by decide⟩
theorem s_putZ (C : Ok K R_Sv cc) (L : Ln w (xt K) Y_Sv h0 ad cA) (k : Nat) (hk : k < 23) (hr : Y_Sv.2.2.1 k = false) (hf : (F_Sv k).2.2.2 = false) (ht : t_Sv k = .boolean) {x : Int} (hx : x = 0 ∨ x = 1) (hd : decode cc pc = .ok (.putfield (ix_Sv k), 3)) (kk : J K (w (u2 S k 0 x)) (pc + 3) lv st) : J K (w S) pc lv (jv x :: .ref h0 :: st) := j_put C L rfl i_Sv t_Sv t_Sv_ok n_Sv k hk hr (k_Sv k hk) hf (by rw [ht]; exact (bz hx).1) (by rw [ht]; exact (bz hx).2) hd kk
theorem s_iald (C : Ok K R_Sv cc) (L : Ln w (xt K) Y_Sv h0 ad cA) (k n : Nat) (hk : k ∈ Y_Sv.2.2.2.1) (ht : Y_Sv.2.2.2.2.2 k = .int) (hn : Y_Sv.2.2.2.2.1 k = n) {i : Int} (v : Int) (hv : S k i = v) (h1 : 0 ≤ i) (h2 : i < (n : Int)) (hd : decode cc pc = .ok (.iaload, 1)) (kk : J K (w S) (pc + 1) lv (jv v :: st)) : J K (w S) pc lv (jv i :: .ref (ad k) :: st) := j_iald C L k hk ht h1 (by rw [hn]; exact h2) (Y_Sv_ok.2.1 k hk).2 hv hd kk
theorem s_zald (C : Ok K R_Sv cc) (L : Ln w (xt K) Y_Sv h0 ad cA) (k n : Nat) (hk : k ∈ Y_Sv.2.2.2.1) (ht : Y_Sv.2.2.2.2.2 k = .boolean) (hn : Y_Sv.2.2.2.2.1 k = n) {i : Int} (v : Int) (hv : S k i = v) (h1 : 0 ≤ i) (h2 : i < (n : Int)) (hd : decode cc pc = .ok (.baload, 1)) (kk : J K (w S) (pc + 1) lv (jv v :: st)) : J K (w S) pc lv (jv i :: .ref (ad k) :: st) := j_zald C L k hk ht h1 (by rw [hn]; exact h2) (Y_Sv_ok.2.1 k hk).2 hv hd kk
theorem s_iast (C : Ok K R_Sv cc) (L : Ln w (xt K) Y_Sv h0 ad cA) (k n : Nat) (hk : k ∈ Y_Sv.2.2.2.1) (ht : Y_Sv.2.2.2.2.2 k = .int) (hn : Y_Sv.2.2.2.2.1 k = n) {i x : Int} (h1 : 0 ≤ i) (h2 : i < (n : Int)) (hd : decode cc pc = .ok (.iastore, 1)) (kk : J K (w (u2 S k i x)) (pc + 1) lv st) : J K (w S) pc lv (jv x :: jv i :: .ref (ad k) :: st) := j_iast C L k hk ht h1 (by rw [hn]; exact h2) (Y_Sv_ok.2.1 k hk).2 hd kk
theorem s_zast (C : Ok K R_Sv cc) (L : Ln w (xt K) Y_Sv h0 ad cA) (k n : Nat) (hk : k ∈ Y_Sv.2.2.2.1) (ht : Y_Sv.2.2.2.2.2 k = .boolean) (hn : Y_Sv.2.2.2.2.1 k = n) {i x : Int} (h1 : 0 ≤ i) (h2 : i < (n : Int)) (hx : x = 0 ∨ x = 1) (hd : decode cc pc = .ok (.bastore, 1)) (kk : J K (w (u2 S k i x)) (pc + 1) lv st) : J K (w S) pc lv (jv x :: jv i :: .ref (ad k) :: st) := j_zast C L k hk ht h1 (by rw [hn]; exact h2) (Y_Sv_ok.2.1 k hk).2 hx hd kk
end ROWS
/-! bits -/
theorem jI_nI {x : Int} (h : 0 ≤ x) : jI x = nI x.toNat := by
  obtain ⟨n, rfl⟩ := Int.eq_ofNat_of_zero_le h
  rfl
theorem jI_n (n : Nat) : jI (n : Int) = nI n := rfl
theorem jI_and1 {x : Int} (h : 0 ≤ x) (h2 : x < 2147483648) : jI x &&& jI 1 = jI (x % 2) := by
  obtain ⟨n, rfl⟩ := Int.eq_ofNat_of_zero_le h
  have e := pk_andN (n := n) (by omega) (m := jI 1) 1 (by decide)
  rw [jI_n, e]
  show _ = jI ((n : Int) % 2)
  rw [show ((n : Int) % 2) = ((n % 2 ^ 1 : Nat) : Int) by simp, jI_n]
theorem jI_shr1 {x : Int} (h : 0 ≤ x) (h2 : x < 2147483648) : jI x >>> (jI 1 &&& 31) = jI (x / 2) := by
  obtain ⟨n, rfl⟩ := Int.eq_ofNat_of_zero_le h
  have e := pk_shrN (n := n) (by omega) (jI 1 &&& 31) 1 (by decide)
  rw [jI_n, e]
  show _ = jI ((n : Int) / 2)
  rw [show ((n : Int) / 2) = ((n / 2 ^ 1 : Nat) : Int) by simp, jI_n]
/-- the other literal of the same variable -/
def ng (l : Int) : Int := l + 1 - 2 * (l % 2)
theorem nI_xor (a b : Nat) : nI a ^^^ nI b = nI (a ^^^ b) := by
  apply Int32.toBitVec_inj.mp
  show BitVec.ofNat 32 a ^^^ BitVec.ofNat 32 b = BitVec.ofNat 32 (a ^^^ b)
  exact BitVec.ofNat_xor.symm
theorem xor_1 (a : Nat) : a ^^^ 1 = if a % 2 = 0 then a + 1 else a - 1 := by
  have h1 : (a ^^^ 1) % 2 = (a % 2) ^^^ 1 := by
    have := Nat.xor_mod_two_pow (a := a) (b := 1) (n := 1)
    simpa using this
  have h2 : (a ^^^ 1) / 2 = a / 2 := by
    have := Nat.xor_div_two (a := a) (b := 1)
    simpa using this
  rcases Nat.mod_two_eq_zero_or_one a with h | h
  · rw [h] at h1
    rw [if_pos h]
    have : (a ^^^ 1) % 2 = 1 := by rw [h1]; rfl
    omega
  · rw [h] at h1
    rw [if_neg (by omega)]
    have : (a ^^^ 1) % 2 = 0 := by rw [h1]; rfl
    omega
theorem jI_xor1 {x : Int} (h : 0 ≤ x) : jI x ^^^ jI 1 = jI (ng x) := by
  obtain ⟨n, rfl⟩ := Int.eq_ofNat_of_zero_le h
  have e := nI_xor n 1
  rw [jI_n]
  show nI n ^^^ nI 1 = _
  rw [e, xor_1, jI_nI (by unfold ng; omega)]
  congr 1
  unfold ng
  split <;> omega
end
section
/-! the solver's leaves -/
def vOf (val : Int → Int) (l : Int) : Int := if l % 2 = 0 then val (l / 2) else - val (l / 2)
def lookS (S : Sv) (c b : Int) : Sv := u2 (u2 S 4 (2 * c + b) (S 10 (S 2 (S 3 c + b)))) 10 (S 2 (S 3 c + b)) (2 * c + b)
def setS (S : Sv) (l why : Int) : Sv := u2 (u2 (u2 (u2 (u2 S 11 (l / 2) (if l % 2 = 0 then 1 else -1)) 12 (l / 2) (S 17 0)) 13 (l / 2) why) 14 (S 16 0) l) 16 0 (S 16 0 + 1)
theorem c_Sv_yes (l : Launch) (D : va_G) (a : Int) : CI l y_Sv_yes b_Sv_yes 1 (some .int) 0 D [] [jv a] (fun _ : Unit => []) () (fun z _ => z = 2 * a) := by
  refine CI.of (by decide) (Nat.le_of_ble_eq_true rfl) (fun K C hR ht hL hcs Z => ?_)
  have C : Ok K R_Sv b_Sv_yes := C
  show J K [] 0 [(0, jv a)] []
  refine j_iconst C d_Sv_yes_0 ?_
  refine j_iload_n C 0 d_Sv_yes_1 rfl rfl ?_
  refine j_imul C d_Sv_yes_2 ?_
  exact j_ret (w := fun _ : Unit => []) (u := ()) C Z rfl d_Sv_yes_3 rfl
theorem c_Sv_no (l : Launch) (D : va_G) (a : Int) : CI l y_Sv_no b_Sv_no 1 (some .int) 0 D [] [jv a] (fun _ : Unit => []) () (fun z _ => z = 2 * a + 1) := by
  refine CI.of (by decide) (Nat.le_of_ble_eq_true rfl) (fun K C hR ht hL hcs Z => ?_)
  have C : Ok K R_Sv b_Sv_no := C
  show J K [] 0 [(0, jv a)] []
  refine j_iconst C d_Sv_no_0 ?_
  refine j_iload_n C 0 d_Sv_no_1 rfl rfl ?_
  refine j_imul C d_Sv_no_2 ?_
  refine j_iconst C d_Sv_no_3 ?_
  refine j_iadd C d_Sv_no_4 ?_
  exact j_ret (w := fun _ : Unit => []) (u := ()) C Z rfl d_Sv_no_5 rfl
theorem c_Sv_valueOf (l : Launch) (D : va_G) (h0 : Nat) (ad : Nat → Nat) (cA : Nat → ClassId) (S : Sv) (a : Int) (h1 : 0 ≤ a) (h2 : a < 32) : CI l y_Sv_valueOf b_Sv_valueOf 2 (some .int) 0 D (sty cA) [.ref h0, jv a] (sw h0 ad cA) S (fun z u => u = S ∧ z = vOf (S 11) a) := by
  refine CI.of (by decide) (Nat.le_of_ble_eq_true rfl) (fun K C hR ht hL hcs Z => ?_)
  have C : Ok K R_Sv b_Sv_valueOf := C
  have L := Ln_Sv (h0 := h0) (ad := ad) ht
  show J K (sw h0 ad cA S) 0 [(0, .ref h0), (1, jv a)] []
  refine j_iload_n C 1 d_Sv_valueOf_0 rfl rfl ?_
  refine j_iconst C d_Sv_valueOf_1 ?_
  refine j_iand C d_Sv_valueOf_2 (jI_and1 (by omega) (by omega)) ?_
  refine j_if_ne (tgt := 17) C d_Sv_valueOf_3 (by decide) (rgi (by omega) (by omega)) (fun c => ?_) (fun c => ?_)
  · refine j_aload_n C 0 d_Sv_valueOf_17 rfl rfl ?_
    refine s_getA C L 11 (by decide) rfl d_Sv_valueOf_18 ?_
    refine j_iload_n C 1 d_Sv_valueOf_21 rfl rfl ?_
    refine j_iconst C d_Sv_valueOf_22 ?_
    refine j_ishr C d_Sv_valueOf_23 (jI_shr1 (by omega) (by omega)) ?_
    refine s_iald C L 11 16 (by decide) rfl rfl (S 11 (a / 2)) rfl (by omega) (by omega) d_Sv_valueOf_24 ?_
    refine j_ineg C d_Sv_valueOf_25 ?_
    exact j_ret C Z rfl d_Sv_valueOf_26 ⟨rfl, by unfold vOf; rw [if_neg c]⟩
  · refine j_aload_n C 0 d_Sv_valueOf_6 rfl rfl ?_
    refine s_getA C L 11 (by decide) rfl d_Sv_valueOf_7 ?_
    refine j_iload_n C 1 d_Sv_valueOf_10 rfl rfl ?_
    refine j_iconst C d_Sv_valueOf_11 ?_
    refine j_ishr C d_Sv_valueOf_12 (jI_shr1 (by omega) (by omega)) ?_
    refine s_iald C L 11 16 (by decide) rfl rfl (S 11 (a / 2)) rfl (by omega) (by omega) d_Sv_valueOf_13 ?_
    refine j_goto (tgt := 26) C d_Sv_valueOf_14 (by decide) ?_
    exact j_ret C Z rfl d_Sv_valueOf_26 ⟨rfl, by unfold vOf; rw [if_pos c]⟩
theorem c_Sv_isTrue (l : Launch) (D : va_G) (h0 : Nat) (ad : Nat → Nat) (cA : Nat → ClassId) (S : Sv) (a : Int) (h1 : 0 ≤ a) (h2 : a < 16) (h3 : rg (S 11 a)) : CI l y_Sv_isTrue b_Sv_isTrue 2 (some .boolean) 0 D (sty cA) [.ref h0, jv a] (sw h0 ad cA) S (fun z u => u = S ∧ z = if 0 < S 11 a then 1 else 0) := by
  refine CI.of (by decide) (Nat.le_of_ble_eq_true rfl) (fun K C hR ht hL hcs Z => ?_)
  have C : Ok K R_Sv b_Sv_isTrue := C
  have L := Ln_Sv (h0 := h0) (ad := ad) ht
  show J K (sw h0 ad cA S) 0 [(0, .ref h0), (1, jv a)] []
  refine j_aload_n C 0 d_Sv_isTrue_0 rfl rfl ?_
  refine s_getA C L 11 (by decide) rfl d_Sv_isTrue_1 ?_
  refine j_iload_n C 1 d_Sv_isTrue_4 rfl rfl ?_
  refine s_iald C L 11 16 (by decide) rfl rfl (S 11 a) rfl (by omega) (by omega) d_Sv_isTrue_5 ?_
  refine j_if_le (tgt := 13) C d_Sv_isTrue_6 (by decide) h3 (fun c => ?_) (fun c => ?_)
  · refine j_iconst C d_Sv_isTrue_13 ?_
    exact j_ret C Z (by decide) d_Sv_isTrue_14 ⟨rfl, by rw [if_neg (by omega)]⟩
  · refine j_iconst C d_Sv_isTrue_9 ?_
    refine j_goto (tgt := 14) C d_Sv_isTrue_10 (by decide) ?_
    exact j_ret C Z (by decide) d_Sv_isTrue_14 ⟨rfl, by rw [if_pos (by omega)]⟩
theorem c_Sv_look (l : Launch) (D : va_G) (h0 : Nat) (ad : Nat → Nat) (cA : Nat → ClassId) (S : Sv) (c b : Int) (h1 : 0 ≤ c) (h2 : c < 617) (hb : b = 0 ∨ b = 1) (h3 : 0 ≤ S 3 c + b) (h4 : S 3 c + b < 9872) (h5 : 0 ≤ S 2 (S 3 c + b)) (h6 : S 2 (S 3 c + b) < 32) : CV l y_Sv_look b_Sv_look 4 0 D (sty cA) [.ref h0, jv c, jv b] (sw h0 ad cA) S (fun u => u = lookS S c b) := by
  refine CV.of (by decide) (Nat.le_of_ble_eq_true rfl) (fun K C hR ht hL hcs Z => ?_)
  have C : Ok K R_Sv b_Sv_look := C
  have L := Ln_Sv (h0 := h0) (ad := ad) ht
  show J K (sw h0 ad cA S) 0 [(0, .ref h0), (1, jv c), (2, jv b)] []
  refine j_aload_n C 0 d_Sv_look_0 rfl rfl ?_
  refine s_getA C L 2 (by decide) rfl d_Sv_look_1 ?_
  refine j_aload_n C 0 d_Sv_look_4 rfl rfl ?_
  refine s_getA C L 3 (by decide) rfl d_Sv_look_5 ?_
  refine j_iload_n C 1 d_Sv_look_8 rfl rfl ?_
  refine s_iald C L 3 618 (by decide) rfl rfl (S 3 c) rfl (by omega) (by omega) d_Sv_look_9 ?_
  refine j_iload_n C 2 d_Sv_look_10 rfl rfl ?_
  refine j_iadd C d_Sv_look_11 ?_
  refine s_iald C L 2 9872 (by decide) rfl rfl (S 2 ((S 3 c) + b)) rfl (by omega) (by omega) d_Sv_look_12 ?_
  refine j_istore_n (lv' := [(0, .ref h0), (1, jv c), (2, jv b), (3, jv (S 2 ((S 3 c) + b)))]) C d_Sv_look_13 rfl (by rw [hL]; decide) rfl rfl ?_
  refine j_aload_n C 0 d_Sv_look_14 rfl rfl ?_
  refine s_getA C L 4 (by decide) rfl d_Sv_look_15 ?_
  refine j_iconst C d_Sv_look_18 ?_
  refine j_iload_n C 1 d_Sv_look_19 rfl rfl ?_
  refine j_imul C d_Sv_look_20 ?_
  refine j_iload_n C 2 d_Sv_look_21 rfl rfl ?_
  refine j_iadd C d_Sv_look_22 ?_
  refine j_aload_n C 0 d_Sv_look_23 rfl rfl ?_
  refine s_getA C L 10 (by decide) rfl d_Sv_look_24 ?_
  refine j_iload_n C 3 d_Sv_look_27 rfl rfl ?_
  refine s_iald C L 10 32 (by decide) rfl rfl (S 10 (S 2 ((S 3 c) + b))) rfl (by omega) (by omega) d_Sv_look_28 ?_
  refine s_iast C L 4 1234 (by decide) rfl rfl (by omega) (by omega) d_Sv_look_29 ?_
  refine j_aload_n C 0 d_Sv_look_30 rfl rfl ?_
  refine s_getA C L 10 (by decide) rfl d_Sv_look_31 ?_
  refine j_iload_n C 3 d_Sv_look_34 rfl rfl ?_
  refine j_iconst C d_Sv_look_35 ?_
  refine j_iload_n C 1 d_Sv_look_36 rfl rfl ?_
  refine j_imul C d_Sv_look_37 ?_
  refine j_iload_n C 2 d_Sv_look_38 rfl rfl ?_
  refine j_iadd C d_Sv_look_39 ?_
  refine s_iast C L 10 32 (by decide) rfl rfl (by omega) (by omega) d_Sv_look_40 ?_
  exact j_vret C Z d_Sv_look_41 rfl
theorem c_Sv_set (l : Launch) (D : va_G) (h0 : Nat) (ad : Nat → Nat) (cA : Nat → ClassId) (S : Sv) (a why : Int) (h1 : 0 ≤ a) (h2 : a < 32) (h3 : 0 ≤ S 16 0) (h4 : S 16 0 < 16) : CV l y_Sv_set b_Sv_set 4 0 D (sty cA) [.ref h0, jv a, jv why] (sw h0 ad cA) S (fun u => u = setS S a why) := by
  refine CV.of (by decide) (Nat.le_of_ble_eq_true rfl) (fun K C hR ht hL hcs Z => ?_)
  have C : Ok K R_Sv b_Sv_set := C
  have L := Ln_Sv (h0 := h0) (ad := ad) ht
  show J K (sw h0 ad cA S) 0 [(0, .ref h0), (1, jv a), (2, jv why)] []
  refine j_iload_n C 1 d_Sv_set_0 rfl rfl ?_
  refine j_iconst C d_Sv_set_1 ?_
  refine j_ishr C d_Sv_set_2 (jI_shr1 (by omega) (by omega)) ?_
  refine j_istore_n (lv' := [(0, .ref h0), (1, jv a), (2, jv why), (3, jv (a / 2))]) C d_Sv_set_3 rfl (by rw [hL]; decide) rfl rfl ?_
  refine j_aload_n C 0 d_Sv_set_4 rfl rfl ?_
  refine s_getA C L 11 (by decide) rfl d_Sv_set_5 ?_
  refine j_iload_n C 3 d_Sv_set_8 rfl rfl ?_
  refine j_iload_n C 1 d_Sv_set_9 rfl rfl ?_
  refine j_iconst C d_Sv_set_10 ?_
  refine j_iand C d_Sv_set_11 (jI_and1 (by omega) (by omega)) ?_
  refine j_if_ne (tgt := 19) C d_Sv_set_12 (by decide) (rgi (by omega) (by omega)) (fun c => ?_) (fun c => ?_)
  · refine j_iconst C d_Sv_set_19 ?_
    refine s_iast C L 11 16 (by decide) rfl rfl (by omega) (by omega) d_Sv_set_20 ?_
    refine j_aload_n C 0 d_Sv_set_21 rfl rfl ?_
    refine s_getA C L 12 (by decide) rfl d_Sv_set_22 ?_
    refine j_iload_n C 3 d_Sv_set_25 rfl rfl ?_
    refine j_aload_n C 0 d_Sv_set_26 rfl rfl ?_
    refine s_get C L 17 (by decide) rfl (S 17 0) rfl d_Sv_set_27 ?_
    refine s_iast C L 12 16 (by decide) rfl rfl (by omega) (by omega) d_Sv_set_30 ?_
    refine j_aload_n C 0 d_Sv_set_31 rfl rfl ?_
    refine s_getA C L 13 (by decide) rfl d_Sv_set_32 ?_
    refine j_iload_n C 3 d_Sv_set_35 rfl rfl ?_
    refine j_iload_n C 2 d_Sv_set_36 rfl rfl ?_
    refine s_iast C L 13 16 (by decide) rfl rfl (by omega) (by omega) d_Sv_set_37 ?_
    refine j_aload_n C 0 d_Sv_set_38 rfl rfl ?_
    refine s_getA C L 14 (by decide) rfl d_Sv_set_39 ?_
    refine j_aload_n C 0 d_Sv_set_42 rfl rfl ?_
    refine s_get C L 16 (by decide) rfl (S 16 0) rfl d_Sv_set_43 ?_
    refine j_iload_n C 1 d_Sv_set_46 rfl rfl ?_
    refine s_iast C L 14 16 (by decide) rfl rfl (by omega) (by omega) d_Sv_set_47 ?_
    refine j_aload_n C 0 d_Sv_set_48 rfl rfl ?_
    refine j_dup C d_Sv_set_49 rfl ?_
    refine s_get C L 16 (by decide) rfl (S 16 0) rfl d_Sv_set_50 ?_
    refine j_iconst C d_Sv_set_53 ?_
    refine j_iadd C d_Sv_set_54 ?_
    refine s_put C L 16 (by decide) rfl rfl rfl d_Sv_set_55 ?_
    exact j_vret C Z d_Sv_set_58 (by unfold setS; rw [if_neg c])
  · refine j_iconst C d_Sv_set_15 ?_
    refine j_goto (tgt := 20) C d_Sv_set_16 (by decide) ?_
    refine s_iast C L 11 16 (by decide) rfl rfl (by omega) (by omega) d_Sv_set_20 ?_
    refine j_aload_n C 0 d_Sv_set_21 rfl rfl ?_
    refine s_getA C L 12 (by decide) rfl d_Sv_set_22 ?_
    refine j_iload_n C 3 d_Sv_set_25 rfl rfl ?_
    refine j_aload_n C 0 d_Sv_set_26 rfl rfl ?_
    refine s_get C L 17 (by decide) rfl (S 17 0) rfl d_Sv_set_27 ?_
    refine s_iast C L 12 16 (by decide) rfl rfl (by omega) (by omega) d_Sv_set_30 ?_
    refine j_aload_n C 0 d_Sv_set_31 rfl rfl ?_
    refine s_getA C L 13 (by decide) rfl d_Sv_set_32 ?_
    refine j_iload_n C 3 d_Sv_set_35 rfl rfl ?_
    refine j_iload_n C 2 d_Sv_set_36 rfl rfl ?_
    refine s_iast C L 13 16 (by decide) rfl rfl (by omega) (by omega) d_Sv_set_37 ?_
    refine j_aload_n C 0 d_Sv_set_38 rfl rfl ?_
    refine s_getA C L 14 (by decide) rfl d_Sv_set_39 ?_
    refine j_aload_n C 0 d_Sv_set_42 rfl rfl ?_
    refine s_get C L 16 (by decide) rfl (S 16 0) rfl d_Sv_set_43 ?_
    refine j_iload_n C 1 d_Sv_set_46 rfl rfl ?_
    refine s_iast C L 14 16 (by decide) rfl rfl (by omega) (by omega) d_Sv_set_47 ?_
    refine j_aload_n C 0 d_Sv_set_48 rfl rfl ?_
    refine j_dup C d_Sv_set_49 rfl ?_
    refine s_get C L 16 (by decide) rfl (S 16 0) rfl d_Sv_set_50 ?_
    refine j_iconst C d_Sv_set_53 ?_
    refine j_iadd C d_Sv_set_54 ?_
    refine s_put C L 16 (by decide) rfl rfl rfl d_Sv_set_55 ?_
    exact j_vret C Z d_Sv_set_58 (by unfold setS; rw [if_pos c])
theorem c_Sv_rank (l : Launch) (D : va_G) (h0 : Nat) (ad : Nat → Nat) (cA : Nat → ClassId) (S : Sv) (a : Int) (h1 : 0 ≤ a) (h2 : a < 32) (h3 : rg (vOf (S 11) a)) : CI l y_Sv_rank b_Sv_rank 2 (some .int) 1 D (sty cA) [.ref h0, jv a] (sw h0 ad cA) S (fun z u => u = S ∧ z = if vOf (S 11) a < 0 then S 12 (a / 2) else 17) := by
  refine CI.of (by decide) (Nat.le_of_ble_eq_true rfl) (fun K C hR ht hL hcs Z => ?_)
  have C : Ok K R_Sv b_Sv_rank := C
  have L := Ln_Sv (h0 := h0) (ad := ad) ht
  show J K (sw h0 ad cA S) 0 [(0, .ref h0), (1, jv a)] []
  refine j_aload_n C 0 d_Sv_rank_0 rfl rfl ?_
  refine j_iload_n C 1 d_Sv_rank_1 rfl rfl ?_
  refine j_callI (wr := []) (As := [jv a]) (rest := []) (w := sw h0 ad cA) (u0 := S) C (c_Sv_valueOf _ _ h0 ad cA S a h1 h2) (by rw [ht]; exact fun _ h => h) lk_Sv_90 rfl (q0 := 0) rfl rfl (by rw [hR]; decide) hcs d_Sv_rank_2 rfl (by decide) (fun z u hz => ?_)
  obtain ⟨rfl, rfl⟩ := hz
  refine j_if_ge (tgt := 19) C d_Sv_rank_5 (by decide) h3 (fun c => ?_) (fun c => ?_)
  · refine j_bipush C d_Sv_rank_19 (by decide) ?_
    exact j_ret C Z rfl d_Sv_rank_21 ⟨rfl, by rw [if_neg (by omega)]⟩
  · refine j_aload_n C 0 d_Sv_rank_8 rfl rfl ?_
    refine s_getA C L 12 (by decide) rfl d_Sv_rank_9 ?_
    refine j_iload_n C 1 d_Sv_rank_12 rfl rfl ?_
    refine j_iconst C d_Sv_rank_13 ?_
    refine j_ishr C d_Sv_rank_14 (jI_shr1 (by omega) (by omega)) ?_
    refine s_iald C L 12 16 (by decide) rfl rfl (u 12 (a / 2)) rfl (by omega) (by omega) d_Sv_rank_15 ?_
    refine j_goto (tgt := 21) C d_Sv_rank_16 (by decide) ?_
    exact j_ret C Z rfl d_Sv_rank_21 ⟨rfl, by rw [if_pos (by omega)]⟩
end
section
/-! pure: literals, counting, clauses, the trail -/
def sgn (l : Int) : Int := if l % 2 = 0 then 1 else -1
theorem sgn_or (l : Int) : sgn l = 1 ∨ sgn l = -1 := by unfold sgn; split <;> simp
theorem ng_div (l : Int) : ng l / 2 = l / 2 := by unfold ng; omega
theorem ng_ng (l : Int) : ng (ng l) = l := by unfold ng; omega
theorem ng_ne (l : Int) : ng l ≠ l := by unfold ng; omega
theorem ng_lo {l : Int} (h : 0 ≤ l) : 0 ≤ ng l := by unfold ng; omega
theorem ng_hi {l n : Int} (h : l < 2 * n) : ng l < 2 * n := by unfold ng; omega
theorem ng_inj {a b : Int} (h : ng a = ng b) : a = b := by rw [← ng_ng a, h, ng_ng]
theorem lit_two {a l : Int} (h : a / 2 = l / 2) : a = l ∨ a = ng l := by unfold ng; omega
theorem sgn_ng (l : Int) : sgn (ng l) = - sgn l := by unfold sgn ng; split <;> split <;> omega
theorem vOf_ng (val : Int → Int) (l : Int) : vOf val (ng l) = - vOf val l := by
  unfold vOf; rw [ng_div]
  have : ng l % 2 = 1 - l % 2 := by unfold ng; omega
  split <;> split <;> omega
theorem vOf_sgn (val : Int → Int) (l : Int) : vOf val l = sgn l * val (l / 2) := by
  unfold vOf sgn; split <;> simp
theorem vOf_self {val : Int → Int} {l : Int} (h : val (l / 2) = sgn l) : vOf val l = 1 := by
  unfold vOf; unfold sgn at h; split <;> rename_i e <;> simp [e] at h <;> omega
theorem vOf_0 {val : Int → Int} {l : Int} : vOf val l = 0 ↔ val (l / 2) = 0 := by
  unfold vOf; split <;> omega
/-- at most as many as there are places -/
theorem pig : ∀ (n m : Nat) (f : Int → Int), (∀ i, 0 ≤ i → i < (m : Int) → 0 ≤ f i ∧ f i < (n : Int)) → (∀ i j, 0 ≤ i → i < j → j < (m : Int) → f i ≠ f j) → m ≤ n
  | 0, m, f, h1, _ => by
    rcases Nat.eq_zero_or_pos m with h | h
    · omega
    · have := h1 0 (by omega) (by omega); omega
  | n + 1, 0, f, _, _ => by omega
  | n + 1, m + 1, f, h1, h2 => by
    have := pig n m (fun i => if f i = n then f m else f i) (fun i hi hm => by
      have a := h1 i hi (by omega)
      have b := h1 m (by omega) (by omega)
      have c := h2 i m hi (by omega) (by omega)
      show 0 ≤ (if f i = n then f m else f i) ∧ (if f i = n then f m else f i) < (n : Int)
      split <;> omega) (fun i j hi hij hj => by
      have a := h2 i j hi hij (by omega)
      have b := h2 i m hi (by omega) (by omega)
      have c := h2 j m (by omega) (by omega) (by omega)
      show (if f i = n then f m else f i) ≠ (if f j = n then f m else f j)
      split <;> split <;> omega)
    omega
theorem pigZ {n m : Int} {f : Int → Int} (hn : 0 ≤ n) (h1 : ∀ i, 0 ≤ i → i < m → 0 ≤ f i ∧ f i < n) (h2 : ∀ i j, 0 ≤ i → i < j → j < m → f i ≠ f j) : m ≤ n := by
  rcases Int.lt_or_le m 0 with h | h
  · omega
  · have := pig n.toNat m.toNat f (fun i a b => by have := h1 i a (by omega); omega) (fun i j a b c => h2 i j a b (by omega))
    omega
/-- how many -/
def cnt (f : Int → Int) : Nat → Int
  | 0 => 0
  | k + 1 => cnt f k + f k
theorem cnt_le (f : Int → Int) (h : ∀ i, 0 ≤ i → f i ≤ 1) : ∀ k : Nat, cnt f k ≤ k
  | 0 => by simp [cnt]
  | k + 1 => by have := cnt_le f h k; have := h k (by omega); simp only [cnt]; omega
theorem cnt_nn (f : Int → Int) : ∀ k : Nat, (∀ i, 0 ≤ i → i < (k : Int) → 0 ≤ f i) → 0 ≤ cnt f k
  | 0, _ => by simp [cnt]
  | k + 1, h => by have := cnt_nn f k (fun i a b => h i a (by omega)); have := h k (by omega) (by omega); simp only [cnt]; omega
theorem cnt_congr (f g : Int → Int) : ∀ k : Nat, (∀ i, 0 ≤ i → i < (k : Int) → f i = g i) → cnt f k = cnt g k
  | 0, _ => rfl
  | k + 1, h => by simp only [cnt]; rw [cnt_congr f g k (fun i a b => h i a (by omega)), h k (by omega) (by omega)]
theorem cnt_pos (f : Int → Int) : ∀ k : Nat, (∀ i, 0 ≤ i → i < (k : Int) → 0 ≤ f i) → ∀ i, 0 ≤ i → i < (k : Int) → f i ≤ cnt f k
  | 0, _, i, _, _ => by omega
  | k + 1, h, i, a, b => by
    have h1 := cnt_nn f k (fun i a b => h i a (by omega))
    have h2 := h k (by omega) (by omega)
    simp only [cnt]
    by_cases e : i = k
    · subst e; omega
    · have := cnt_pos f k (fun i a b => h i a (by omega)) i a (by omega); omega
theorem cnt_ex (f : Int → Int) : ∀ k : Nat, 0 < cnt f k → ∃ i, 0 ≤ i ∧ i < (k : Int) ∧ 0 < f i
  | 0, h => by simp [cnt] at h
  | k + 1, h => by
    simp only [cnt] at h
    by_cases e : 0 < f k
    · exact ⟨k, by omega, by omega, e⟩
    · obtain ⟨i, a, b, c⟩ := cnt_ex f k (by omega)
      exact ⟨i, a, by omega, c⟩
theorem cnt_up (f : Int → Int) (i v : Int) (hi : 0 ≤ i) : ∀ k : Nat, cnt (up f i v) k = cnt f k + (if i < (k : Int) then v - f i else 0)
  | 0 => by simp only [cnt]; rw [if_neg (by omega)]; omega
  | k + 1 => by
    have ih := cnt_up f i v hi k
    simp only [cnt]
    rw [ih]
    by_cases e : i = (k : Int)
    · subst e; rw [up_s, if_neg (by omega), if_pos (by omega)]; omega
    · rw [up_n f v (fun q => e q.symm)]
      by_cases h : i < (k : Int)
      · rw [if_pos h, if_pos (by omega)]; omega
      · rw [if_neg h, if_neg (by omega)]; omega
/-- those that each name another witness are at most as many as the witnesses -/
theorem cnt_wit : ∀ (m : Nat) (k : Nat) (f g : Int → Int), (∀ i, 0 ≤ i → i < (k : Int) → f i = 0 ∨ f i = 1) → (∀ i, 0 ≤ i → i < (k : Int) → f i = 1 → ∃ j, 0 ≤ j ∧ j < (m : Int) ∧ g j = i) → cnt f k ≤ m
  | 0, k, f, g, h1, h2 => by
    rcases Int.lt_or_le 0 (cnt f k) with h | h
    · obtain ⟨i, a, b, c⟩ := cnt_ex f k h
      obtain ⟨j, p, q, -⟩ := h2 i a b (by have := h1 i a b; omega)
      omega
    · omega
  | m + 1, k, f, g, h1, h2 => by
    by_cases hg : 0 ≤ g m ∧ g m < (k : Int)
    · have ih := cnt_wit m k (up f (g m) 0) g (fun i a b => by
        by_cases e : i = g m
        · rw [e, up_s]; exact Or.inl rfl
        · rw [up_n _ _ e]; exact h1 i a b) (fun i a b c => by
        by_cases e : i = g m
        · rw [e, up_s] at c; omega
        · rw [up_n _ _ e] at c
          obtain ⟨j, p, q, r⟩ := h2 i a b c
          refine ⟨j, p, ?_, r⟩
          rcases Int.lt_or_le j m with z | z
          · exact z
          · have : j = m := by omega
            subst this; exact absurd r.symm e)
      rw [cnt_up f (g m) 0 hg.1, if_pos hg.2] at ih
      have := h1 (g m) hg.1 hg.2
      omega
    · have ih := cnt_wit m k f g h1 (fun i a b c => by
        obtain ⟨j, p, q, r⟩ := h2 i a b c
        refine ⟨j, p, ?_, r⟩
        rcases Int.lt_or_le j m with z | z
        · exact z
        · have : j = m := by omega
          subst this; omega)
      omega
/-! clauses: literals in rows -/
def Inc (lit start : Int → Int) (c l : Int) : Prop := ∃ p, start c ≤ p ∧ p < start (c + 1) ∧ lit p = l
def wl (lit start : Int → Int) (w : Int) : Int := lit (start (w / 2) + w % 2)
def Cl (n : Int) (lit start : Int → Int) (NC NL : Int) : Prop :=
  (0 ≤ NC ∧ start 0 = 0 ∧ start NC = NL) ∧ (∀ c, 0 ≤ c → c < NC → start c + 2 ≤ start (c + 1) ∧ start (c + 1) ≤ start c + 16) ∧
  (∀ p, 0 ≤ p → p < NL → 0 ≤ lit p ∧ lit p < 2 * n) ∧ ∀ c, 0 ≤ c → c < NC → ∀ p q, start c ≤ p → p < q → q < start (c + 1) → lit p / 2 ≠ lit q / 2
theorem Cl.mono {n NC NL : Int} {lit start : Int → Int} (h : Cl n lit start NC NL) : ∀ (k : Nat) (c : Int), 0 ≤ c → c + k ≤ NC → start c + 2 * k ≤ start (c + k) ∧ start (c + k) ≤ start c + 16 * k
  | 0, c, _, _ => by simp
  | k + 1, c, h1, h2 => by
    have a := h.mono k c h1 (by omega)
    have b := h.2.1 (c + k) (by omega) (by omega)
    rw [show c + (k + 1 : Nat) = c + k + 1 by omega]
    omega
theorem Cl.le {n NC NL : Int} {lit start : Int → Int} (h : Cl n lit start NC NL) {c d : Int} (h1 : 0 ≤ c) (h2 : c ≤ d) (h3 : d ≤ NC) : start c + 2 * (d - c) ≤ start d ∧ start d ≤ start c + 16 * (d - c) := by
  have := h.mono (d - c).toNat c h1 (by omega)
  rw [show c + ((d - c).toNat : Int) = d by omega] at this
  omega
theorem Cl.lo {n NC NL : Int} {lit start : Int → Int} (h : Cl n lit start NC NL) {c : Int} (h1 : 0 ≤ c) (h2 : c ≤ NC) : 2 * c ≤ start c ∧ start c ≤ 16 * c ∧ start c ≤ NL := by
  have a := h.le (c := 0) (d := c) (by omega) h1 h2
  have b := h.le h1 h2 (Int.le_refl NC)
  have := h.1.2
  omega
/-- what the places of one clause give -/
theorem Cl.at {n NC NL : Int} {lit start : Int → Int} (h : Cl n lit start NC NL) {c : Int} (h1 : 0 ≤ c) (h2 : c < NC) : 0 ≤ start c ∧ start c + 2 ≤ start (c + 1) ∧ start (c + 1) ≤ start c + 16 ∧ start (c + 1) ≤ NL ∧ start (c + 1) ≤ 16 * (c + 1) ∧ NL ≤ 16 * NC := by
  have a := h.lo h1 (by omega)
  have b := h.lo (c := c + 1) (by omega) (by omega)
  have d := h.2.1 c h1 h2
  have e := h.lo (c := NC) (by omega) (by omega)
  have f := h.1
  omega
theorem Cl.lit {n NC NL : Int} {lit start : Int → Int} (h : Cl n lit start NC NL) {c p : Int} (h1 : 0 ≤ c) (h2 : c < NC) (h3 : start c ≤ p) (h4 : p < start (c + 1)) : 0 ≤ lit p ∧ lit p < 2 * n := by
  have a := h.at h1 h2
  exact h.2.2.1 p (by omega) (by omega)
theorem Cl.wl {n NC NL : Int} {lit start : Int → Int} (h : Cl n lit start NC NL) {w : Int} (h1 : 0 ≤ w) (h2 : w < 2 * NC) : 0 ≤ wl lit start w ∧ wl lit start w < 2 * n := by
  have a := h.at (c := w / 2) (by omega) (by omega)
  exact h.lit (c := w / 2) (by omega) (by omega) (by omega) (by omega)
/-- places of different clauses are apart -/
theorem Cl.apart {n NC NL : Int} {lit start : Int → Int} (h : Cl n lit start NC NL) {c d p : Int} (h1 : 0 ≤ c) (h2 : c < NC) (h3 : 0 ≤ d) (h4 : d < NC) (h5 : start c ≤ p) (h6 : p < start (c + 1)) (h7 : start d ≤ p) (h8 : p < start (d + 1)) : c = d := by
  rcases Int.lt_trichotomy c d with e | e | e
  · have := h.le (c := c + 1) (d := d) (by omega) (by omega) (by omega); omega
  · exact e
  · have := h.le (c := d + 1) (d := c) (by omega) (by omega) (by omega); omega
/-- two places of a clause change their literals -/
def swp (f : Int → Int) (a b : Int) : Int → Int := up (up f a (f b)) b (f a)
theorem swp_a (f : Int → Int) (a b : Int) : swp f a b a = f b := by
  unfold swp
  by_cases e : a = b
  · subst e; rw [up_s]
  · rw [up_n _ _ e, up_s]
theorem swp_b (f : Int → Int) (a b : Int) : swp f a b b = f a := up_s _ _ _
theorem swp_o (f : Int → Int) {a b j : Int} (h1 : j ≠ a) (h2 : j ≠ b) : swp f a b j = f j := by unfold swp; rw [up_n _ _ h2, up_n _ _ h1]
/-- where a place's literal came from -/
def swi (a b j : Int) : Int := if j = a then b else if j = b then a else j
theorem swp_i (f : Int → Int) (a b j : Int) : swp f a b j = f (swi a b j) := by
  unfold swi
  by_cases e : j = a
  · rw [if_pos e, e, swp_a]
  · rw [if_neg e]
    by_cases e2 : j = b
    · rw [if_pos e2, e2, swp_b]
    · rw [if_neg e2, swp_o f e e2]
theorem swi_swi (a b j : Int) : swi a b (swi a b j) = j := by unfold swi; split <;> split <;> (try split) <;> omega
theorem swi_in {a b j lo hi : Int} (ha : lo ≤ a ∧ a < hi) (hb : lo ≤ b ∧ b < hi) (hj : lo ≤ j ∧ j < hi) : lo ≤ swi a b j ∧ swi a b j < hi := by unfold swi; split <;> (try split) <;> omega
theorem Inc_swp {n NC NL : Int} {lit start : Int → Int} (h : Cl n lit start NC NL) {c a b : Int} (hc : 0 ≤ c) (hc2 : c < NC) (ha : start c ≤ a ∧ a < start (c + 1)) (hb : start c ≤ b ∧ b < start (c + 1)) {d l : Int} (h1 : 0 ≤ d) (h2 : d < NC) : Inc (swp lit a b) start d l ↔ Inc lit start d l := by
  have key : ∀ p, start d ≤ p → p < start (d + 1) → start d ≤ swi a b p ∧ swi a b p < start (d + 1) := by
    intro p hp hp2
    by_cases e : d = c
    · subst e; exact swi_in ha hb ⟨hp, hp2⟩
    · have n1 : p ≠ a := fun q => e (h.apart h1 h2 hc hc2 hp hp2 (q ▸ ha.1) (q ▸ ha.2))
      have n2 : p ≠ b := fun q => e (h.apart h1 h2 hc hc2 hp hp2 (q ▸ hb.1) (q ▸ hb.2))
      have : swi a b p = p := by unfold swi; rw [if_neg n1, if_neg n2]
      rw [this]; exact ⟨hp, hp2⟩
  constructor
  · rintro ⟨p, hp, hp2, e⟩
    obtain ⟨k1, k2⟩ := key p hp hp2
    exact ⟨swi a b p, k1, k2, by rw [← e, swp_i]⟩
  · rintro ⟨p, hp, hp2, e⟩
    obtain ⟨k1, k2⟩ := key p hp hp2
    exact ⟨swi a b p, k1, k2, by rw [swp_i, swi_swi, e]⟩
theorem Cl_swp {n NC NL : Int} {lit start : Int → Int} (h : Cl n lit start NC NL) {c a b : Int} (hc : 0 ≤ c) (hc2 : c < NC) (ha : start c ≤ a ∧ a < start (c + 1)) (hb : start c ≤ b ∧ b < start (c + 1)) : Cl n (swp lit a b) start NC NL := by
  have hz := h.at hc hc2
  refine ⟨h.1, h.2.1, fun p h1 h2 => ?_, fun d h1 h2 p q h3 h4 h5 => ?_⟩
  · rw [swp_i]
    have := swi_in (a := a) (b := b) (j := p) (lo := 0) (hi := NL) (by omega) (by omega) (by omega)
    exact h.2.2.1 _ this.1 this.2
  · rw [swp_i, swp_i]
    have ne : swi a b p ≠ swi a b q := fun e => by have := congrArg (swi a b) e; rw [swi_swi, swi_swi] at this; omega
    have key : ∀ p, start d ≤ p → p < start (d + 1) → start d ≤ swi a b p ∧ swi a b p < start (d + 1) := by
      intro p hp hp2
      by_cases e : d = c
      · subst e; exact swi_in ha hb ⟨hp, hp2⟩
      · have n1 : p ≠ a := fun q => e (h.apart h1 h2 hc hc2 hp hp2 (q ▸ ha.1) (q ▸ ha.2))
        have n2 : p ≠ b := fun q => e (h.apart h1 h2 hc hc2 hp hp2 (q ▸ hb.1) (q ▸ hb.2))
        have : swi a b p = p := by unfold swi; rw [if_neg n1, if_neg n2]
        rw [this]; exact ⟨hp, hp2⟩
    have k1 := key p h3 (by omega)
    have k2 := key q (by omega) h5
    rcases Int.lt_or_lt_of_ne ne with z | z
    · exact h.2.2.2 d h1 h2 _ _ k1.1 z k2.2
    · exact fun e => h.2.2.2 d h1 h2 _ _ k2.1 z k1.2 e.symm
end
section
/-! pure: the trail, its levels, reasons, decisions; what follows from the formula -/
def TrA (n : Int) (val tr : Int → Int) (many : Int) : Prop :=
  0 ≤ many ∧ (∀ i, 0 ≤ i → i < many → 0 ≤ tr i ∧ tr i < 2 * n ∧ val (tr i / 2) = sgn (tr i)) ∧ (∀ i j, 0 ≤ i → i < j → j < many → tr i / 2 ≠ tr j / 2) ∧ ∀ v, 0 ≤ v → v < n → val v = 0 ∨ ∃ i, 0 ≤ i ∧ i < many ∧ tr i / 2 = v
theorem TrA.inj {n many : Int} {val tr : Int → Int} (h : TrA n val tr many) {i j : Int} (h1 : 0 ≤ i) (h2 : i < many) (h3 : 0 ≤ j) (h4 : j < many) (e : tr i / 2 = tr j / 2) : i = j := by
  rcases Int.lt_trichotomy i j with z | z | z
  · exact absurd e (h.2.2.1 i j h1 z h4)
  · exact z
  · exact absurd e.symm (h.2.2.1 j i h3 z h2)
theorem TrA.true_of {n many : Int} {val tr : Int → Int} (h : TrA n val tr many) {i : Int} (h1 : 0 ≤ i) (h2 : i < many) : vOf val (tr i) = 1 := vOf_self (h.2.1 i h1 h2).2.2
theorem TrA.cases {n many : Int} {val tr : Int → Int} (h : TrA n val tr many) {l : Int} (h1 : 0 ≤ l) (h2 : l < 2 * n) : (vOf val l = 0 ∧ ∀ i, 0 ≤ i → i < many → tr i / 2 ≠ l / 2) ∨ (∃ i, 0 ≤ i ∧ i < many ∧ tr i = l ∧ vOf val l = 1) ∨ ∃ i, 0 ≤ i ∧ i < many ∧ tr i = ng l ∧ vOf val l = -1 := by
  by_cases hv : ∃ i, 0 ≤ i ∧ i < many ∧ tr i / 2 = l / 2
  · obtain ⟨i, a, b, c⟩ := hv
    have t := h.true_of a b
    rcases lit_two c with e | e
    · exact Or.inr (Or.inl ⟨i, a, b, e, e ▸ t⟩)
    · exact Or.inr (Or.inr ⟨i, a, b, e, by rw [e, vOf_ng] at t; omega⟩)
  · refine Or.inl ⟨?_, fun i a b c => hv ⟨i, a, b, c⟩⟩
    rcases h.2.2.2 (l / 2) (by omega) (by omega) with e | e
    · exact vOf_0.mpr e
    · exact absurd e hv
theorem TrA.t {n many : Int} {val tr : Int → Int} (h : TrA n val tr many) {l : Int} (h1 : 0 ≤ l) (h2 : l < 2 * n) : 0 < vOf val l ↔ ∃ i, 0 ≤ i ∧ i < many ∧ tr i = l := by
  constructor
  · intro q
    rcases h.cases h1 h2 with e | ⟨i, a, b, c, d⟩ | ⟨i, a, b, c, d⟩
    · omega
    · exact ⟨i, a, b, c⟩
    · omega
  · rintro ⟨i, a, b, c⟩
    have := h.true_of a b
    rw [c] at this; omega
theorem TrA.f {n many : Int} {val tr : Int → Int} (h : TrA n val tr many) {l : Int} (h1 : 0 ≤ l) (h2 : l < 2 * n) : vOf val l < 0 ↔ ∃ i, 0 ≤ i ∧ i < many ∧ tr i = ng l := by
  have := h.t (ng_lo h1) (ng_hi h2)
  rw [vOf_ng] at this
  rw [← this]; omega
theorem TrA.rng {n many : Int} {val tr : Int → Int} (h : TrA n val tr many) {l : Int} (h1 : 0 ≤ l) (h2 : l < 2 * n) : vOf val l = 0 ∨ vOf val l = 1 ∨ vOf val l = -1 := by
  rcases h.cases h1 h2 with e | ⟨i, a, b, c, d⟩ | ⟨i, a, b, c, d⟩
  · exact Or.inl e.1
  · exact Or.inr (Or.inl d)
  · exact Or.inr (Or.inr d)
theorem TrA.many {n many : Int} {val tr : Int → Int} (h : TrA n val tr many) (hn : 0 ≤ n) : many ≤ n := pigZ (f := fun i => tr i / 2) hn (fun i a b => by have := h.2.1 i a b; show 0 ≤ tr i / 2 ∧ tr i / 2 < n; omega) h.2.2.1
/-- one more fits while a variable isn't decided -/
theorem TrA.room {n many : Int} {val tr : Int → Int} (h : TrA n val tr many) (hn : 0 ≤ n) {v : Int} (h1 : 0 ≤ v) (h2 : v < n) (hv : val v = 0) : many < n := by
  have := pigZ (n := n) (m := many + 1) (f := up (fun i => tr i / 2) many v) hn (fun i a b => by
    by_cases e : i = many
    · rw [e, up_s]; omega
    · rw [up_n _ _ e]; have := h.2.1 i a (by omega); show 0 ≤ tr i / 2 ∧ tr i / 2 < n; omega) (fun i j a b c => by
    by_cases e : j = many
    · rw [e, up_s, up_n _ _ (by omega)]
      intro q
      have := (h.2.1 i a (by omega)).2.2
      have q : tr i / 2 = v := q
      rw [q, hv] at this
      have := sgn_or (tr i); omega
    · rw [up_n _ _ e, up_n _ _ (by omega)]
      exact h.2.2.1 i j a b (by omega))
  omega
theorem TrA.set {n many : Int} {val tr : Int → Int} (h : TrA n val tr many) {l : Int} (h1 : 0 ≤ l) (h2 : l < 2 * n) (hv : val (l / 2) = 0) : TrA n (up val (l / 2) (sgn l)) (up tr many l) (many + 1) := by
  have ne : ∀ i, 0 ≤ i → i < many → tr i / 2 ≠ l / 2 := fun i a b e => by
    have := (h.2.1 i a b).2.2
    rw [e, hv] at this
    have := sgn_or (tr i); omega
  refine ⟨by have := h.1; omega, fun i a b => ?_, fun i j a b c => ?_, fun v a b => ?_⟩
  · by_cases e : i = many
    · rw [e, up_s, up_s]; exact ⟨h1, h2, rfl⟩
    · rw [up_n _ _ e, up_n _ _ (ne i a (by omega))]; exact h.2.1 i a (by omega)
  · by_cases e : j = many
    · rw [e, up_s, up_n _ _ (by omega)]; exact ne i a (by omega)
    · rw [up_n _ _ e, up_n _ _ (by omega)]; exact h.2.2.1 i j a b (by omega)
  · by_cases e : v = l / 2
    · exact Or.inr ⟨many, h.1, by omega, by rw [up_s]; exact e.symm⟩
    · rw [up_n _ _ e]
      rcases h.2.2.2 v a b with z | ⟨i, p, q, r⟩
      · exact Or.inl z
      · exact Or.inr ⟨i, p, by omega, by rw [up_n _ _ (by omega)]; exact r⟩
/-- values behind a way back to the first m of the trail -/
def Undo (val val' tr : Int → Int) (m many : Int) : Prop := (∀ v, (∀ i, m ≤ i → i < many → tr i / 2 ≠ v) → val' v = val v) ∧ ∀ i, m ≤ i → i < many → val' (tr i / 2) = 0
theorem TrA.undo {n many m : Int} {val val' tr : Int → Int} (h : TrA n val tr many) (h0 : 0 ≤ m) (hm : m ≤ many) (hu : Undo val val' tr m many) : TrA n val' tr m := by
  refine ⟨h0, fun i a b => ?_, fun i j a b c => h.2.2.1 i j a b (by omega), fun v a b => ?_⟩
  · rw [hu.1 _ (fun j p q e => by have := h.inj (i := j) (j := i) (by omega) q a (by omega) e; omega)]
    exact h.2.1 i a (by omega)
  · by_cases hv : ∃ i, m ≤ i ∧ i < many ∧ tr i / 2 = v
    · obtain ⟨i, p, q, r⟩ := hv
      exact Or.inl (r ▸ hu.2 i p q)
    · rw [hu.1 v (fun i p q r => hv ⟨i, p, q, r⟩)]
      rcases h.2.2.2 v a b with z | ⟨i, p, q, r⟩
      · exact Or.inl z
      · refine Or.inr ⟨i, p, ?_, r⟩
        rcases Int.lt_or_le i m with z | z
        · exact z
        · exact absurd ⟨i, z, q, r⟩ hv
def TrL (lev tr beg : Int → Int) (many lvs : Int) : Prop :=
  0 ≤ lvs ∧ (∀ j, 0 ≤ j → j < lvs → 0 ≤ beg j ∧ beg j < many) ∧ (∀ j k, 0 ≤ j → j < k → k < lvs → beg j < beg k) ∧
  ∀ i, 0 ≤ i → i < many → 0 ≤ lev (tr i / 2) ∧ lev (tr i / 2) ≤ lvs ∧ (0 < lev (tr i / 2) → beg (lev (tr i / 2) - 1) ≤ i) ∧ (lev (tr i / 2) < lvs → i < beg (lev (tr i / 2)))
theorem TrL.beg_le {lev tr beg : Int → Int} {many lvs : Int} (h : TrL lev tr beg many lvs) {j k : Int} (h1 : 0 ≤ j) (h2 : j ≤ k) (h3 : k < lvs) : beg j ≤ beg k := by
  by_cases e : j = k
  · rw [e]; exact Int.le_refl _
  · have := h.2.2.1 j k h1 (by omega) h3; omega
theorem TrL.ge {lev tr beg : Int → Int} {many lvs : Int} (h : TrL lev tr beg many lvs) : ∀ k : Nat, (k : Int) < lvs → (k : Int) ≤ beg k
  | 0, hk => (h.2.1 0 (by omega) (by omega)).1
  | k + 1, hk => by
    have a := h.ge k (by omega)
    have b := h.2.2.1 k (k + 1 : Nat) (by omega) (by omega) hk
    omega
theorem TrL.lvs {lev tr beg : Int → Int} {many lvs : Int} (h : TrL lev tr beg many lvs) (hm : 0 ≤ many) : lvs ≤ many := by
  rcases Int.lt_or_le 0 lvs with z | z
  · have a := h.ge (lvs - 1).toNat (by omega)
    rw [show ((lvs - 1).toNat : Int) = lvs - 1 by omega] at a
    have b := h.2.1 (lvs - 1) (by omega) (by omega)
    omega
  · omega
/-- the level of a place of the trail, by its bounds -/
theorem TrL.lev_of {lev tr beg : Int → Int} {many lvs : Int} (h : TrL lev tr beg many lvs) {i k : Int} (h1 : 0 ≤ i) (h2 : i < many) (hk : 0 ≤ k) (hk2 : k < lvs) : lev (tr i / 2) ≤ k ↔ i < beg k := by
  have a := h.2.2.2 i h1 h2
  constructor
  · intro q
    have b := a.2.2.2 (by omega)
    have c := h.beg_le (j := lev (tr i / 2)) (k := k) a.1 q hk2
    omega
  · intro q
    rcases Int.lt_or_le k (lev (tr i / 2)) with z | z
    · have b := a.2.2.1 (by omega)
      have c := h.beg_le (j := k) (k := lev (tr i / 2) - 1) hk (by omega) (by omega)
      omega
    · exact z
theorem TrL.set {n : Int} {val lev tr beg : Int → Int} {many lvs : Int} (hA : TrA n val tr many) (h : TrL lev tr beg many lvs) {l : Int} (hv : val (l / 2) = 0) : TrL (up lev (l / 2) lvs) (up tr many l) beg (many + 1) lvs := by
  have ne : ∀ i, 0 ≤ i → i < many → tr i / 2 ≠ l / 2 := fun i a b e => by
    have := (hA.2.1 i a b).2.2
    rw [e, hv] at this
    have := sgn_or (tr i); omega
  refine ⟨h.1, fun j a b => by have := h.2.1 j a b; omega, h.2.2.1, fun i a b => ?_⟩
  by_cases e : i = many
  · rw [e, up_s, up_s]
    refine ⟨h.1, Int.le_refl _, fun q => ?_, fun q => absurd q (by omega)⟩
    have := h.2.1 (lvs - 1) (by omega) (by omega); omega
  · rw [up_n _ _ e, up_n _ _ (ne i a (by omega))]; exact h.2.2.2 i a (by omega)
/-- a decision: a new level begins -/
theorem TrL.dec {n : Int} {val lev tr beg : Int → Int} {many lvs : Int} (hA : TrA n val tr many) (h : TrL lev tr beg many lvs) {l : Int} (hv : val (l / 2) = 0) : TrL (up lev (l / 2) (lvs + 1)) (up tr many l) (up beg lvs many) (many + 1) (lvs + 1) := by
  have h0 := hA.1
  have ne : ∀ i, 0 ≤ i → i < many → tr i / 2 ≠ l / 2 := fun i a b e => by
    have := (hA.2.1 i a b).2.2
    rw [e, hv] at this
    have := sgn_or (tr i); omega
  refine ⟨by have := h.1; omega, fun j a b => ?_, fun j k a b c => ?_, fun i a b => ?_⟩
  · by_cases e : j = lvs
    · rw [e, up_s]; omega
    · rw [up_n _ _ e]; have := h.2.1 j a (by omega); omega
  · by_cases e : k = lvs
    · rw [e, up_s, up_n _ _ (by omega)]; exact (h.2.1 j a (by omega)).2
    · rw [up_n _ _ e, up_n _ _ (by omega)]; exact h.2.2.1 j k a b (by omega)
  · by_cases e : i = many
    · rw [e, up_s, up_s]
      refine ⟨by have := h.1; omega, Int.le_refl _, fun q => ?_, fun q => absurd q (by omega)⟩
      rw [show lvs + 1 - 1 = lvs by omega, up_s]; exact Int.le_refl _
    · rw [up_n _ _ e, up_n _ _ (ne i a (by omega))]
      have d := h.2.2.2 i a (by omega)
      refine ⟨d.1, by omega, fun q => ?_, fun q => ?_⟩
      · rw [up_n _ _ (by omega)]; exact d.2.2.1 q
      · by_cases z : lev (tr i / 2) = lvs
        · rw [z, up_s]; omega
        · rw [up_n _ _ z]; exact d.2.2.2 (by omega)
theorem TrL.back {lev tr beg : Int → Int} {many lvs to : Int} (h : TrL lev tr beg many lvs) (h0 : 0 ≤ to) (h1 : to < lvs) : TrL lev tr beg (beg to) to := by
  refine ⟨h0, fun j a b => ⟨(h.2.1 j a (by omega)).1, h.2.2.1 j to a b h1⟩, fun j k a b c => h.2.2.1 j k a b (by omega), fun i a b => ?_⟩
  have hb := h.2.1 to h0 h1
  have d := h.2.2.2 i a (by omega)
  have e := (h.lev_of a (by omega) h0 h1).mpr b
  exact ⟨d.1, e, d.2.2.1, fun q => d.2.2.2 (by omega)⟩
/-! reasons, decisions -/
def Rs (I : Int → Int → Prop) (NC : Int) (tr rea lev beg : Int → Int) (many : Int) : Prop :=
  ∀ i, 0 ≤ i → i < many → (rea (tr i / 2) = -1 ∧ (lev (tr i / 2) = 0 ∨ i = beg (lev (tr i / 2) - 1))) ∨ (0 ≤ rea (tr i / 2) ∧ rea (tr i / 2) < NC ∧ I (rea (tr i / 2)) (tr i) ∧ ∀ q, I (rea (tr i / 2)) q → q ≠ tr i → ∃ j, 0 ≤ j ∧ j < i ∧ tr j = ng q)
theorem Rs.congr {I I' : Int → Int → Prop} {NC : Int} {tr rea lev beg : Int → Int} {many : Int} (h : Rs I NC tr rea lev beg many) (hI : ∀ c l, 0 ≤ c → c < NC → (I' c l ↔ I c l)) : Rs I' NC tr rea lev beg many := by
  intro i a b
  rcases h i a b with q | ⟨q1, q2, q3, q4⟩
  · exact Or.inl q
  · exact Or.inr ⟨q1, q2, (hI _ _ q1 q2).mpr q3, fun l hl => q4 l ((hI _ _ q1 q2).mp hl)⟩
theorem Rs.more {I I' : Int → Int → Prop} {NC NC' : Int} {tr rea lev beg : Int → Int} {many : Int} (h : Rs I NC tr rea lev beg many) (hN : NC ≤ NC') (hI : ∀ c l, 0 ≤ c → c < NC → (I' c l ↔ I c l)) : Rs I' NC' tr rea lev beg many := by
  intro i a b
  rcases h i a b with q | ⟨q1, q2, q3, q4⟩
  · exact Or.inl q
  · exact Or.inr ⟨q1, by omega, (hI _ _ q1 q2).mpr q3, fun l hl => q4 l ((hI _ _ q1 q2).mp hl)⟩
theorem Rs.less {I : Int → Int → Prop} {NC : Int} {tr rea lev beg : Int → Int} {many m : Int} (h : Rs I NC tr rea lev beg many) (hm : m ≤ many) : Rs I NC tr rea lev beg m := fun i a b => h i a (by omega)
/-- one more on the trail, at the level lv (the last, or a new one that begins here) -/
theorem Rs.set {I : Int → Int → Prop} {n NC : Int} {val tr rea lev beg beg' : Int → Int} {many lv why l : Int} (h : Rs I NC tr rea lev beg many) (hA : TrA n val tr many) (hv : val (l / 2) = 0) (hb : ∀ i, 0 ≤ i → i < many → 0 < lev (tr i / 2) → beg' (lev (tr i / 2) - 1) = beg (lev (tr i / 2) - 1)) (hl0 : ∀ i, 0 ≤ i → i < many → 0 ≤ lev (tr i / 2))
    (hw : (why = -1 ∧ (lv = 0 ∨ many = beg' (lv - 1))) ∨ (0 ≤ why ∧ why < NC ∧ I why l ∧ ∀ q, I why q → q ≠ l → ∃ j, 0 ≤ j ∧ j < many ∧ tr j = ng q)) : Rs I NC (up tr many l) (up rea (l / 2) why) (up lev (l / 2) lv) beg' (many + 1) := by
  have ne : ∀ i, 0 ≤ i → i < many → tr i / 2 ≠ l / 2 := fun i a b e => by
    have := (hA.2.1 i a b).2.2
    rw [e, hv] at this
    have := sgn_or (tr i); omega
  intro i a b
  by_cases e : i = many
  · rw [e, up_s, up_s, up_s]
    rcases hw with q | ⟨q1, q2, q3, q4⟩
    · exact Or.inl q
    · refine Or.inr ⟨q1, q2, q3, fun q hq hne => ?_⟩
      obtain ⟨j, p1, p2, p3⟩ := q4 q hq hne
      exact ⟨j, p1, p2, by rw [up_n _ _ (by omega)]; exact p3⟩
  · rw [up_n _ _ e, up_n _ _ (ne i a (by omega)), up_n _ _ (ne i a (by omega))]
    rcases h i a (by omega) with ⟨q1, q2⟩ | ⟨q1, q2, q3, q4⟩
    · refine Or.inl ⟨q1, ?_⟩
      rcases q2 with q2 | q2
      · exact Or.inl q2
      · by_cases z : lev (tr i / 2) = 0
        · exact Or.inl z
        · exact Or.inr (by rw [hb i a (by omega) (by have := hl0 i a (by omega); omega)]; exact q2)
    · refine Or.inr ⟨q1, q2, q3, fun q hq hne => ?_⟩
      obtain ⟨j, p1, p2, p3⟩ := q4 q hq hne
      exact ⟨j, p1, p2, by rw [up_n _ _ (by omega)]; exact p3⟩
/-- each level begins with the first variable that isn't decided, as it is wished -/
def De (wish tr beg : Int → Int) (lvs : Int) : Prop := ∀ j, 0 ≤ j → j < lvs → tr (beg j) = 2 * (tr (beg j) / 2) + (if wish (tr (beg j) / 2) = 0 then 1 else 0) ∧ ∀ u, 0 ≤ u → u < tr (beg j) / 2 → ∃ i, 0 ≤ i ∧ i < beg j ∧ tr i / 2 = u
theorem De.set {wish lev tr beg : Int → Int} {many lvs l : Int} (h : De wish tr beg lvs) (hL : TrL lev tr beg many lvs) : De wish (up tr many l) beg lvs := by
  intro j a b
  have c := hL.2.1 j a b
  rw [up_n _ _ (by omega)]
  refine ⟨(h j a b).1, fun u p q => ?_⟩
  obtain ⟨i, r1, r2, r3⟩ := (h j a b).2 u p q
  exact ⟨i, r1, r2, by rw [up_n _ _ (by omega)]; exact r3⟩
theorem De.dec {wish lev tr beg : Int → Int} {many lvs l : Int} (h : De wish tr beg lvs) (hL : TrL lev tr beg many lvs) (hw : l = 2 * (l / 2) + (if wish (l / 2) = 0 then 1 else 0)) (hu : ∀ u, 0 ≤ u → u < l / 2 → ∃ i, 0 ≤ i ∧ i < many ∧ tr i / 2 = u) : De wish (up tr many l) (up beg lvs many) (lvs + 1) := by
  intro j a b
  by_cases e : j = lvs
  · rw [e, up_s, up_s]
    refine ⟨hw, fun u p q => ?_⟩
    obtain ⟨i, r1, r2, r3⟩ := hu u p q
    exact ⟨i, r1, r2, by rw [up_n _ _ (by omega)]; exact r3⟩
  · have c := hL.2.1 j a (by omega)
    rw [up_n _ _ e, up_n _ _ (by omega)]
    refine ⟨(h j a (by omega)).1, fun u p q => ?_⟩
    obtain ⟨i, r1, r2, r3⟩ := (h j a (by omega)).2 u p q
    exact ⟨i, r1, r2, by rw [up_n _ _ (by omega)]; exact r3⟩
theorem De.less {wish tr beg : Int → Int} {lvs k : Int} (h : De wish tr beg lvs) (hk : k ≤ lvs) : De wish tr beg k := fun j a b => h j a (by omega)
/-! what the formula says: Mod is the set of its models -/
def sat (μ : Int → Bool) (l : Int) : Prop := μ (l / 2) = decide (l % 2 = 0)
theorem sat_ng (μ : Int → Bool) (l : Int) : sat μ (ng l) ↔ ¬ sat μ l := by
  unfold sat
  rw [ng_div]
  have : ng l % 2 = 1 - l % 2 := by unfold ng; omega
  rcases Int.emod_two_eq l with e | e
  · rw [this, e]; cases μ (l / 2) <;> simp
  · rw [this, e]; cases μ (l / 2) <;> simp
def Se (Mod : (Int → Bool) → Prop) (I : Int → Int → Prop) (NC : Int) (taught tr lev : Int → Int) (many : Int) : Prop :=
  (∀ μ, Mod μ → ∀ c, 0 ≤ c → c < NC → ∃ l, I c l ∧ sat μ l) ∧ (∀ μ, Mod μ → ∀ i, 0 ≤ i → i < many → lev (tr i / 2) = 0 → sat μ (tr i)) ∧
  ∀ μ, (∀ c, 0 ≤ c → c < NC → taught c = 0 → ∃ l, I c l ∧ sat μ l) → (∀ i, 0 ≤ i → i < many → lev (tr i / 2) = 0 → sat μ (tr i)) → Mod μ
theorem Se.congr {Mod : (Int → Bool) → Prop} {I I' : Int → Int → Prop} {NC : Int} {taught tr lev : Int → Int} {many : Int} (h : Se Mod I NC taught tr lev many) (hI : ∀ c l, 0 ≤ c → c < NC → (I' c l ↔ I c l)) : Se Mod I' NC taught tr lev many := by
  refine ⟨fun μ hm c a b => ?_, h.2.1, fun μ h1 h2 => h.2.2 μ (fun c a b t => ?_) h2⟩
  · obtain ⟨l, p, q⟩ := h.1 μ hm c a b
    exact ⟨l, (hI c l a b).mpr p, q⟩
  · obtain ⟨l, p, q⟩ := h1 c a b t
    exact ⟨l, (hI c l a b).mp p, q⟩
theorem Se.set {Mod : (Int → Bool) → Prop} {I : Int → Int → Prop} {n NC : Int} {val taught tr lev : Int → Int} {many lv l : Int} (h : Se Mod I NC taught tr lev many) (hA : TrA n val tr many) (hv : val (l / 2) = 0) (hl : lv = 0 → ∀ μ, Mod μ → sat μ l) : Se Mod I NC taught (up tr many l) (up lev (l / 2) lv) (many + 1) := by
  have ne : ∀ i, 0 ≤ i → i < many → tr i / 2 ≠ l / 2 := fun i a b e => by
    have := (hA.2.1 i a b).2.2
    rw [e, hv] at this
    have := sgn_or (tr i); omega
  refine ⟨h.1, fun μ hm i a b c => ?_, fun μ h1 h2 => h.2.2 μ h1 (fun i a b c => ?_)⟩
  · by_cases e : i = many
    · rw [e, up_s] at c ⊢
      rw [up_s] at c
      exact hl c μ hm
    · rw [up_n _ _ e] at c ⊢
      rw [up_n _ _ (ne i a (by omega))] at c
      exact h.2.1 μ hm i a (by omega) c
  · have := h2 i a (by omega)
    have e1 : up tr many l i = tr i := up_n _ _ (by omega)
    rw [e1, up_n _ _ (ne i a b)] at this
    exact this c
theorem Se.back {Mod : (Int → Bool) → Prop} {I : Int → Int → Prop} {NC : Int} {taught tr lev beg : Int → Int} {many lvs to : Int} (h : Se Mod I NC taught tr lev many) (hL : TrL lev tr beg many lvs) (h0 : 0 ≤ to) (h1 : to < lvs) : Se Mod I NC taught tr lev (beg to) := by
  have hb := hL.2.1 to h0 h1
  refine ⟨h.1, fun μ hm i a b c => h.2.1 μ hm i a (by omega) c, fun μ q1 q2 => h.2.2 μ q1 (fun i a b c => q2 i a ?_ c)⟩
  exact (hL.lev_of a b h0 h1).mp (by omega)
end
section
/-! pure: lists of watches, the two watches of a clause -/
def chain (next : Int → Int) : Int → List Int → Prop
  | h, [] => h = -1
  | h, a :: r => h = a ∧ 0 ≤ a ∧ chain next (next a) r
theorem chain.neg {next : Int → Int} {h : Int} {L : List Int} (c : chain next h L) (hn : h < 0) : L = [] := by
  cases L with
  | nil => rfl
  | cons a r => have := c.1; have := c.2.1; omega
theorem chain.pos {next : Int → Int} {h : Int} {L : List Int} (c : chain next h L) (hn : ¬ h < 0) : ∃ r, L = h :: r ∧ chain next (next h) r := by
  cases L with
  | nil => have : h = -1 := c; omega
  | cons a r =>
    have e := c.1
    subst e
    exact ⟨r, rfl, c.2.2⟩
theorem chain.ge {next : Int → Int} {h : Int} {L : List Int} (c : chain next h L) : -1 ≤ h := by
  cases L with
  | nil => have : h = -1 := c; omega
  | cons a r => have := c.1; have := c.2.1; omega
theorem chain.congr {next next' : Int → Int} : ∀ {L : List Int} {h : Int}, chain next h L → (∀ a ∈ L, next' a = next a) → chain next' h L
  | [], _, c, _ => c
  | a :: r, _, c, e => ⟨c.1, c.2.1, by rw [e a List.mem_cons_self]; exact chain.congr c.2.2 (fun b hb => e b (List.mem_cons_of_mem _ hb))⟩
/-- the lists, one of them (of g) with what is still to be gone through behind it -/
def Wl (w0 next wat : Int → Int) (NC : Int) (g : Int) (P : List Int) : Prop :=
  ∃ N : Int → List Int, ∀ l, 0 ≤ l → l < 32 → chain next (wat l) (N l) ∧ (N l ++ if l = g then P else []).Nodup ∧ ∀ x, x ∈ (N l ++ if l = g then P else []) ↔ (0 ≤ x ∧ x < 2 * NC ∧ w0 x = l)
theorem Wl.wat {w0 next wat : Int → Int} {NC g : Int} {P : List Int} (h : Wl w0 next wat NC g P) {l : Int} (h1 : 0 ≤ l) (h2 : l < 32) : -1 ≤ wat l ∧ wat l < 2 * NC ∨ wat l = -1 := by
  obtain ⟨N, hN⟩ := h
  obtain ⟨c, -, m⟩ := hN l h1 h2
  rcases Int.lt_or_le (wat l) 0 with z | z
  · have := c.ge; right; omega
  · obtain ⟨r, e, -⟩ := c.pos (by omega)
    have := (m (wat l)).mp (by rw [e]; simp)
    left; omega
/-- no list is being gone through: any g does -/
theorem Wl.any {w0 next wat : Int → Int} {NC g g' : Int} (h : Wl w0 next wat NC g []) : Wl w0 next wat NC g' [] := by
  obtain ⟨N, hN⟩ := h
  refine ⟨N, fun l a b => ?_⟩
  have := hN l a b
  simp only [ite_self] at this ⊢
  exact this
theorem Wl.congr {w0 w1 next wat : Int → Int} {NC g : Int} {P : List Int} (h : Wl w0 next wat NC g P) (e : ∀ x, 0 ≤ x → x < 2 * NC → w1 x = w0 x) : Wl w1 next wat NC g P := by
  obtain ⟨N, hN⟩ := h
  refine ⟨N, fun l a b => ?_⟩
  obtain ⟨c1, c2, c3⟩ := hN l a b
  refine ⟨c1, c2, fun x => (c3 x).trans ⟨fun ⟨p, q, r⟩ => ⟨p, q, by rw [e x p q]; exact r⟩, fun ⟨p, q, r⟩ => ⟨p, q, by rw [← e x p q]; exact r⟩⟩⟩
/-- nothing is kept yet -/
theorem Wl.nil {w0 next wat : Int → Int} (g : Int) (h : ∀ l, 0 ≤ l → l < 32 → wat l = -1) : Wl w0 next wat 0 g [] := by
  refine ⟨fun _ => [], fun l a b => ⟨h l a b, by simp, fun x => ?_⟩⟩
  simp only [ite_self, List.append_nil, List.not_mem_nil, false_iff]
  omega
/-- the list of g is taken off, to be gone through -/
theorem Wl.take {w0 next wat : Int → Int} {NC g : Int} (h : Wl w0 next wat NC g []) (h1 : 0 ≤ g) (h2 : g < 32) : ∃ P, chain next (wat g) P ∧ Wl w0 next (up wat g (-1)) NC g P := by
  obtain ⟨N, hN⟩ := h
  have hg := hN g h1 h2
  refine ⟨N g, hg.1, fun l => if l = g then [] else N l, fun l a b => ?_⟩
  by_cases e : l = g
  · subst e
    have q2 := hg.2.1
    have q3 := hg.2.2
    simp only [if_true, List.append_nil, List.nil_append] at q2 q3 ⊢
    exact ⟨by rw [up_s]; rfl, q2, q3⟩
  · have := hN l a b
    simp only [if_neg e, List.append_nil] at this ⊢
    exact ⟨by rw [up_n _ _ e]; exact this.1, this.2⟩
/-- the next one stays with g -/
theorem Wl.keep {w0 next wat : Int → Int} {NC g w : Int} {P : List Int} (h : Wl w0 next wat NC g (w :: P)) (hc : chain next (next w) P) (h1 : 0 ≤ g) (h2 : g < 32) : chain (up next w (wat g)) (next w) P ∧ Wl w0 (up next w (wat g)) (up wat g w) NC g P := by
  obtain ⟨N, hN⟩ := h
  obtain ⟨c1, c2, c3⟩ := hN g h1 h2
  rw [if_pos rfl] at c2 c3
  have hw := (c3 w).mp (by simp)
  have nd := List.nodup_append.mp c2
  have wP : w ∉ P := (List.nodup_cons.mp nd.2.1).1
  have wN : w ∉ N g := fun q => nd.2.2 w q w List.mem_cons_self rfl
  refine ⟨hc.congr (fun a ha => up_n _ _ (fun e => wP (e ▸ ha))), fun l => if l = g then w :: N g else N l, fun l a b => ?_⟩
  by_cases e : l = g
  · subst e
    simp only [if_true, List.cons_append]
    refine ⟨?_, ?_, fun x => ?_⟩
    · rw [up_s]
      exact ⟨rfl, hw.1, by rw [up_s]; exact c1.congr (fun a ha => up_n _ _ (fun e => wN (e ▸ ha)))⟩
    · refine List.nodup_cons.mpr ⟨fun q => ?_, List.nodup_append.mpr ⟨nd.1, (List.nodup_cons.mp nd.2.1).2, fun a ha b hb => nd.2.2 a ha b (List.mem_cons_of_mem _ hb)⟩⟩
      rcases List.mem_append.mp q with q | q
      · exact wN q
      · exact wP q
    · rw [← c3 x]
      simp only [List.mem_cons, List.mem_append]
      constructor
      · rintro (q | q | q)
        · exact Or.inr (Or.inl q)
        · exact Or.inl q
        · exact Or.inr (Or.inr q)
      · rintro (q | q | q)
        · exact Or.inr (Or.inl q)
        · exact Or.inl q
        · exact Or.inr (Or.inr q)
  · obtain ⟨d1, d2, d3⟩ := hN l a b
    simp only [if_neg e, List.append_nil] at d2 d3 ⊢
    refine ⟨?_, d2, d3⟩
    rw [up_n _ _ e]
    exact d1.congr (fun x hx => up_n _ _ (fun q => by
      have := (d3 x).mp hx
      rw [q, hw.2.2] at this; exact e this.2.2.symm))
/-- a watch goes to the front of the list of its new literal m -/
theorem Wl.move {w0 next wat : Int → Int} {NC g w m : Int} {P : List Int} (h : Wl w0 next wat NC g (w :: P)) (hc : chain next (next w) P) (h1 : 0 ≤ g) (h2 : g < 32) (hm : 0 ≤ m) (hm2 : m < 32) (hne : m ≠ g) : chain (up next w (wat m)) (next w) P ∧ Wl (up w0 w m) (up next w (wat m)) (up wat m w) NC g P := by
  obtain ⟨N, hN⟩ := h
  obtain ⟨c1, c2, c3⟩ := hN g h1 h2
  rw [if_pos rfl] at c2 c3
  have hw := (c3 w).mp (by simp)
  have nd := List.nodup_append.mp c2
  have wP : w ∉ P := (List.nodup_cons.mp nd.2.1).1
  have wN : w ∉ N g := fun q => nd.2.2 w q w List.mem_cons_self rfl
  have wO : ∀ l, 0 ≤ l → l < 32 → l ≠ g → w ∉ N l := fun l a b e q => by
    have := ((hN l a b).2.2 w).mp (List.mem_append_left _ q)
    rw [hw.2.2] at this; exact e this.2.2.symm
  refine ⟨hc.congr (fun a ha => up_n _ _ (fun e => wP (e ▸ ha))), fun l => if l = m then w :: N m else N l, fun l a b => ?_⟩
  by_cases e : l = m
  · subst e
    obtain ⟨d1, d2, d3⟩ := hN l a b
    have wl' := wO l a b hne
    simp only [if_neg hne, List.append_nil, if_true] at d2 d3 ⊢
    refine ⟨?_, List.nodup_cons.mpr ⟨wl', d2⟩, fun x => ?_⟩
    · rw [up_s]
      exact ⟨rfl, hw.1, by rw [up_s]; exact d1.congr (fun a ha => up_n _ _ (fun e => wl' (e ▸ ha)))⟩
    · rw [List.mem_cons, d3 x]
      by_cases q : x = w
      · subst q; rw [up_s]; exact ⟨fun _ => ⟨hw.1, hw.2.1, rfl⟩, fun _ => Or.inl rfl⟩
      · rw [up_n _ _ q]
        exact ⟨fun z => z.resolve_left q, Or.inr⟩
  · obtain ⟨d1, d2, d3⟩ := hN l a b
    simp only [if_neg e]
    rw [up_n _ _ e]
    by_cases e2 : l = g
    · subst e2
      simp only [if_true]
      refine ⟨c1.congr (fun a ha => up_n _ _ (fun e => wN (e ▸ ha))), List.nodup_append.mpr ⟨nd.1, (List.nodup_cons.mp nd.2.1).2, fun a ha b hb => nd.2.2 a ha b (List.mem_cons_of_mem _ hb)⟩, fun x => ?_⟩
      by_cases q : x = w
      · subst q
        rw [up_s]
        constructor
        · intro z
          rcases List.mem_append.mp z with z | z
          · exact absurd z wN
          · exact absurd z wP
        · intro z; exact absurd z.2.2 hne
      · rw [up_n _ _ q, ← c3 x]
        simp only [List.mem_append, List.mem_cons]
        exact ⟨fun z => z.elim Or.inl (fun y => Or.inr (Or.inr y)), fun z => z.elim Or.inl (fun y => y.elim (fun r => absurd r q) Or.inr)⟩
    · simp only [if_neg e2, List.append_nil] at d2 d3 ⊢
      have wl' := wO l a b e2
      refine ⟨d1.congr (fun a ha => up_n _ _ (fun e => wl' (e ▸ ha))), d2, fun x => ?_⟩
      rw [d3 x]
      by_cases q : x = w
      · subst q; rw [up_s, hw.2.2]
        exact ⟨fun z => absurd z.2.2.symm e2, fun z => absurd z.2.2.symm e⟩
      · rw [up_n _ _ q]
/-- a new watch, of a clause that is new -/
theorem Wl.push {w0 next wat : Int → Int} {x0 : Int → Prop} {g w m : Int} (hx : ¬ x0 w) (hw : 0 ≤ w) (h : ∃ N : Int → List Int, ∀ l, 0 ≤ l → l < 32 → chain next (wat l) (N l) ∧ (N l).Nodup ∧ ∀ x, x ∈ N l ↔ (x0 x ∧ w0 x = l)) (hm : w0 w = m) (hm1 : 0 ≤ m) (hm2 : m < 32) :
    ∃ N : Int → List Int, ∀ l, 0 ≤ l → l < 32 → chain (up next w (wat m)) (up wat m w l) (N l) ∧ (N l).Nodup ∧ ∀ x, x ∈ N l ↔ ((x0 x ∨ x = w) ∧ w0 x = l) := by
  obtain ⟨N, hN⟩ := h
  have wO : ∀ l, 0 ≤ l → l < 32 → w ∉ N l := fun l a b q => hx (((hN l a b).2.2 w).mp q).1
  refine ⟨fun l => if l = m then w :: N m else N l, fun l a b => ?_⟩
  obtain ⟨d1, d2, d3⟩ := hN l a b
  have wl' := wO l a b
  by_cases e : l = m
  · subst e
    simp only [if_true]
    refine ⟨?_, List.nodup_cons.mpr ⟨wl', d2⟩, fun x => ?_⟩
    · rw [up_s]
      exact ⟨rfl, hw, by rw [up_s]; exact d1.congr (fun a ha => up_n _ _ (fun e => wl' (e ▸ ha)))⟩
    · rw [List.mem_cons, d3 x]
      constructor
      · rintro (q | q)
        · exact ⟨Or.inr q, q ▸ hm⟩
        · exact ⟨Or.inl q.1, q.2⟩
      · rintro ⟨q | q, r⟩
        · exact Or.inr ⟨q, r⟩
        · exact Or.inl q
  · simp only [if_neg e]
    rw [up_n _ _ e]
    refine ⟨d1.congr (fun a ha => up_n _ _ (fun e => wl' (e ▸ ha))), d2, fun x => ?_⟩
    rw [d3 x]
    constructor
    · rintro ⟨q, r⟩; exact ⟨Or.inl q, r⟩
    · rintro ⟨q | q, r⟩
      · exact ⟨q, r⟩
      · exact absurd (by rw [← r, q, hm]) e
/-- the lists of all watches that x0 names -/
def Wx (w0 next wat : Int → Int) (x0 : Int → Prop) : Prop := ∃ N : Int → List Int, ∀ l, 0 ≤ l → l < 32 → chain next (wat l) (N l) ∧ (N l).Nodup ∧ ∀ x, x ∈ N l ↔ (x0 x ∧ w0 x = l)
theorem Wl.x {w0 next wat : Int → Int} {NC g : Int} : Wl w0 next wat NC g [] ↔ Wx w0 next wat (fun x => 0 ≤ x ∧ x < 2 * NC) := by
  unfold Wl Wx
  simp only [ite_self, List.append_nil, and_assoc]
theorem Wx.push {w0 next wat : Int → Int} {x0 : Int → Prop} (h : Wx w0 next wat x0) (w m : Int) (hx : ¬ x0 w) (hw : 0 ≤ w) (hm : w0 w = m) (hm1 : 0 ≤ m) (hm2 : m < 32) : Wx w0 (up next w (wat m)) (up wat m w) (fun x => x0 x ∨ x = w) := Wl.push (g := 0) hx hw h hm hm1 hm2
theorem Wx.congr {w0 w1 next wat : Int → Int} {x0 x1 : Int → Prop} (h : Wx w0 next wat x0) (e : ∀ x, x0 x → w1 x = w0 x) (ex : ∀ x, x1 x ↔ x0 x) : Wx w1 next wat x1 := by
  obtain ⟨N, hN⟩ := h
  refine ⟨N, fun l a b => ?_⟩
  obtain ⟨c1, c2, c3⟩ := hN l a b
  refine ⟨c1, c2, fun x => (c3 x).trans ⟨fun ⟨p, r⟩ => ⟨(ex x).mpr p, by rw [e x p]; exact r⟩, fun ⟨p, r⟩ => ⟨(ex x).mp p, by rw [← e x ((ex x).mp p)]; exact r⟩⟩⟩
/-- THE TWO WATCHES: of a clause one of whose watches is false (and was gone through, the first D of the trail) the other is true, no later -/
def Tw (w0 val lev tr : Int → Int) (NC D : Int) (P : List Int) : Prop :=
  ∀ w, 0 ≤ w → w < 2 * NC → ∀ i, 0 ≤ i → i < D → (w ∈ P → i < D - 1) → tr i = ng (w0 w) → 0 < vOf val (w0 (ng w)) ∧ lev (w0 (ng w) / 2) ≤ lev (w0 w / 2)
theorem Tw.less {w0 val lev tr : Int → Int} {NC D D' : Int} {P : List Int} (h : Tw w0 val lev tr NC D P) (hD : D' < D) : Tw w0 val lev tr NC D' [] := fun w a b i c d _ e => h w a b i c (by omega) (fun _ => by omega) e
theorem Tw.le {w0 val lev tr : Int → Int} {NC D D' : Int} (h : Tw w0 val lev tr NC D []) (hD : D' ≤ D) : Tw w0 val lev tr NC D' [] := fun w a b i c d _ e => h w a b i c (by omega) (fun q => absurd q List.not_mem_nil) e
theorem Tw.take {w0 val lev tr : Int → Int} {NC D : Int} (P : List Int) (h : Tw w0 val lev tr NC D []) (hP : ∀ x, 0 ≤ x → x < 2 * NC → w0 x = ng (tr D) → x ∈ P) : Tw w0 val lev tr NC (D + 1) P := fun w a b i c d p e => by
  by_cases z : i = D
  · rw [z] at e p
    have := p (hP w a b (by rw [e, ng_ng])); omega
  · exact h w a b i c (by omega) (fun q => absurd q List.not_mem_nil) e
theorem Tw.none {w0 val lev tr : Int → Int} {NC : Int} {P : List Int} : Tw w0 val lev tr NC 0 P := fun w a b i c d => by omega
theorem Tw.congr {w0 w1 val lev tr : Int → Int} {NC D : Int} {P : List Int} (h : Tw w0 val lev tr NC D P) (e : ∀ x, 0 ≤ x → x < 2 * NC → w1 x = w0 x) : Tw w1 val lev tr NC D P := fun w a b i c d p q => by
  have n1 : 0 ≤ ng w ∧ ng w < 2 * NC := ⟨ng_lo a, ng_hi b⟩
  rw [e w a b] at q ⊢
  rw [e _ n1.1 n1.2]
  exact h w a b i c d p q
end
section
/-! pure: the solver's invariant, the steps of propagation -/
theorem Tw.set {w0 val lev tr : Int → Int} {n NC D many lv l : Int} {P : List Int} (h : Tw w0 val lev tr NC D P) (hA : TrA n val tr many) (hD : D ≤ many) (hv : val (l / 2) = 0) : Tw w0 (up val (l / 2) (sgn l)) (up lev (l / 2) lv) (up tr many l) NC D P := by
  intro w a b i c d p q
  rw [up_n _ _ (by omega)] at q
  have r := h w a b i c d p q
  have t := (hA.2.1 i c (by omega)).2.2
  have n1 : w0 w / 2 ≠ l / 2 := fun e => by
    rw [q, ng_div, e, hv] at t
    have := sgn_or (ng (w0 w)); omega
  have n2 : w0 (ng w) / 2 ≠ l / 2 := fun e => by
    have := vOf_0.mpr (e ▸ hv : val (w0 (ng w) / 2) = 0); omega
  rw [up_n _ _ n1, up_n _ _ n2]
  refine ⟨?_, r.2⟩
  have e : vOf (up val (l / 2) (sgn l)) (w0 (ng w)) = vOf val (w0 (ng w)) := by unfold vOf; rw [up_n _ _ n2]
  rw [e]; exact r.1
theorem Tw.undo {w0 val val' lev tr beg : Int → Int} {n NC D many lvs to : Int} (h : Tw w0 val lev tr NC D []) (hA : TrA n val tr many) (hL : TrL lev tr beg many lvs) (h0 : 0 ≤ to) (h1 : to < lvs) (hu : Undo val val' tr (beg to) many) (hD : D ≤ beg to) (hr : ∀ x, 0 ≤ x → x < 2 * NC → 0 ≤ w0 x ∧ w0 x < 2 * n) : Tw w0 val' lev tr NC D [] := by
  intro w a b i c d p q
  have r := h w a b i c d p q
  have hb := hL.2.1 to h0 h1
  have x1 := hr (ng w) (ng_lo a) (ng_hi b)
  obtain ⟨j, j1, j2, j3⟩ := (hA.t x1.1 x1.2).mp r.1
  have s1 := (hL.lev_of c (by omega) h0 h1).mpr (by omega : i < beg to)
  rw [q, ng_div] at s1
  have s2 := (hL.lev_of j1 j2 h0 h1).mp (by rw [j3]; omega)
  refine ⟨?_, r.2⟩
  have e : val' (w0 (ng w) / 2) = val (w0 (ng w) / 2) := hu.1 _ (fun k k1 k2 k3 => by
    have := hA.inj (i := k) (j := j) (by omega) k2 j1 j2 (by rw [k3, j3]); omega)
  have e2 : vOf val' (w0 (ng w)) = vOf val (w0 (ng w)) := by unfold vOf; rw [e]
  rw [e2]; exact r.1
theorem Tw.keep {w0 val lev tr : Int → Int} {NC D w : Int} {P : List Int} (h : Tw w0 val lev tr NC D (w :: P)) (hk : 0 < vOf val (w0 (ng w)) ∧ lev (w0 (ng w) / 2) ≤ lev (w0 w / 2)) : Tw w0 val lev tr NC D P := by
  intro x a b i c d p q
  by_cases e : x = w
  · rw [e]; exact hk
  · exact h x a b i c d (fun z => p ((List.mem_cons.mp z).resolve_left e)) q
theorem Tw.move {w0 val lev tr : Int → Int} {n NC D many w m : Int} {P : List Int} (h : Tw w0 val lev tr NC D (w :: P)) (hA : TrA n val tr many) (hD : D ≤ many) (hm : 0 ≤ m) (hm2 : m < 2 * n) (hmv : ¬ vOf val m < 0) (hg : ¬ 0 < vOf val (w0 w)) : Tw (up w0 w m) val lev tr NC D P := by
  intro x a b i c d p q
  by_cases e : x = w
  · rw [e, up_s] at q
    exact absurd ((hA.f hm hm2).mpr ⟨i, c, by omega, q⟩) hmv
  · by_cases e2 : ng x = w
    · rw [up_n _ _ e] at q
      have r := h x a b i c d (fun z => p ((List.mem_cons.mp z).resolve_left e)) q
      rw [e2] at r
      exact absurd r.1 hg
    · rw [up_n _ _ e] at q ⊢
      rw [up_n _ _ e2]
      exact h x a b i c d (fun z => p ((List.mem_cons.mp z).resolve_left e)) q
theorem wl_swp {n NC NL : Int} {lit start : Int → Int} (h : Cl n lit start NC NL) {w k : Int} (hw : 0 ≤ w) (hw2 : w < 2 * NC) (hk : start (w / 2) + 2 ≤ k) (hk2 : k < start (w / 2 + 1)) : ∀ x, 0 ≤ x → x < 2 * NC → wl (swp lit (start (w / 2) + w % 2) k) start x = up (wl lit start) w (lit k) x := by
  intro x a b
  have z := h.at (c := w / 2) (by omega) (by omega)
  have y := h.at (c := x / 2) (by omega) (by omega)
  unfold wl
  by_cases e : x = w
  · rw [e, up_s, swp_a]
  · rw [up_n _ _ e, swp_o]
    · intro q
      have := h.apart (c := x / 2) (d := w / 2) (p := start (x / 2) + x % 2) (by omega) (by omega) (by omega) (by omega) (by omega) (by omega) (by omega) (by omega)
      rw [this] at q; omega
    · intro q
      have := h.apart (c := x / 2) (d := w / 2) (p := start (x / 2) + x % 2) (by omega) (by omega) (by omega) (by omega) (by omega) (by omega) (by omega) (by omega)
      rw [this] at q; omega
/-- how many clauses and lessons -/
def Cn (taught : Int → Int) (NC les : Int) : Prop := (∀ c, 0 ≤ c → c < NC → taught c = 0 ∨ taught c = 1) ∧ les = cnt taught NC.toNat ∧ les ≤ 200 ∧ NC - les ≤ 400
/-- THE INVARIANT: D of the trail are gone through, of the watches of g those of P are not -/
def Iv (Mod : (Int → Bool) → Prop) (S : Sv) (D g : Int) (P : List Int) : Prop :=
  (1 ≤ S 0 0 ∧ S 0 0 ≤ 16) ∧ Cl (S 0 0) (S 2) (S 3) (S 6 0) (S 7 0) ∧ TrA (S 0 0) (S 11) (S 14) (S 16 0) ∧ TrL (S 12) (S 14) (S 15) (S 16 0) (S 17 0) ∧ Rs (Inc (S 2) (S 3)) (S 6 0) (S 14) (S 13) (S 12) (S 15) (S 16 0) ∧ De (S 1) (S 14) (S 15) (S 17 0) ∧ Se Mod (Inc (S 2) (S 3)) (S 6 0) (S 5) (S 14) (S 12) (S 16 0) ∧ Cn (S 5) (S 6 0) (S 8 0) ∧ Wl (wl (S 2) (S 3)) (S 4) (S 10) (S 6 0) g P ∧ Tw (wl (S 2) (S 3)) (S 11) (S 12) (S 14) (S 6 0) D P
section
variable {Mod : (Int → Bool) → Prop} {S : Sv} {D g : Int} {P : List Int}
theorem Iv.n (h : Iv Mod S D g P) : 1 ≤ S 0 0 ∧ S 0 0 ≤ 16 := h.1
theorem Iv.cl (h : Iv Mod S D g P) : Cl (S 0 0) (S 2) (S 3) (S 6 0) (S 7 0) := h.2.1
theorem Iv.a (h : Iv Mod S D g P) : TrA (S 0 0) (S 11) (S 14) (S 16 0) := h.2.2.1
theorem Iv.l (h : Iv Mod S D g P) : TrL (S 12) (S 14) (S 15) (S 16 0) (S 17 0) := h.2.2.2.1
theorem Iv.r (h : Iv Mod S D g P) : Rs (Inc (S 2) (S 3)) (S 6 0) (S 14) (S 13) (S 12) (S 15) (S 16 0) := h.2.2.2.2.1
theorem Iv.d (h : Iv Mod S D g P) : De (S 1) (S 14) (S 15) (S 17 0) := h.2.2.2.2.2.1
theorem Iv.s (h : Iv Mod S D g P) : Se Mod (Inc (S 2) (S 3)) (S 6 0) (S 5) (S 14) (S 12) (S 16 0) := h.2.2.2.2.2.2.1
theorem Iv.c (h : Iv Mod S D g P) : Cn (S 5) (S 6 0) (S 8 0) := h.2.2.2.2.2.2.2.1
theorem Iv.w (h : Iv Mod S D g P) : Wl (wl (S 2) (S 3)) (S 4) (S 10) (S 6 0) g P := h.2.2.2.2.2.2.2.2.1
theorem Iv.t (h : Iv Mod S D g P) : Tw (wl (S 2) (S 3)) (S 11) (S 12) (S 14) (S 6 0) D P := h.2.2.2.2.2.2.2.2.2
/-- numbers in range -/
theorem Iv.rng (h : Iv Mod S D g P) : 0 ≤ S 6 0 ∧ S 6 0 ≤ 600 ∧ 0 ≤ S 7 0 ∧ S 7 0 ≤ 9600 ∧ 0 ≤ S 16 0 ∧ S 16 0 ≤ S 0 0 ∧ 0 ≤ S 17 0 ∧ S 17 0 ≤ S 16 0 := by
  have a := h.n
  have b := h.cl.lo (c := S 6 0) h.cl.1.1 (Int.le_refl _)
  have c := h.cl.1
  have d := h.c
  have e := h.a.1
  have f := h.a.many (by omega)
  have i := h.l.1
  have j := h.l.lvs e
  have k := d.2.2
  omega
theorem Iv.wP (h : Iv Mod S D g P) (h1 : 0 ≤ g) (h2 : g < 32) {x : Int} (hx : x ∈ P) : 0 ≤ x ∧ x < 2 * S 6 0 ∧ wl (S 2) (S 3) x = g := by
  obtain ⟨N, hN⟩ := h.w
  exact ((hN g h1 h2).2.2 x).mp (by rw [if_pos rfl]; exact List.mem_append_right _ hx)
theorem Iv.any (h : Iv Mod S D g []) (g' : Int) : Iv Mod S D g' [] := ⟨h.n, h.cl, h.a, h.l, h.r, h.d, h.s, h.c, h.w.any, h.t⟩
theorem Iv.le (h : Iv Mod S D g []) {D' : Int} (hD : D' ≤ D) : Iv Mod S D' g [] := ⟨h.n, h.cl, h.a, h.l, h.r, h.d, h.s, h.c, h.w, h.t.le hD⟩
/-- the next of the trail is gone through: its watches are taken off -/
theorem Iv.take (h : Iv Mod S D g []) (h0 : 0 ≤ D) (h1 : D < S 16 0) : ∃ P, chain (S 4) (S 10 (ng (S 14 D))) P ∧ Iv Mod (u2 (u2 S 18 0 (D + 1)) 10 (ng (S 14 D)) (-1)) (D + 1) (ng (S 14 D)) P := by
  have hn := h.n
  have t := h.a.2.1 D h0 h1
  have g1 : 0 ≤ ng (S 14 D) := ng_lo t.1
  have g2 : ng (S 14 D) < 2 * S 0 0 := ng_hi t.2.1
  obtain ⟨P, c, hw⟩ := (h.any (ng (S 14 D))).w.take g1 (by omega)
  refine ⟨P, c, h.n, h.cl, h.a, h.l, h.r, h.d, h.s, h.c, hw, h.t.take P (fun x a b e => ?_)⟩
  obtain ⟨N, hN⟩ := hw
  have := ((hN _ g1 (by omega)).2.2 x).mpr ⟨a, b, e⟩
  rw [if_pos rfl] at this
  rcases List.mem_append.mp this with q | q
  · have c0 := (hN _ g1 (by omega)).1
    rw [up_s] at c0
    rw [c0.neg (by omega)] at q
    exact absurd q List.not_mem_nil
  · exact q
/-- a clause's watch goes to another literal that isn't false -/
theorem Iv.move {w k : Int} (h : Iv Mod S D g (w :: P)) (hc : chain (S 4) (S 4 w) P) (g1 : 0 ≤ g) (g2 : g < 32) (hD : D ≤ S 16 0) (hf : vOf (S 11) g < 0) (hk : S 3 (w / 2) + 2 ≤ k) (hk2 : k < S 3 (w / 2 + 1)) (hkv : ¬ vOf (S 11) (S 2 k) < 0) : chain (lookS (u2 (u2 S 2 (S 3 (w / 2) + w % 2) (S 2 k)) 2 k g) (w / 2) (w % 2) 4) (S 4 w) P ∧ Iv Mod (lookS (u2 (u2 S 2 (S 3 (w / 2) + w % 2) (S 2 k)) 2 k g) (w / 2) (w % 2)) D g P := by
  have hw := h.wP g1 g2 List.mem_cons_self
  have hn := h.n
  have cl := h.cl
  have z := cl.at (c := w / 2) (by omega) (by omega)
  have hg : S 2 (S 3 (w / 2) + w % 2) = g := hw.2.2
  have m := cl.lit (c := w / 2) (p := k) (by omega) (by omega) (by omega) hk2
  have hne : S 2 k ≠ g := fun e => hkv (e ▸ hf)
  have e2 : (up (up (S 2) (S 3 (w / 2) + w % 2) (S 2 k)) k g) = swp (S 2) (S 3 (w / 2) + w % 2) k := by unfold swp; rw [hg]
  have el : (up (up (S 2) (S 3 (w / 2) + w % 2) (S 2 k)) k g) (S 3 (w / 2) + w % 2) = S 2 k := by rw [e2, swp_a]
  have ew : 2 * (w / 2) + w % 2 = w := by omega
  have f4 : lookS (u2 (u2 S 2 (S 3 (w / 2) + w % 2) (S 2 k)) 2 k g) (w / 2) (w % 2) 4 = up (S 4) w (S 10 (S 2 k)) := by
    show up (S 4) (2 * (w / 2) + w % 2) (S 10 ((up (up (S 2) (S 3 (w / 2) + w % 2) (S 2 k)) k g) (S 3 (w / 2) + w % 2))) = _
    rw [el, ew]
  have f10 : lookS (u2 (u2 S 2 (S 3 (w / 2) + w % 2) (S 2 k)) 2 k g) (w / 2) (w % 2) 10 = up (S 10) (S 2 k) w := by
    show up (S 10) ((up (up (S 2) (S 3 (w / 2) + w % 2) (S 2 k)) k g) (S 3 (w / 2) + w % 2)) (2 * (w / 2) + w % 2) = _
    rw [el, ew]
  have f2 : lookS (u2 (u2 S 2 (S 3 (w / 2) + w % 2) (S 2 k)) 2 k g) (w / 2) (w % 2) 2 = swp (S 2) (S 3 (w / 2) + w % 2) k := e2
  obtain ⟨c', hW⟩ := h.w.move hc g1 g2 m.1 (by omega) hne
  have hI : ∀ c l, 0 ≤ c → c < S 6 0 → (Inc (swp (S 2) (S 3 (w / 2) + w % 2) k) (S 3) c l ↔ Inc (S 2) (S 3) c l) := fun c l a b => Inc_swp cl (c := w / 2) (by omega) (by omega) (by omega) (by omega) a b
  have hwl := wl_swp cl (w := w) (k := k) hw.1 hw.2.1 hk hk2
  unfold Iv
  rw [f4, f10, f2]
  refine ⟨c', h.n, Cl_swp cl (c := w / 2) (by omega) (by omega) (by omega) (by omega), h.a, h.l, h.r.congr hI, h.d, h.s.congr hI, h.c, hW.congr hwl, (h.t.move h.a hD m.1 m.2 hkv ?_).congr hwl⟩
  rw [hw.2.2]; omega
/-- a watch stays: its lists alone -/
theorem Iv.stay {w : Int} (h : Iv Mod S D g (w :: P)) (hc : chain (S 4) (S 4 w) P) (g1 : 0 ≤ g) (g2 : g < 32) : chain (u2 (u2 S 4 w (S 10 g)) 10 g w 4) (S 4 w) P ∧ Wl (wl (S 2) (S 3)) (u2 (u2 S 4 w (S 10 g)) 10 g w 4) (u2 (u2 S 4 w (S 10 g)) 10 g w 10) (S 6 0) g P := h.w.keep hc g1 g2
/-- .. the other watch is true -/
theorem Iv.stayT {w : Int} (h : Iv Mod S D g (w :: P)) (hc : chain (S 4) (S 4 w) P) (g1 : 0 ≤ g) (g2 : g < 32) (ho : 0 < vOf (S 11) (wl (S 2) (S 3) (ng w))) (hl : S 12 (wl (S 2) (S 3) (ng w) / 2) ≤ S 12 (g / 2)) : Iv Mod (u2 (u2 S 4 w (S 10 g)) 10 g w) D g P := by
  have hw := h.wP g1 g2 List.mem_cons_self
  exact ⟨h.n, h.cl, h.a, h.l, h.r, h.d, h.s, h.c, (h.w.keep hc g1 g2).2, h.t.keep ⟨ho, by rw [hw.2.2]; exact hl⟩⟩
/-- .. the other watch becomes true -/
theorem Iv.staySet {w : Int} (h : Iv Mod S D g (w :: P)) (hc : chain (S 4) (S 4 w) P) (g1 : 0 ≤ g) (g2 : g < 32) (hD0 : 0 < D) (hD : D ≤ S 16 0) (hg : S 14 (D - 1) = ng g) (hlv : S 12 (g / 2) = S 17 0) (hl0 : S 17 0 = 0 → ∀ μ, Mod μ → sat μ (wl (S 2) (S 3) (ng w))) (ho : vOf (S 11) (wl (S 2) (S 3) (ng w)) = 0) (hall : ∀ p, S 3 (w / 2) + 2 ≤ p → p < S 3 (w / 2 + 1) → vOf (S 11) (S 2 p) < 0) : Iv Mod (setS (u2 (u2 S 4 w (S 10 g)) 10 g w) (wl (S 2) (S 3) (ng w)) (w / 2)) D g P := by
  have hw := h.wP g1 g2 List.mem_cons_self
  have hn := h.n
  have cl := h.cl
  have z := cl.at (c := w / 2) (by omega) (by omega)
  have n1 : ng w / 2 = w / 2 := ng_div w
  have n2 : ng w % 2 = 1 - w % 2 := by unfold ng; omega
  have o := cl.wl (w := ng w) (ng_lo hw.1) (ng_hi hw.2.1)
  have hv := vOf_0.mp ho
  have hw1 := hw.2.2
  unfold wl at hw1
  refine ⟨h.n, cl, h.a.set o.1 o.2 hv, h.l.set h.a hv, h.r.set h.a hv (fun _ _ _ _ => rfl) (fun i a b => (h.l.2.2.2 i a b).1) (Or.inr ⟨by omega, by omega, ⟨S 3 (w / 2) + ng w % 2, by omega, by omega, by unfold wl; rw [n1]⟩, fun q hq hne => ?_⟩), h.d.set h.l, h.s.set h.a hv hl0, h.c, (h.w.keep hc g1 g2).2, (h.t.set h.a hD hv).keep ⟨?_, ?_⟩⟩
  · obtain ⟨p, p1, p2, p3⟩ := hq
    have hfal : ∃ j, 0 ≤ j ∧ j < S 16 0 ∧ S 14 j = ng q := by
      by_cases e1 : p = S 3 (w / 2) + w % 2
      · rw [← p3, e1, hw1]; exact ⟨D - 1, by omega, by omega, hg⟩
      · by_cases e3 : p = S 3 (w / 2) + ng w % 2
        · exfalso; apply hne; rw [← p3, e3]; unfold wl; rw [n1]
        · have r := hall p (by omega) p2
          have m := cl.lit (c := w / 2) (p := p) (by omega) (by omega) p1 p2
          rw [← p3]
          exact (h.a.f m.1 m.2).mp r
    exact hfal
  · have : vOf (up (S 11) (wl (S 2) (S 3) (ng w) / 2) (sgn (wl (S 2) (S 3) (ng w)))) (wl (S 2) (S 3) (ng w)) = 1 := vOf_self (by rw [up_s])
    rw [this]; omega
  · rw [up_s, hw.2.2]
    by_cases e : g / 2 = wl (S 2) (S 3) (ng w) / 2
    · rw [e, up_s]; exact Int.le_refl _
    · rw [up_n _ _ e, hlv]; exact Int.le_refl _
end
end
section
/-! the solver's smaller loops: rest, open, with, back, watchBest -/
theorem j_sub {K : Cx} {ws : va_W} {pc : Nat} {lv lv' : List (Nat × Value)} {st : List Value} (ks : List Nat) (hk : lv_pick lv ks = lv') (kk : J K ws pc lv' st) : J K ws pc lv st := fun H locs ls hP hD hS hl => kk H locs ls hP hD hS (lv_sub hl ks hk)
theorem lp_rest {K : Cx} {h0 : Nat} {ad : Nat → Nat} {cA : Nat → ClassId} (C : Ok K R_Sv b_Sv_rest) (hR : xR K = rmL 0) (ht : xt K = sty cA) (hL : xL K = 5) (hcs : xn K ≤ (xR K).cells ∧ xk K ≤ (xR K).slots) {post : Sv → Prop} (Z : RV K (sw h0 ad cA) post) (w0 : Int → Int) (NC : Int) (hNC : NC ≤ 600) (a lt : Int) (g1 : 0 ≤ lt) (g2 : lt < 32) (S0 : Sv) (hp : ∀ u : Sv, (∀ k, k ≠ 4 → k ≠ 10 → u k = S0 k) → Wl w0 (u 4) (u 10) NC lt [] → post u) :
    ∀ (P : List Int) (S : Sv) (w : Int), (∀ k, k ≠ 4 → k ≠ 10 → S k = S0 k) → Wl w0 (S 4) (S 10) NC lt P → chain (S 4) w P → J K (sw h0 ad cA S) 2 [(0, .ref h0), (1, jv a), (2, jv lt), (3, jv w)] [] := by
  have L := Ln_Sv (h0 := h0) (ad := ad) ht
  intro P
  induction P with
  | nil =>
    intro S w hf hW hc
    have hw : w = -1 := hc
    refine j_iload_n C 3 d_Sv_rest_2 rfl rfl ?_
    refine j_if_lt (tgt := 39) C d_Sv_rest_3 (by decide) (rgi (by omega) (by omega)) (fun c => ?_) (fun c => ?_)
    · exact j_vret C Z d_Sv_rest_39 (hp S hf hW)
    · exact absurd hw (by omega)
  | cons x P ih =>
    intro S w hf hW hc
    obtain ⟨e, hx, hc'⟩ := id hc
    subst e
    obtain ⟨N, hN⟩ := id hW
    have hx2 := ((hN lt g1 g2).2.2 w).mp (by rw [if_pos rfl]; simp)
    have hk := hW.keep hc' g1 g2
    refine j_iload_n C 3 d_Sv_rest_2 rfl rfl ?_
    refine j_if_lt (tgt := 39) C d_Sv_rest_3 (by decide) (rgi (by omega) (by omega)) (fun c => ?_) (fun c => ?_)
    · exact absurd c (by omega)
    · refine j_aload_n C 0 d_Sv_rest_6 rfl rfl ?_
      refine s_getA C L 4 (by decide) rfl d_Sv_rest_7 ?_
      refine j_iload_n C 3 d_Sv_rest_10 rfl rfl ?_
      refine s_iald C L 4 1234 (by decide) rfl rfl (S 4 w) rfl (by omega) (by omega) d_Sv_rest_11 ?_
      refine j_istore (lv' := [(0, .ref h0), (1, jv a), (2, jv lt), (3, jv w), (4, jv (S 4 w))]) C d_Sv_rest_12 (by rw [hL]; decide) rfl rfl ?_
      refine j_aload_n C 0 d_Sv_rest_14 rfl rfl ?_
      refine s_getA C L 4 (by decide) rfl d_Sv_rest_15 ?_
      refine j_iload_n C 3 d_Sv_rest_18 rfl rfl ?_
      refine j_aload_n C 0 d_Sv_rest_19 rfl rfl ?_
      refine s_getA C L 10 (by decide) rfl d_Sv_rest_20 ?_
      refine j_iload_n C 2 d_Sv_rest_23 rfl rfl ?_
      refine s_iald C L 10 32 (by decide) rfl rfl (S 10 lt) rfl (by omega) (by omega) d_Sv_rest_24 ?_
      refine s_iast C L 4 1234 (by decide) rfl rfl (by omega) (by omega) d_Sv_rest_25 ?_
      refine j_aload_n C 0 d_Sv_rest_26 rfl rfl ?_
      refine s_getA C L 10 (by decide) rfl d_Sv_rest_27 ?_
      refine j_iload_n C 2 d_Sv_rest_30 rfl rfl ?_
      refine j_iload_n C 3 d_Sv_rest_31 rfl rfl ?_
      refine s_iast C L 10 32 (by decide) rfl rfl (by omega) (by omega) d_Sv_rest_32 ?_
      refine j_iload C 4 d_Sv_rest_33 rfl ?_
      refine j_istore_n (lv' := [(0, .ref h0), (1, jv a), (2, jv lt), (3, jv (S 4 w)), (4, jv (S 4 w))]) C d_Sv_rest_35 rfl (by rw [hL]; decide) rfl rfl ?_
      refine j_goto (tgt := 2) C d_Sv_rest_36 (by decide) ?_
      refine j_sub [0, 1, 2, 3] rfl ?_
      exact ih _ _ (fun k h1 h2 => by rw [← hf k h1 h2]; show u2 (u2 S 4 w (S 10 lt)) 10 lt w k = S k; rw [u2_n _ _ _ h2, u2_n _ _ _ h1]) hk.2 hk.1
theorem c_Sv_rest (l : Launch) (D : va_G) (h0 : Nat) (ad : Nat → Nat) (cA : Nat → ClassId) (S : Sv) (w0 : Int → Int) (NC : Int) (hNC : NC ≤ 600) (a lt : Int) (g1 : 0 ≤ lt) (g2 : lt < 32) (P : List Int) (hW : Wl w0 (S 4) (S 10) NC lt P) (hc : chain (S 4) a P) : CV l y_Sv_rest b_Sv_rest 5 0 D (sty cA) [.ref h0, jv a, jv lt] (sw h0 ad cA) S (fun u => (∀ k, k ≠ 4 → k ≠ 10 → u k = S k) ∧ Wl w0 (u 4) (u 10) NC lt []) := by
  refine CV.of (by decide) (Nat.le_of_ble_eq_true rfl) (fun K C hR ht hL hcs Z => ?_)
  have C : Ok K R_Sv b_Sv_rest := C
  have L := Ln_Sv (h0 := h0) (ad := ad) ht
  show J K (sw h0 ad cA S) 0 [(0, .ref h0), (1, jv a), (2, jv lt)] []
  refine j_iload_n C 1 d_Sv_rest_0 rfl rfl ?_
  refine j_istore_n (lv' := [(0, .ref h0), (1, jv a), (2, jv lt), (3, jv a)]) C d_Sv_rest_1 rfl (by rw [hL]; decide) rfl rfl ?_
  exact lp_rest C hR ht hL hcs Z w0 NC hNC a lt g1 g2 S (fun u h1 h2 => ⟨h1, h2⟩) P S a (fun _ _ _ => rfl) hW hc
theorem lp_open {K : Cx} {h0 : Nat} {ad : Nat → Nat} {cA : Nat → ClassId} (C : Ok K R_Sv b_Sv_open) (hR : xR K = rmL 0) (ht : xt K = sty cA) (hL : xL K = 2) (hcs : xn K ≤ (xR K).cells ∧ xk K ≤ (xR K).slots) {post : Int → Sv → Prop} (Z : RI K .int (sw h0 ad cA) post) (S : Sv) (h1 : 0 ≤ S 0 0) (h2 : S 0 0 ≤ 16) (hv : ∀ v, 0 ≤ v → v < S 0 0 → rg (S 11 v)) (hp : ∀ z u, u = S → ((z = -1 ∧ ∀ v, 0 ≤ v → v < S 0 0 → S 11 v ≠ 0) ∨ (0 ≤ z ∧ z < S 0 0 ∧ S 11 z = 0 ∧ ∀ v, 0 ≤ v → v < z → S 11 v ≠ 0)) → post z u) :
    ∀ (n : Nat) (v : Int), S 0 0 - v < n → 0 ≤ v → v ≤ S 0 0 → (∀ x, 0 ≤ x → x < v → S 11 x ≠ 0) → J K (sw h0 ad cA S) 2 [(0, .ref h0), (1, jv v)] [] := by
  have L := Ln_Sv (h0 := h0) (ad := ad) ht
  intro n
  induction n with
  | zero => intro v h3 h4 h5; omega
  | succ n ih =>
    intro v h3 h4 h5 h6
    refine j_iload_n C 1 d_Sv_open_2 rfl rfl ?_
    refine j_aload_n C 0 d_Sv_open_3 rfl rfl ?_
    refine s_get C L 0 (by decide) rfl (S 0 0) rfl d_Sv_open_4 ?_
    refine j_icmp_ge (tgt := 27) C d_Sv_open_7 (by decide) (rgi (by omega) (by omega)) (rgi (by omega) (by omega)) (fun c => ?_) (fun c => ?_)
    · refine j_iconst C d_Sv_open_27 ?_
      exact j_ret C Z rfl d_Sv_open_28 (hp _ _ rfl (Or.inl ⟨rfl, fun x a b => h6 x a (by omega)⟩))
    · refine j_aload_n C 0 d_Sv_open_10 rfl rfl ?_
      refine s_getA C L 11 (by decide) rfl d_Sv_open_11 ?_
      refine j_iload_n C 1 d_Sv_open_14 rfl rfl ?_
      refine s_iald C L 11 16 (by decide) rfl rfl (S 11 v) rfl (by omega) (by omega) d_Sv_open_15 ?_
      refine j_if_ne (tgt := 21) C d_Sv_open_16 (by decide) (hv v h4 (by omega)) (fun d => ?_) (fun d => ?_)
      · refine j_iinc (lv' := [(0, .ref h0), (1, jv (v + 1))]) C 1 d_Sv_open_21 rfl (by rw [hL]; decide) rfl rfl ?_
        refine j_goto (tgt := 2) C d_Sv_open_24 (by decide) ?_
        exact ih (v + 1) (by omega) (by omega) (by omega) (fun x a b => by
          by_cases e : x = v
          · rw [e]; exact d
          · exact h6 x a (by omega))
      · refine j_iload_n C 1 d_Sv_open_19 rfl rfl ?_
        exact j_ret C Z rfl d_Sv_open_20 (hp _ _ rfl (Or.inr ⟨h4, by omega, d, h6⟩))
theorem c_Sv_open (l : Launch) (D : va_G) (h0 : Nat) (ad : Nat → Nat) (cA : Nat → ClassId) (S : Sv) (h1 : 0 ≤ S 0 0) (h2 : S 0 0 ≤ 16) (hv : ∀ v, 0 ≤ v → v < S 0 0 → rg (S 11 v)) : CI l y_Sv_open b_Sv_open 2 (some .int) 0 D (sty cA) [.ref h0] (sw h0 ad cA) S (fun z u => u = S ∧ ((z = -1 ∧ ∀ v, 0 ≤ v → v < S 0 0 → S 11 v ≠ 0) ∨ (0 ≤ z ∧ z < S 0 0 ∧ S 11 z = 0 ∧ ∀ v, 0 ≤ v → v < z → S 11 v ≠ 0))) := by
  refine CI.of (by decide) (Nat.le_of_ble_eq_true rfl) (fun K C hR ht hL hcs Z => ?_)
  have C : Ok K R_Sv b_Sv_open := C
  have L := Ln_Sv (h0 := h0) (ad := ad) ht
  show J K (sw h0 ad cA S) 0 [(0, .ref h0)] []
  refine j_iconst C d_Sv_open_0 ?_
  refine j_istore_n (lv' := [(0, .ref h0), (1, jv 0)]) C d_Sv_open_1 rfl (by rw [hL]; decide) rfl rfl ?_
  exact lp_open C hR ht hL hcs Z S h1 h2 hv (fun z u e h => ⟨e, h⟩) (S 0 0).toNat.succ 0 (by omega) (by omega) h1 (fun x a b => by omega)
theorem lp_with {K : Cx} {h0 : Nat} {ad : Nat → Nat} {cA : Nat → ClassId} (C : Ok K R_Sv b_Sv_with) (hR : xR K = rmL 0) (ht : xt K = sty cA) (hL : xL K = 3) (hcs : xn K ≤ (xR K).cells ∧ xk K ≤ (xR K).slots) {post : Sv → Prop} (Z : RV K (sw h0 ad cA) post) (S : Sv) (a : Int) (ha : rg a) (h1 : 0 ≤ S 21 0) (h2 : S 21 0 ≤ 32) (hv : ∀ k, 0 ≤ k → k < S 21 0 → rg (S 20 k)) (h3 : (∀ k, 0 ≤ k → k < S 21 0 → S 20 k ≠ a) → S 21 0 < 32) (hp : ∀ u, (((∃ k, 0 ≤ k ∧ k < S 21 0 ∧ S 20 k = a) ∧ u = S) ∨ ((∀ k, 0 ≤ k → k < S 21 0 → S 20 k ≠ a) ∧ u = u2 (u2 S 20 (S 21 0) a) 21 0 (S 21 0 + 1))) → post u) :
    ∀ (n : Nat) (v : Int), S 21 0 - v < n → 0 ≤ v → v ≤ S 21 0 → (∀ x, 0 ≤ x → x < v → S 20 x ≠ a) → J K (sw h0 ad cA S) 2 [(0, .ref h0), (1, jv a), (2, jv v)] [] := by
  have L := Ln_Sv (h0 := h0) (ad := ad) ht
  intro n
  induction n with
  | zero => intro v q3 q4 q5; omega
  | succ n ih =>
    intro v q3 q4 q5 q6
    refine j_iload_n C 2 d_Sv_with_2 rfl rfl ?_
    refine j_aload_n C 0 d_Sv_with_3 rfl rfl ?_
    refine s_get C L 21 (by decide) rfl (S 21 0) rfl d_Sv_with_4 ?_
    refine j_icmp_ge (tgt := 27) C d_Sv_with_7 (by decide) (rgi (by omega) (by omega)) (rgi (by omega) (by omega)) (fun c => ?_) (fun c => ?_)
    · have q7 := h3 (fun k a b => q6 k a (by omega))
      refine j_aload_n C 0 d_Sv_with_27 rfl rfl ?_
      refine s_getA C L 20 (by decide) rfl d_Sv_with_28 ?_
      refine j_aload_n C 0 d_Sv_with_31 rfl rfl ?_
      refine s_get C L 21 (by decide) rfl (S 21 0) rfl d_Sv_with_32 ?_
      refine j_iload_n C 1 d_Sv_with_35 rfl rfl ?_
      refine s_iast C L 20 32 (by decide) rfl rfl (by omega) (by omega) d_Sv_with_36 ?_
      refine j_aload_n C 0 d_Sv_with_37 rfl rfl ?_
      refine j_dup C d_Sv_with_38 rfl ?_
      refine s_get C L 21 (by decide) rfl (S 21 0) rfl d_Sv_with_39 ?_
      refine j_iconst C d_Sv_with_42 ?_
      refine j_iadd C d_Sv_with_43 ?_
      refine s_put C L 21 (by decide) rfl rfl rfl d_Sv_with_44 ?_
      exact j_vret C Z d_Sv_with_47 (hp _ (Or.inr ⟨fun x a b => q6 x a (by omega), rfl⟩))
    · refine j_aload_n C 0 d_Sv_with_10 rfl rfl ?_
      refine s_getA C L 20 (by decide) rfl d_Sv_with_11 ?_
      refine j_iload_n C 2 d_Sv_with_14 rfl rfl ?_
      refine s_iald C L 20 32 (by decide) rfl rfl (S 20 v) rfl (by omega) (by omega) d_Sv_with_15 ?_
      refine j_iload_n C 1 d_Sv_with_16 rfl rfl ?_
      refine j_icmp_ne (tgt := 21) C d_Sv_with_17 (by decide) (hv v q4 (by omega)) ha (fun d => ?_) (fun d => ?_)
      · refine j_iinc (lv' := [(0, .ref h0), (1, jv a), (2, jv (v + 1))]) C 2 d_Sv_with_21 rfl (by rw [hL]; decide) rfl rfl ?_
        refine j_goto (tgt := 2) C d_Sv_with_24 (by decide) ?_
        exact ih (v + 1) (by omega) (by omega) (by omega) (fun x a b => by
          by_cases e : x = v
          · rw [e]; exact d
          · exact q6 x a (by omega))
      · exact j_vret C Z d_Sv_with_20 (hp _ (Or.inl ⟨⟨v, q4, by omega, d⟩, rfl⟩))
theorem c_Sv_with (l : Launch) (D : va_G) (h0 : Nat) (ad : Nat → Nat) (cA : Nat → ClassId) (S : Sv) (a : Int) (ha : rg a) (h1 : 0 ≤ S 21 0) (h2 : S 21 0 ≤ 32) (hv : ∀ k, 0 ≤ k → k < S 21 0 → rg (S 20 k)) (h3 : (∀ k, 0 ≤ k → k < S 21 0 → S 20 k ≠ a) → S 21 0 < 32) : CV l y_Sv_with b_Sv_with 3 0 D (sty cA) [.ref h0, jv a] (sw h0 ad cA) S (fun u => ((∃ k, 0 ≤ k ∧ k < S 21 0 ∧ S 20 k = a) ∧ u = S) ∨ ((∀ k, 0 ≤ k → k < S 21 0 → S 20 k ≠ a) ∧ u = u2 (u2 S 20 (S 21 0) a) 21 0 (S 21 0 + 1))) := by
  refine CV.of (by decide) (Nat.le_of_ble_eq_true rfl) (fun K C hR ht hL hcs Z => ?_)
  have C : Ok K R_Sv b_Sv_with := C
  have L := Ln_Sv (h0 := h0) (ad := ad) ht
  show J K (sw h0 ad cA S) 0 [(0, .ref h0), (1, jv a)] []
  refine j_iconst C d_Sv_with_0 ?_
  refine j_istore_n (lv' := [(0, .ref h0), (1, jv a), (2, jv 0)]) C d_Sv_with_1 rfl (by rw [hL]; decide) rfl rfl ?_
  exact lp_with C hR ht hL hcs Z S a ha h1 h2 hv h3 (fun u h => h) (S 21 0).toNat.succ 0 (by omega) (by omega) h1 (fun x a b => by omega)
end
section
/-! back, watchBest -/
theorem u2_ss (S : Sv) (k : Nat) (i v : Int) : u2 S k i v k i = v := by rw [u2_s, up_s]
theorem Undo.rf (val tr : Int → Int) (m : Int) : Undo val val tr m m := ⟨fun _ _ => rfl, fun i a b => by omega⟩
theorem Undo.step {val val' tr : Int → Int} {m many : Int} (h : Undo val val' tr m many) (hm : m ≤ many) : Undo val (up val' (tr (m - 1) / 2) 0) tr (m - 1) many := by
  refine ⟨fun v hv => ?_, fun i a b => ?_⟩
  · rcases Int.lt_or_le (m - 1) many with z | z
    · rw [up_n _ _ (fun e => hv (m - 1) (Int.le_refl _) z e.symm)]
      exact h.1 v (fun i a b => hv i (by omega) b)
    · omega
  · by_cases e : tr i / 2 = tr (m - 1) / 2
    · rw [e, up_s]
    · rw [up_n _ _ e]
      by_cases z : i = m - 1
      · rw [z] at e; exact absurd rfl e
      · exact h.2 i (by omega) b
/-- on the way back: the levels lv, the first m of the trail are left -/
def Bk (S0 S : Sv) (lv m : Int) : Prop := (∀ k, k ≠ 11 → k ≠ 16 → k ≠ 17 → S k = S0 k) ∧ S 17 0 = lv ∧ S 16 0 = m ∧ Undo (S0 11) (S 11) (S0 14) m (S0 16 0) ∧ 0 ≤ m ∧ m ≤ S0 16 0
def BackTo (S u : Sv) (to : Int) : Prop := (∀ k, k ≠ 11 → k ≠ 16 → k ≠ 17 → k ≠ 18 → u k = S k) ∧ u 17 0 = (if to < S 17 0 then to else S 17 0) ∧ u 16 0 = (if to < S 17 0 then S 15 to else S 16 0) ∧ u 18 0 = u 16 0 ∧ Undo (S 11) (u 11) (S 14) (u 16 0) (S 16 0)
/-- a best one to watch -/
def rk (S : Sv) (l : Int) : Int := if vOf (S 11) l < 0 then S 12 (l / 2) else 17
theorem lp_back2 {K : Cx} {h0 : Nat} {ad : Nat → Nat} {cA : Nat → ClassId} (C : Ok K R_Sv b_Sv_back) (hR : xR K = rmL 0) (ht : xt K = sty cA) (hL : xL K = 2) (hcs : xn K ≤ (xR K).cells ∧ xk K ≤ (xR K).slots) (S0 : Sv) (hn : S0 0 0 ≤ 16) (hA : TrA (S0 0 0) (S0 11) (S0 14) (S0 16 0)) (hT : TrL (S0 12) (S0 14) (S0 15) (S0 16 0) (S0 17 0)) (to lv : Int) (h1 : 0 ≤ lv) (h2 : lv < S0 17 0) (kk : ∀ S, Bk S0 S lv (S0 15 lv) → J K (sw h0 ad cA S) 0 [(0, .ref h0), (1, jv to)] []) :
    ∀ (n : Nat) (S : Sv) (m : Int), m - S0 15 lv < n → S0 15 lv ≤ m → Bk S0 S lv m → J K (sw h0 ad cA S) 18 [(0, .ref h0), (1, jv to)] [] := by
  have L := Ln_Sv (h0 := h0) (ad := ad) ht
  have h16 : S0 16 0 ≤ S0 0 0 := hA.many (by
    have q := hT.2.1 lv h1 h2
    have := hA.2.1 (S0 15 lv) q.1 q.2; omega)
  have hb := hT.2.1 lv h1 h2
  have hlv := hT.lvs hA.1
  intro n
  induction n with
  | zero => intro S m q1 q2; omega
  | succ n ih =>
    intro S m q1 q2 B
    obtain ⟨b1, b2, b3, b4, b5, b6⟩ := id B
    have e15 : S 15 = S0 15 := b1 15 (by decide) (by decide) (by decide)
    have e14 : S 14 = S0 14 := b1 14 (by decide) (by decide) (by decide)
    refine j_aload_n C 0 d_Sv_back_18 rfl rfl ?_
    refine s_get C L 16 (by decide) rfl m b3 d_Sv_back_19 ?_
    refine j_aload_n C 0 d_Sv_back_22 rfl rfl ?_
    refine s_getA C L 15 (by decide) rfl d_Sv_back_23 ?_
    refine j_aload_n C 0 d_Sv_back_26 rfl rfl ?_
    refine s_get C L 17 (by decide) rfl lv b2 d_Sv_back_27 ?_
    refine s_iald C L 15 17 (by decide) rfl rfl (S0 15 lv) (by rw [e15]) (by omega) (by omega) d_Sv_back_30 ?_
    refine j_icmp_le (tgt := 0) C d_Sv_back_31 (by decide) (rgi (by omega) (by omega)) (rgi (by omega) (by omega)) (fun c => ?_) (fun c => ?_)
    · have e : m = S0 15 lv := by omega
      exact kk S (e ▸ B)
    · have ht0 := hA.2.1 (m - 1) (by omega) (by omega)
      refine j_aload_n C 0 d_Sv_back_34 rfl rfl ?_
      refine j_dup C d_Sv_back_35 rfl ?_
      refine s_get C L 16 (by decide) rfl m b3 d_Sv_back_36 ?_
      refine j_iconst C d_Sv_back_39 ?_
      refine j_isub C d_Sv_back_40 ?_
      refine s_put C L 16 (by decide) rfl rfl rfl d_Sv_back_41 ?_
      refine j_aload_n C 0 d_Sv_back_44 rfl rfl ?_
      refine s_getA C L 11 (by decide) rfl d_Sv_back_45 ?_
      refine j_aload_n C 0 d_Sv_back_48 rfl rfl ?_
      refine s_getA C L 14 (by decide) rfl d_Sv_back_49 ?_
      refine j_aload_n C 0 d_Sv_back_52 rfl rfl ?_
      refine s_get C L 16 (by decide) rfl (m - 1) (u2_ss _ _ _ _) d_Sv_back_53 ?_
      refine s_iald C L 14 16 (by decide) rfl rfl (S0 14 (m - 1)) (show S 14 (m - 1) = S0 14 (m - 1) by rw [e14]) (by omega) (by omega) d_Sv_back_56 ?_
      refine j_iconst C d_Sv_back_57 ?_
      refine j_ishr C d_Sv_back_58 (jI_shr1 (by omega) (by omega)) ?_
      refine j_iconst C d_Sv_back_59 ?_
      refine s_iast C L 11 16 (by decide) rfl rfl (by omega) (by omega) d_Sv_back_60 ?_
      refine j_goto (tgt := 18) C d_Sv_back_61 (by decide) ?_
      refine ih _ (m - 1) (by omega) (by omega) ⟨fun k k1 k2 k3 => ?_, b2, (show u2 S 16 0 (m - 1) 16 0 = m - 1 from u2_ss _ _ _ _), ?_, by omega, by omega⟩
      · rw [← b1 k k1 k2 k3, u2_n _ _ _ k1, u2_n _ _ _ k2]
      · exact b4.step b6
theorem lp_back1 {K : Cx} {h0 : Nat} {ad : Nat → Nat} {cA : Nat → ClassId} (C : Ok K R_Sv b_Sv_back) (hR : xR K = rmL 0) (ht : xt K = sty cA) (hL : xL K = 2) (hcs : xn K ≤ (xR K).cells ∧ xk K ≤ (xR K).slots) {post : Sv → Prop} (Z : RV K (sw h0 ad cA) post) (S0 : Sv) (hn : S0 0 0 ≤ 16) (hA : TrA (S0 0 0) (S0 11) (S0 14) (S0 16 0)) (hT : TrL (S0 12) (S0 14) (S0 15) (S0 16 0) (S0 17 0)) (to : Int) (h0t : 0 ≤ to) (hto : to ≤ 100) (hp : ∀ u, BackTo S0 u to → post u) :
    ∀ (n : Nat) (S : Sv) (lv : Int), lv - to < n → (lv = S0 17 0 ∨ to ≤ lv ∧ lv < S0 17 0) → Bk S0 S lv (if lv < S0 17 0 then S0 15 lv else S0 16 0) → J K (sw h0 ad cA S) 0 [(0, .ref h0), (1, jv to)] [] := by
  have L := Ln_Sv (h0 := h0) (ad := ad) ht
  have hlv := hT.lvs hA.1
  have hl0 := hT.1
  have h16 : S0 16 0 ≤ 16 := by
    rcases Int.lt_or_le (S0 0 0) 0 with z | z
    · rcases Int.lt_or_le 0 (S0 16 0) with y | y
      · have := hA.2.1 0 (by omega) y; omega
      · omega
    · have := hA.many z; omega
  intro n
  induction n with
  | zero =>
    intro S lv q1 q2 B
    obtain ⟨b1, b2, b3, b4, b5, b6⟩ := id B
    refine j_aload_n C 0 d_Sv_back_0 rfl rfl ?_
    refine s_get C L 17 (by decide) rfl lv b2 d_Sv_back_1 ?_
    refine j_iload_n C 1 d_Sv_back_4 rfl rfl ?_
    refine j_icmp_le (tgt := 64) C d_Sv_back_5 (by decide) (rgi (by omega) (by omega)) (rgi (by omega) (by omega)) (fun c => ?_) (fun c => ?_)
    · refine j_aload_n C 0 d_Sv_back_64 rfl rfl ?_
      refine j_aload_n C 0 d_Sv_back_65 rfl rfl ?_
      refine s_get C L 16 (by decide) rfl ((if lv < S0 17 0 then S0 15 lv else S0 16 0)) b3 d_Sv_back_66 ?_
      refine s_put C L 18 (by decide) rfl rfl rfl d_Sv_back_69 ?_
      have hx : (if lv < S0 17 0 then S0 15 lv else S0 16 0) = (if to < S0 17 0 then S0 15 to else S0 16 0) := by
        rcases q2 with e | e
        · rw [if_neg (by omega), if_neg (by omega)]
        · rw [show lv = to by omega]
      refine j_vret C Z d_Sv_back_72 (hp _ ⟨fun k k1 k2 k3 k4 => ?_, ?_, ?_, ?_, ?_⟩)
      · rw [← b1 k k1 k2 k3, u2_n _ _ _ k4]
      · show S 17 0 = _
        rw [b2]; split <;> omega
      · show S 16 0 = _
        rw [b3, hx]
      · rw [u2_ss]; exact b3.symm
      · show Undo (S0 11) (S 11) (S0 14) (S 16 0) (S0 16 0)
        rw [b3]; exact b4
    · exact absurd c (by omega)
  | succ n ih =>
    intro S lv q1 q2 B
    obtain ⟨b1, b2, b3, b4, b5, b6⟩ := id B
    refine j_aload_n C 0 d_Sv_back_0 rfl rfl ?_
    refine s_get C L 17 (by decide) rfl lv b2 d_Sv_back_1 ?_
    refine j_iload_n C 1 d_Sv_back_4 rfl rfl ?_
    refine j_icmp_le (tgt := 64) C d_Sv_back_5 (by decide) (rgi (by omega) (by omega)) (rgi (by omega) (by omega)) (fun c => ?_) (fun c => ?_)
    · refine j_aload_n C 0 d_Sv_back_64 rfl rfl ?_
      refine j_aload_n C 0 d_Sv_back_65 rfl rfl ?_
      refine s_get C L 16 (by decide) rfl ((if lv < S0 17 0 then S0 15 lv else S0 16 0)) b3 d_Sv_back_66 ?_
      refine s_put C L 18 (by decide) rfl rfl rfl d_Sv_back_69 ?_
      have hx : (if lv < S0 17 0 then S0 15 lv else S0 16 0) = (if to < S0 17 0 then S0 15 to else S0 16 0) := by
        rcases q2 with e | e
        · rw [if_neg (by omega), if_neg (by omega)]
        · rw [show lv = to by omega]
      refine j_vret C Z d_Sv_back_72 (hp _ ⟨fun k k1 k2 k3 k4 => ?_, ?_, ?_, ?_, ?_⟩)
      · rw [← b1 k k1 k2 k3, u2_n _ _ _ k4]
      · show S 17 0 = _
        rw [b2]; split <;> omega
      · show S 16 0 = _
        rw [b3, hx]
      · rw [u2_ss]; exact b3.symm
      · show Undo (S0 11) (S 11) (S0 14) (S 16 0) (S0 16 0)
        rw [b3]; exact b4
    · refine j_aload_n C 0 d_Sv_back_8 rfl rfl ?_
      refine j_dup C d_Sv_back_9 rfl ?_
      refine s_get C L 17 (by decide) rfl lv b2 d_Sv_back_10 ?_
      refine j_iconst C d_Sv_back_13 ?_
      refine j_isub C d_Sv_back_14 ?_
      refine s_put C L 17 (by decide) rfl rfl rfl d_Sv_back_15 ?_
      refine lp_back2 C hR ht hL hcs S0 hn hA hT to (lv - 1) (by omega) (by omega) (fun S1 B1 => ih S1 (lv - 1) (by omega) (Or.inr ⟨by omega, by omega⟩) (by rw [if_pos (by omega)]; exact B1)) ((if lv < S0 17 0 then S0 15 lv else S0 16 0) - S0 15 (lv - 1)).toNat.succ _ (if lv < S0 17 0 then S0 15 lv else S0 16 0) (by omega) ?_ ⟨fun k k1 k2 k3 => ?_, u2_ss _ _ _ _, b3, b4, b5, b6⟩
      · have x := hT.2.1 (lv - 1) (by omega) (by omega)
        split
        · have y := hT.2.2.1 (lv - 1) lv (by omega) (by omega) (by omega); omega
        · omega
      · rw [← b1 k k1 k2 k3, u2_n _ _ _ k3]
theorem c_Sv_back (l : Launch) (D : va_G) (h0 : Nat) (ad : Nat → Nat) (cA : Nat → ClassId) (S : Sv) (hn : S 0 0 ≤ 16) (hA : TrA (S 0 0) (S 11) (S 14) (S 16 0)) (hT : TrL (S 12) (S 14) (S 15) (S 16 0) (S 17 0)) (to : Int) (h0t : 0 ≤ to) (hto : to ≤ 100) : CV l y_Sv_back b_Sv_back 2 0 D (sty cA) [.ref h0, jv to] (sw h0 ad cA) S (fun u => BackTo S u to) := by
  refine CV.of (by decide) (Nat.le_of_ble_eq_true rfl) (fun K C hR ht hL hcs Z => ?_)
  have C : Ok K R_Sv b_Sv_back := C
  have L := Ln_Sv (h0 := h0) (ad := ad) ht
  show J K (sw h0 ad cA S) 0 [(0, .ref h0), (1, jv to)] []
  exact lp_back1 C hR ht hL hcs Z S hn hA hT to h0t hto (fun u h => h) (S 17 0 - to).toNat.succ S (S 17 0) (by omega) (Or.inl rfl) (by rw [if_neg (by omega)]; exact ⟨fun _ _ _ _ => rfl, rfl, rfl, Undo.rf _ _ _, hA.1, Int.le_refl _⟩)
theorem lp_best {K : Cx} {h0 : Nat} {ad : Nat → Nat} {cA : Nat → ClassId} (C : Ok K R_Sv b_Sv_watchBest) (hR : xR K = rmL 2) (ht : xt K = sty cA) (hL : xL K = 5) (hcs : xn K ≤ (xR K).cells ∧ xk K ≤ (xR K).slots) {post : Sv → Prop} (Z : RV K (sw h0 ad cA) post) (S : Sv) (a e : Int) (h1 : 0 ≤ a) (h2 : a < e) (h3 : e ≤ 9872) (hl : ∀ p, a ≤ p → p < e → 0 ≤ S 2 p ∧ S 2 p < 32 ∧ rg (vOf (S 11) (S 2 p)) ∧ (vOf (S 11) (S 2 p) < 0 → rg (S 12 (S 2 p / 2)))) (hp : ∀ u, (∃ b, a ≤ b ∧ b < e ∧ (∀ p, a ≤ p → p < e → rk S (S 2 p) ≤ rk S (S 2 b)) ∧ u = u2 (u2 S 2 a (S 2 b)) 2 b (S 2 a)) → post u) :
    ∀ (n : Nat) (b k : Int), e - k < n → a ≤ b → b < k → k ≤ e → (∀ p, a ≤ p → p < k → rk S (S 2 p) ≤ rk S (S 2 b)) → J K (sw h0 ad cA S) 7 [(0, .ref h0), (1, jv a), (2, jv e), (3, jv b), (4, jv k)] [] := by
  have L := Ln_Sv (h0 := h0) (ad := ad) ht
  have rkr : ∀ p, a ≤ p → p < e → rg (rk S (S 2 p)) := fun p x y => by
    unfold rk; have := hl p x y; split
    · exact this.2.2.2 (by assumption)
    · exact rgi (by omega) (by omega)
  intro n
  induction n with
  | zero => intro b k q1; omega
  | succ n ih =>
    intro b k q1 q2 q3 q4 q5
    refine j_iload C 4 d_Sv_watchBest_7 rfl ?_
    refine j_iload_n C 2 d_Sv_watchBest_9 rfl rfl ?_
    refine j_icmp_ge (tgt := 46) C d_Sv_watchBest_10 (by decide) (rgi (by omega) (by omega)) (rgi (by omega) (by omega)) (fun c => ?_) (fun c => ?_)
    · refine j_aload_n C 0 d_Sv_watchBest_46 rfl rfl ?_
      refine s_getA C L 2 (by decide) rfl d_Sv_watchBest_47 ?_
      refine j_iload_n C 1 d_Sv_watchBest_50 rfl rfl ?_
      refine s_iald C L 2 9872 (by decide) rfl rfl (S 2 a) rfl (by omega) (by omega) d_Sv_watchBest_51 ?_
      refine j_istore (lv' := [(0, .ref h0), (1, jv a), (2, jv e), (3, jv b), (4, jv (S 2 a))]) C d_Sv_watchBest_52 (by rw [hL]; decide) rfl rfl ?_
      refine j_aload_n C 0 d_Sv_watchBest_54 rfl rfl ?_
      refine s_getA C L 2 (by decide) rfl d_Sv_watchBest_55 ?_
      refine j_iload_n C 1 d_Sv_watchBest_58 rfl rfl ?_
      refine j_aload_n C 0 d_Sv_watchBest_59 rfl rfl ?_
      refine s_getA C L 2 (by decide) rfl d_Sv_watchBest_60 ?_
      refine j_iload_n C 3 d_Sv_watchBest_63 rfl rfl ?_
      refine s_iald C L 2 9872 (by decide) rfl rfl (S 2 b) rfl (by omega) (by omega) d_Sv_watchBest_64 ?_
      refine s_iast C L 2 9872 (by decide) rfl rfl (by omega) (by omega) d_Sv_watchBest_65 ?_
      refine j_aload_n C 0 d_Sv_watchBest_66 rfl rfl ?_
      refine s_getA C L 2 (by decide) rfl d_Sv_watchBest_67 ?_
      refine j_iload_n C 3 d_Sv_watchBest_70 rfl rfl ?_
      refine j_iload C 4 d_Sv_watchBest_71 rfl ?_
      refine s_iast C L 2 9872 (by decide) rfl rfl (by omega) (by omega) d_Sv_watchBest_73 ?_
      exact j_vret C Z d_Sv_watchBest_74 (hp _ ⟨b, q2, by omega, fun p x y => q5 p x (by omega), rfl⟩)
    · have lk := hl k (by omega) (by omega)
      have lb := hl b (by omega) (by omega)
      refine j_aload_n C 0 d_Sv_watchBest_13 rfl rfl ?_
      refine j_aload_n C 0 d_Sv_watchBest_14 rfl rfl ?_
      refine s_getA C L 2 (by decide) rfl d_Sv_watchBest_15 ?_
      refine j_iload C 4 d_Sv_watchBest_18 rfl ?_
      refine s_iald C L 2 9872 (by decide) rfl rfl (S 2 k) rfl (by omega) (by omega) d_Sv_watchBest_20 ?_
      refine j_callI (wr := []) (As := [jv (S 2 k)]) (rest := []) (w := sw h0 ad cA) (u0 := S) C (c_Sv_rank _ _ h0 ad cA S (S 2 k) lk.1 lk.2.1 lk.2.2.1) (by rw [ht]; exact fun _ h => h) lk_Sv_111 rfl (q0 := 0) rfl rfl (by rw [hR]; decide) hcs d_Sv_watchBest_21 rfl (Nat.le_of_ble_eq_true rfl) (fun z1 u1 hz1 => ?_)
      obtain ⟨rfl, hz1⟩ := hz1
      have hz1 : z1 = rk u1 (u1 2 k) := hz1
      subst hz1
      refine j_aload_n C 0 d_Sv_watchBest_24 rfl rfl ?_
      refine j_aload_n C 0 d_Sv_watchBest_25 rfl rfl ?_
      refine s_getA C L 2 (by decide) rfl d_Sv_watchBest_26 ?_
      refine j_iload_n C 3 d_Sv_watchBest_29 rfl rfl ?_
      refine s_iald C L 2 9872 (by decide) rfl rfl (u1 2 b) rfl (by omega) (by omega) d_Sv_watchBest_30 ?_
      refine j_callI (wr := []) (As := [jv (u1 2 b)]) (rest := [jv (rk u1 (u1 2 k))]) (w := sw h0 ad cA) (u0 := u1) C (c_Sv_rank _ _ h0 ad cA u1 (u1 2 b) lb.1 lb.2.1 lb.2.2.1) (by rw [ht]; exact fun _ h => h) lk_Sv_111 rfl (q0 := 0) rfl rfl (by rw [hR]; decide) hcs d_Sv_watchBest_31 rfl (Nat.le_of_ble_eq_true rfl) (fun z2 u2_ hz2 => ?_)
      obtain ⟨rfl, hz2⟩ := hz2
      have hz2 : z2 = rk u2_ (u2_ 2 b) := hz2
      subst hz2
      refine j_icmp_le (tgt := 40) C d_Sv_watchBest_34 (by decide) (rkr k (by omega) (by omega)) (rkr b (by omega) (by omega)) (fun d => ?_) (fun d => ?_)
      · refine j_iinc (lv' := [(0, .ref h0), (1, jv a), (2, jv e), (3, jv b), (4, jv (k + 1))]) C 4 d_Sv_watchBest_40 rfl (by rw [hL]; decide) rfl rfl ?_
        refine j_goto (tgt := 7) C d_Sv_watchBest_43 (by decide) ?_
        exact ih b (k + 1) (by omega) q2 (by omega) (by omega) (fun p x y => by
          by_cases z : p = k
          · rw [z]; exact d
          · exact q5 p x (by omega))
      · refine j_iload C 4 d_Sv_watchBest_37 rfl ?_
        refine j_istore_n (lv' := [(0, .ref h0), (1, jv a), (2, jv e), (3, jv k), (4, jv k)]) C d_Sv_watchBest_39 rfl (by rw [hL]; decide) rfl rfl ?_
        refine j_iinc (lv' := [(0, .ref h0), (1, jv a), (2, jv e), (3, jv k), (4, jv (k + 1))]) C 4 d_Sv_watchBest_40 rfl (by rw [hL]; decide) rfl rfl ?_
        refine j_goto (tgt := 7) C d_Sv_watchBest_43 (by decide) ?_
        exact ih k (k + 1) (by omega) (by omega) (by omega) (by omega) (fun p x y => by
          by_cases z : p = k
          · rw [z]; exact Int.le_refl _
          · have := q5 p x (by omega); omega)
theorem c_Sv_watchBest (l : Launch) (D : va_G) (h0 : Nat) (ad : Nat → Nat) (cA : Nat → ClassId) (S : Sv) (a e : Int) (h1 : 0 ≤ a) (h2 : a < e) (h3 : e ≤ 9872) (hl : ∀ p, a ≤ p → p < e → 0 ≤ S 2 p ∧ S 2 p < 32 ∧ rg (vOf (S 11) (S 2 p)) ∧ (vOf (S 11) (S 2 p) < 0 → rg (S 12 (S 2 p / 2)))) : CV l y_Sv_watchBest b_Sv_watchBest 5 2 D (sty cA) [.ref h0, jv a, jv e] (sw h0 ad cA) S (fun u => ∃ b, a ≤ b ∧ b < e ∧ (∀ p, a ≤ p → p < e → rk S (S 2 p) ≤ rk S (S 2 b)) ∧ u = u2 (u2 S 2 a (S 2 b)) 2 b (S 2 a)) := by
  refine CV.of (by decide) (Nat.le_of_ble_eq_true rfl) (fun K C hR ht hL hcs Z => ?_)
  have C : Ok K R_Sv b_Sv_watchBest := C
  have L := Ln_Sv (h0 := h0) (ad := ad) ht
  show J K (sw h0 ad cA S) 0 [(0, .ref h0), (1, jv a), (2, jv e)] []
  refine j_iload_n C 1 d_Sv_watchBest_0 rfl rfl ?_
  refine j_istore_n (lv' := [(0, .ref h0), (1, jv a), (2, jv e), (3, jv a)]) C d_Sv_watchBest_1 rfl (by rw [hL]; decide) rfl rfl ?_
  refine j_iload_n C 1 d_Sv_watchBest_2 rfl rfl ?_
  refine j_iconst C d_Sv_watchBest_3 ?_
  refine j_iadd C d_Sv_watchBest_4 ?_
  refine j_istore (lv' := [(0, .ref h0), (1, jv a), (2, jv e), (3, jv a), (4, jv (a + 1))]) C d_Sv_watchBest_5 (by rw [hL]; decide) rfl rfl ?_
  exact lp_best C hR ht hL hcs Z S a e h1 h2 h3 hl (fun u h => h) (e - a).toNat.succ a (a + 1) (by omega) (by omega) (by omega) (by omega) (fun p x y => by rw [show p = a by omega]; exact Int.le_refl _)
end
section
/-! pure: what the loops of propagate keep -/
theorem wl_ng (lit start : Int → Int) (w : Int) : wl lit start (ng w) = lit (start (w / 2) + 1 - w % 2) := by
  unfold wl
  rw [ng_div, show ng w % 2 = 1 - w % 2 by unfold ng; omega]
  congr 1; omega
/-- what propagation leaves as it is; the trail only grows -/
def Fx (S0 S : Sv) : Prop := (∀ k, k ≠ 2 → k ≠ 4 → k ≠ 10 → k ≠ 11 → k ≠ 12 → k ≠ 13 → k ≠ 14 → k ≠ 16 → k ≠ 18 → S k = S0 k) ∧ S0 16 0 ≤ S 16 0
theorem Fx.rf (S : Sv) : Fx S S := ⟨fun _ _ _ _ _ _ _ _ _ _ => rfl, Int.le_refl _⟩
/-- at the head of the outer loop -/
def PA (Mod : (Int → Bool) → Prop) (S0 S : Sv) : Prop := Iv Mod S (S 18 0) 0 [] ∧ 0 ≤ S 18 0 ∧ S 18 0 ≤ S 16 0 ∧ (0 < S 17 0 → S 15 (S 17 0 - 1) ≤ S 18 0) ∧ Fx S0 S
/-- at the head of the inner loop -/
def PB (Mod : (Int → Bool) → Prop) (S0 S : Sv) (g w : Int) (P : List Int) : Prop := Iv Mod S (S 18 0) g P ∧ chain (S 4) w P ∧ S 14 (S 18 0 - 1) = ng g ∧ 0 < S 18 0 ∧ S 18 0 ≤ S 16 0 ∧ (0 < S 17 0 → S 15 (S 17 0 - 1) < S 18 0) ∧ Fx S0 S ∧ 0 ≤ g ∧ g < 32
/-- behind propagation: nothing more follows, or a clause is false -/
def PZ (Mod : (Int → Bool) → Prop) (S0 : Sv) (z : Int) (u : Sv) : Prop := Fx S0 u ∧ ((z = -1 ∧ Iv Mod u (u 16 0) 0 [] ∧ u 18 0 = u 16 0) ∨ (0 ≤ z ∧ z < u 6 0 ∧ (∀ l, Inc (u 2) (u 3) z l → vOf (u 11) l < 0) ∧ Iv Mod u (if 0 < u 17 0 then u 15 (u 17 0 - 1) else 0) 0 []))
section
variable {Mod : (Int → Bool) → Prop} {S0 S : Sv} {g w : Int} {P : List Int}
theorem PA.take (h : PA Mod S0 S) (h1 : S 18 0 < S 16 0) : ∃ P, PB Mod S0 (u2 (u2 S 18 0 (S 18 0 + 1)) 10 (ng (S 14 (S 18 0))) (-1)) (ng (S 14 (S 18 0))) (S 10 (ng (S 14 (S 18 0)))) P := by
  obtain ⟨hI, h2, h3, h4, h5⟩ := h
  obtain ⟨P, c, hI'⟩ := hI.take h2 h1
  have hn := hI.n
  have t := hI.a.2.1 _ h2 h1
  have e18 : (u2 (u2 S 18 0 (S 18 0 + 1)) 10 (ng (S 14 (S 18 0))) (-1)) 18 0 = S 18 0 + 1 := by show up (S 18) 0 (S 18 0 + 1) 0 = S 18 0 + 1; rw [up_s]
  refine ⟨P, ?_⟩
  unfold PB
  rw [e18]
  refine ⟨hI', c, ?_, by omega, by show S 18 0 + 1 ≤ S 16 0; omega, fun q => ?_, ⟨fun k k1 k2 k3 k4 k5 k6 k7 k8 k9 => ?_, h5.2⟩, ng_lo t.1, ?_⟩
  · show S 14 (S 18 0 + 1 - 1) = _
    rw [ng_ng, show S 18 0 + 1 - 1 = S 18 0 by omega]
  · have := h4 q
    show S 15 (S 17 0 - 1) < S 18 0 + 1; omega
  · rw [← h5.1 k k1 k2 k3 k4 k5 k6 k7 k8 k9, u2_n _ _ _ k3, u2_n _ _ _ k9]
  · have := ng_hi t.2.1; omega
theorem PB.end' (h : PB Mod S0 S g w P) (hw : w < 0) : PA Mod S0 S := by
  obtain ⟨hI, hc, h1, h2, h3, h4, h5, h6, h7⟩ := h
  rw [hc.neg hw] at hI
  exact ⟨hI.any 0, by omega, h3, fun q => by have := h4 q; omega, h5⟩
theorem PB.lev (h : PB Mod S0 S g w P) : S 12 (g / 2) = S 17 0 := by
  obtain ⟨hI, hc, h1, h2, h3, h4, h5, h6, h7⟩ := h
  have a := hI.l.2.2.2 (S 18 0 - 1) (by omega) (by omega)
  rw [h1, ng_div] at a
  rcases Int.lt_or_le (S 12 (g / 2)) (S 17 0) with z | z
  · have b := a.2.2.2 z
    have c := hI.l.beg_le (j := S 12 (g / 2)) (k := S 17 0 - 1) a.1 (by omega) (by omega)
    have d := h4 (by omega)
    omega
  · omega
theorem PB.fal (h : PB Mod S0 S g w P) : vOf (S 11) g < 0 := by
  obtain ⟨hI, hc, h1, h2, h3, h4, h5, h6, h7⟩ := h
  have a := hI.a.2.1 (S 18 0 - 1) (by omega) (by omega)
  rw [h1] at a
  have b : g < 2 * S 0 0 := by rw [← ng_ng g]; exact ng_hi a.2.1
  exact (hI.a.f h6 b).mpr ⟨S 18 0 - 1, by omega, by omega, h1⟩
/-- the next watch: its places -/
theorem PB.pos (h : PB Mod S0 S g w P) (hw : ¬ w < 0) : ∃ P', P = w :: P' ∧ chain (S 4) (S 4 w) P' ∧ w < 2 * S 6 0 ∧ S 2 (S 3 (w / 2) + w % 2) = g ∧ 0 ≤ S 3 (w / 2) ∧ S 3 (w / 2) + 2 ≤ S 3 (w / 2 + 1) ∧ S 3 (w / 2 + 1) ≤ 9600 ∧ S 6 0 ≤ 600 ∧ S 0 0 ≤ 16 ∧ (0 ≤ wl (S 2) (S 3) (ng w) ∧ wl (S 2) (S 3) (ng w) < 2 * S 0 0) ∧ (∀ p, S 3 (w / 2) ≤ p → p < S 3 (w / 2 + 1) → 0 ≤ S 2 p ∧ S 2 p < 2 * S 0 0) ∧ -1 ≤ S 4 w ∧ S 4 w < 1200 := by
  obtain ⟨hI, hc, h1, h2, h3, h4, h5, h6, h7⟩ := h
  obtain ⟨P', e, hc'⟩ := hc.pos hw
  subst e
  have hw := hI.wP h6 h7 List.mem_cons_self
  have z := hI.cl.at (c := w / 2) (by omega) (by omega)
  have r := hI.rng
  refine ⟨P', rfl, hc', hw.2.1, hw.2.2, z.1, z.2.1, by omega, r.2.1, hI.n.2, hI.cl.wl (ng_lo hw.1) (ng_hi hw.2.1), fun p a b => hI.cl.lit (c := w / 2) (by omega) (by omega) a b, hc'.ge, ?_⟩
  rcases Int.lt_or_le (S 4 w) 0 with y | y
  · omega
  · obtain ⟨r', e, -⟩ := hc'.pos (by omega)
    have := hI.wP h6 h7 (x := S 4 w) (by rw [e]; simp)
    omega
theorem PB.move {k : Int} (h : PB Mod S0 S g w (w :: P)) (hc : chain (S 4) (S 4 w) P) (hk : S 3 (w / 2) + 2 ≤ k) (hk2 : k < S 3 (w / 2 + 1)) (hkv : ¬ vOf (S 11) (S 2 k) < 0) : PB Mod S0 (lookS (u2 (u2 S 2 (S 3 (w / 2) + w % 2) (S 2 k)) 2 k g) (w / 2) (w % 2)) g (S 4 w) P := by
  have hf := h.fal
  obtain ⟨hI, hc0, h1, h2, h3, h4, h5, h6, h7⟩ := h
  obtain ⟨c', hI'⟩ := hI.move hc h6 h7 h3 hf hk hk2 hkv
  refine ⟨hI', c', h1, h2, h3, h4, ⟨fun k k1 k2 k3 k4 k5 k6 k7 k8 k9 => ?_, h5.2⟩, h6, h7⟩
  rw [← h5.1 k k1 k2 k3 k4 k5 k6 k7 k8 k9]
  unfold lookS
  rw [u2_n _ _ _ k3, u2_n _ _ _ k2, u2_n _ _ _ k1, u2_n _ _ _ k1]
theorem PB.stayT (h : PB Mod S0 S g w (w :: P)) (hc : chain (S 4) (S 4 w) P) (ho : 0 < vOf (S 11) (wl (S 2) (S 3) (ng w))) : PB Mod S0 (u2 (u2 S 4 w (S 10 g)) 10 g w) g (S 4 w) P := by
  have hl := h.lev
  obtain ⟨hI, hc0, h1, h2, h3, h4, h5, h6, h7⟩ := h
  have hw := hI.wP h6 h7 List.mem_cons_self
  have o := hI.cl.wl (w := ng w) (ng_lo hw.1) (ng_hi hw.2.1)
  obtain ⟨j, j1, j2, j3⟩ := (hI.a.t o.1 o.2).mp ho
  have q := hI.l.2.2.2 j j1 j2
  rw [j3] at q
  refine ⟨hI.stayT hc h6 h7 ho (by omega), (hI.stay hc h6 h7).1, h1, h2, h3, h4, ⟨fun k k1 k2 k3 k4 k5 k6 k7 k8 k9 => ?_, h5.2⟩, h6, h7⟩
  rw [← h5.1 k k1 k2 k3 k4 k5 k6 k7 k8 k9, u2_n _ _ _ k3, u2_n _ _ _ k2]
/-- at the level 0 what a clause leaves is true in each model -/
theorem Iv.unit {D : Int} (h : Iv Mod S D g P) {c o : Int} (hc : 0 ≤ c) (hc2 : c < S 6 0) (h0 : S 17 0 = 0) (hall : ∀ l, Inc (S 2) (S 3) c l → l ≠ o → vOf (S 11) l < 0) : ∀ μ, Mod μ → sat μ o := by
  intro μ hm
  obtain ⟨l, hl, hs⟩ := h.s.1 μ hm c hc hc2
  by_cases e : l = o
  · exact e ▸ hs
  · exfalso
    have hf := hall l hl e
    obtain ⟨p, p1, p2, p3⟩ := hl
    have m := h.cl.lit hc hc2 p1 p2
    rw [p3] at m
    obtain ⟨j, j1, j2, j3⟩ := (h.a.f m.1 m.2).mp hf
    have q := h.l.2.2.2 j j1 j2
    have := h.s.2.1 μ hm j j1 j2 (by omega)
    rw [j3, sat_ng] at this
    exact this hs
/-- all of a clause but one are false -/
theorem PB.others (h : PB Mod S0 S g w (w :: P)) (hall : ∀ p, S 3 (w / 2) + 2 ≤ p → p < S 3 (w / 2 + 1) → vOf (S 11) (S 2 p) < 0) : ∀ l, Inc (S 2) (S 3) (w / 2) l → l ≠ wl (S 2) (S 3) (ng w) → vOf (S 11) l < 0 := by
  have hf := h.fal
  obtain ⟨hI, hc0, h1, h2, h3, h4, h5, h6, h7⟩ := h
  have hw := hI.wP h6 h7 List.mem_cons_self
  rintro l ⟨p, p1, p2, p3⟩ hne
  have n1 : ng w / 2 = w / 2 := ng_div w
  have n2 : ng w % 2 = 1 - w % 2 := by unfold ng; omega
  by_cases e1 : p = S 3 (w / 2) + w % 2
  · have : l = g := by rw [← p3, e1]; exact hw.2.2
    rw [this]; exact hf
  · by_cases e2 : p = S 3 (w / 2) + ng w % 2
    · exfalso; apply hne; rw [← p3, e2]; unfold wl; rw [n1]
    · rw [← p3]; exact hall p (by omega) p2
theorem PB.staySet (h : PB Mod S0 S g w (w :: P)) (hc : chain (S 4) (S 4 w) P) (ho : vOf (S 11) (wl (S 2) (S 3) (ng w)) = 0) (hall : ∀ p, S 3 (w / 2) + 2 ≤ p → p < S 3 (w / 2 + 1) → vOf (S 11) (S 2 p) < 0) : PB Mod S0 (setS (u2 (u2 S 4 w (S 10 g)) 10 g w) (wl (S 2) (S 3) (ng w)) (w / 2)) g (S 4 w) P := by
  have hl := h.lev
  have hoth := h.others hall
  obtain ⟨hI, hc0, h1, h2, h3, h4, h5, h6, h7⟩ := h
  have hw := hI.wP h6 h7 List.mem_cons_self
  have e16 : (setS (u2 (u2 S 4 w (S 10 g)) 10 g w) (wl (S 2) (S 3) (ng w)) (w / 2)) 16 0 = S 16 0 + 1 := by show up (S 16) 0 (S 16 0 + 1) 0 = S 16 0 + 1; rw [up_s]
  refine ⟨hI.staySet hc h6 h7 h2 h3 h1 hl (fun e => hI.unit (c := w / 2) (by omega) (by omega) e hoth) ho hall, (hI.stay hc h6 h7).1, ?_, h2, ?_, h4, ⟨fun k k1 k2 k3 k4 k5 k6 k7 k8 k9 => ?_, ?_⟩, h6, h7⟩
  · show up (S 14) (S 16 0) _ (S 18 0 - 1) = _
    rw [up_n _ _ (by omega)]; exact h1
  · rw [e16]; show S 18 0 ≤ _; omega
  · rw [← h5.1 k k1 k2 k3 k4 k5 k6 k7 k8 k9]
    unfold setS
    rw [u2_n _ _ _ k8, u2_n _ _ _ k7, u2_n _ _ _ k6, u2_n _ _ _ k5, u2_n _ _ _ k4, u2_n _ _ _ k3, u2_n _ _ _ k2]
  · rw [e16]; have := h5.2; omega
theorem PB.conf {u : Sv} (h : PB Mod S0 S g w (w :: P)) (ho : vOf (S 11) (wl (S 2) (S 3) (ng w)) < 0) (hall : ∀ p, S 3 (w / 2) + 2 ≤ p → p < S 3 (w / 2 + 1) → vOf (S 11) (S 2 p) < 0) (hu : ∀ k, k ≠ 4 → k ≠ 10 → u k = (u2 (u2 S 4 w (S 10 g)) 10 g w) k) (hW : Wl (wl (S 2) (S 3)) (u 4) (u 10) (S 6 0) g []) : PZ Mod S0 (w / 2) u := by
  have hoth := h.others hall
  obtain ⟨hI, hc0, h1, h2, h3, h4, h5, h6, h7⟩ := h
  have hw := hI.wP h6 h7 List.mem_cons_self
  have eu : ∀ k, k ≠ 4 → k ≠ 10 → u k = S k := fun k a b => by rw [hu k a b, u2_n _ _ _ b, u2_n _ _ _ a]
  have e0 := eu 0 (by decide) (by decide)
  have e1 := eu 1 (by decide) (by decide)
  have e2 := eu 2 (by decide) (by decide)
  have e3 := eu 3 (by decide) (by decide)
  have e5 := eu 5 (by decide) (by decide)
  have e6 := eu 6 (by decide) (by decide)
  have e7 := eu 7 (by decide) (by decide)
  have e8 := eu 8 (by decide) (by decide)
  have e11 := eu 11 (by decide) (by decide)
  have e12 := eu 12 (by decide) (by decide)
  have e13 := eu 13 (by decide) (by decide)
  have e14 := eu 14 (by decide) (by decide)
  have e15 := eu 15 (by decide) (by decide)
  have e16 := eu 16 (by decide) (by decide)
  have e17 := eu 17 (by decide) (by decide)
  refine ⟨⟨fun k k1 k2 k3 k4 k5 k6 k7 k8 k9 => by rw [eu k k2 k3]; exact h5.1 k k1 k2 k3 k4 k5 k6 k7 k8 k9, by rw [e16]; exact h5.2⟩, Or.inr ⟨by omega, by rw [e6]; omega, ?_, ?_⟩⟩
  · rw [e2, e3, e11]
    intro l hl
    by_cases e : l = wl (S 2) (S 3) (ng w)
    · rw [e]; exact ho
    · exact hoth l hl e
  · unfold Iv
    rw [e0, e1, e2, e3, e5, e6, e7, e8, e11, e12, e13, e14, e15, e16, e17]
    refine ⟨hI.n, hI.cl, hI.a, hI.l, hI.r, hI.d, hI.s, hI.c, hW.any, hI.t.less ?_⟩
    split
    · exact h4 (by assumption)
    · exact h2
theorem PA.end' (h : PA Mod S0 S) (hd : S 16 0 ≤ S 18 0) : PZ Mod S0 (-1) S := by
  obtain ⟨hI, h1, h2, h3, h4⟩ := h
  have e : S 18 0 = S 16 0 := by omega
  exact ⟨h4, Or.inl ⟨rfl, by rw [← e]; exact hI, e⟩⟩
end
end
section
/-! propagate -/
theorem lp_prop3 {K : Cx} {h0 : Nat} {ad : Nat → Nat} {cA : Nat → ClassId} (C : Ok K R_Sv b_Sv_propagate) (hR : xR K = rmL 2) (ht : xt K = sty cA) (hL : xL K = 8) (hcs : xn K ≤ (xR K).cells ∧ xk K ≤ (xR K).slots) (S : Sv) (g w : Int) (w1 : 0 ≤ w) (w2 : w < 1200) (b1 : 0 ≤ S 3 (w / 2)) (b2 : S 3 (w / 2 + 1) ≤ 9600) (hl : ∀ p, S 3 (w / 2) ≤ p → p < S 3 (w / 2 + 1) → 0 ≤ S 2 p ∧ S 2 p < 32 ∧ rg (vOf (S 11) (S 2 p))) (kk : ∀ k, S 3 (w / 2) + 2 ≤ k → k ≤ S 3 (w / 2 + 1) → (∀ p, S 3 (w / 2) + 2 ≤ p → p < k → vOf (S 11) (S 2 p) < 0) → (k < S 3 (w / 2 + 1) → ¬ vOf (S 11) (S 2 k) < 0) → J K (sw h0 ad cA S) 138 [(0, .ref h0), (1, jv g), (2, jv w), (3, jv (w / 2)), (4, jv (w % 2)), (5, jv (S 4 w)), (6, jv (wl (S 2) (S 3) (ng w))), (7, jv k)] []) :
    ∀ (n : Nat) (k : Int), S 3 (w / 2 + 1) - k < n → S 3 (w / 2) + 2 ≤ k → k ≤ S 3 (w / 2 + 1) → (∀ p, S 3 (w / 2) + 2 ≤ p → p < k → vOf (S 11) (S 2 p) < 0) → J K (sw h0 ad cA S) 105 [(0, .ref h0), (1, jv g), (2, jv w), (3, jv (w / 2)), (4, jv (w % 2)), (5, jv (S 4 w)), (6, jv (wl (S 2) (S 3) (ng w))), (7, jv k)] [] := by
  have L := Ln_Sv (h0 := h0) (ad := ad) ht
  intro n
  induction n with
  | zero => intro k q1; omega
  | succ n ih =>
    intro k q1 q2 q3 q4
    refine j_iload C 7 d_Sv_propagate_105 rfl ?_
    refine j_aload_n C 0 d_Sv_propagate_107 rfl rfl ?_
    refine s_getA C L 3 (by decide) rfl d_Sv_propagate_108 ?_
    refine j_iload_n C 3 d_Sv_propagate_111 rfl rfl ?_
    refine j_iconst C d_Sv_propagate_112 ?_
    refine j_iadd C d_Sv_propagate_113 ?_
    refine s_iald C L 3 618 (by decide) rfl rfl (S 3 ((w / 2) + 1)) rfl (by omega) (by omega) d_Sv_propagate_114 ?_
    refine j_icmp_ge (tgt := 138) C d_Sv_propagate_115 (by decide) (rgi (by omega) (by omega)) (rgi (by omega) (by omega)) (fun c => ?_) (fun c => ?_)
    · exact kk k q2 q3 q4 (fun q => absurd q (by omega))
    · have lk := hl k (by omega) (by omega)
      refine j_aload_n C 0 d_Sv_propagate_118 rfl rfl ?_
      refine j_aload_n C 0 d_Sv_propagate_119 rfl rfl ?_
      refine s_getA C L 2 (by decide) rfl d_Sv_propagate_120 ?_
      refine j_iload C 7 d_Sv_propagate_123 rfl ?_
      refine s_iald C L 2 9872 (by decide) rfl rfl (S 2 k) rfl (by omega) (by omega) d_Sv_propagate_125 ?_
      refine j_callI (wr := []) (As := [jv (S 2 k)]) (rest := []) (w := sw h0 ad cA) (u0 := S) C (c_Sv_valueOf _ _ h0 ad cA S (S 2 k) lk.1 lk.2.1) (by rw [ht]; exact fun _ h => h) lk_Sv_90 rfl (q0 := 0) rfl rfl (by rw [hR]; decide) hcs d_Sv_propagate_126 rfl (Nat.le_of_ble_eq_true rfl) (fun z u hz => ?_)
      obtain ⟨rfl, rfl⟩ := hz
      refine j_if_ge (tgt := 138) C d_Sv_propagate_129 (by decide) lk.2.2 (fun d => ?_) (fun d => ?_)
      · exact kk k q2 q3 q4 (fun _ => by omega)
      · refine j_iinc (lv' := [(0, .ref h0), (1, jv g), (2, jv w), (3, jv (w / 2)), (4, jv (w % 2)), (5, jv (u 4 w)), (6, jv (wl (u 2) (u 3) (ng w))), (7, jv (k + 1))]) C 7 d_Sv_propagate_132 rfl (by rw [hL]; decide) rfl rfl ?_
        refine j_goto (tgt := 105) C d_Sv_propagate_135 (by decide) ?_
        exact ih (k + 1) (by omega) (by omega) (by omega) (fun p a b => by
          by_cases e : p = k
          · rw [e]; omega
          · exact q4 p a (by omega))
theorem lp_prop2 {K : Cx} {h0 : Nat} {ad : Nat → Nat} {cA : Nat → ClassId} (C : Ok K R_Sv b_Sv_propagate) (hR : xR K = rmL 2) (ht : xt K = sty cA) (hL : xL K = 8) (hcs : xn K ≤ (xR K).cells ∧ xk K ≤ (xR K).slots) {post : Int → Sv → Prop} (Z : RI K .int (sw h0 ad cA) post) (Mod : (Int → Bool) → Prop) (S0 S : Sv) (g w : Int) (P : List Int) (hPB : PB Mod S0 S g w (w :: P)) (hc : chain (S 4) (S 4 w) P) (hw : 0 ≤ w) (k : Int) (hk1 : S 3 (w / 2) + 2 ≤ k) (hk2 : k ≤ S 3 (w / 2 + 1)) (hk3 : ¬ 0 < vOf (S 11) (wl (S 2) (S 3) (ng w)) → ∀ p, S 3 (w / 2) + 2 ≤ p → p < k → vOf (S 11) (S 2 p) < 0) (hk4 : ¬ 0 < vOf (S 11) (wl (S 2) (S 3) (ng w)) → k < S 3 (w / 2 + 1) → ¬ vOf (S 11) (S 2 k) < 0) (hp : ∀ z u, PZ Mod S0 z u → post z u) (kk : ∀ S1, PB Mod S0 S1 g (S 4 w) P → S1 18 = S 18 → J K (sw h0 ad cA S1) 47 [(0, .ref h0), (1, jv g), (2, jv (S 4 w))] []) :
    J K (sw h0 ad cA S) 138 [(0, .ref h0), (1, jv g), (2, jv w), (3, jv (w / 2)), (4, jv (w % 2)), (5, jv (S 4 w)), (6, jv (wl (S 2) (S 3) (ng w))), (7, jv k)] [] := by
  have L := Ln_Sv (h0 := h0) (ad := ad) ht
  obtain ⟨P', eP, -, w2, eg, b1, b2, b3, b4, b5, ho, hl, n1, n2⟩ := hPB.pos (by omega)
  have vr := hPB.1.a.rng ho.1 ho.2
  have g1 := hPB.2.2.2.2.2.2.2.1
  have g2 := hPB.2.2.2.2.2.2.2.2
  have rn := hPB.1.rng
  have hst := hPB.1.stay hc g1 g2
  have rvo : rg (vOf (S 11) (wl (S 2) (S 3) (ng w))) := rgi (by omega) (by omega)
  refine j_aload_n C 0 d_Sv_propagate_138 rfl rfl ?_
  refine j_iload C 6 d_Sv_propagate_139 rfl ?_
  refine j_callI (wr := []) (As := [jv (wl (S 2) (S 3) (ng w))]) (rest := []) (w := sw h0 ad cA) (u0 := S) C (c_Sv_valueOf _ _ h0 ad cA S (wl (S 2) (S 3) (ng w)) ho.1 (by omega)) (by rw [ht]; exact fun _ h => h) lk_Sv_90 rfl (q0 := 0) rfl rfl (by rw [hR]; decide) hcs d_Sv_propagate_141 rfl (Nat.le_of_ble_eq_true rfl) (fun z u hz => ?_)
  obtain ⟨rfl, rfl⟩ := hz
  refine j_if_gt (tgt := 199) C d_Sv_propagate_144 (by decide) rvo (fun c => ?_) (fun c => ?_)
  · refine j_aload_n C 0 d_Sv_propagate_199 rfl rfl ?_
    refine s_getA C L 4 (by decide) rfl d_Sv_propagate_200 ?_
    refine j_iload_n C 2 d_Sv_propagate_203 rfl rfl ?_
    refine j_aload_n C 0 d_Sv_propagate_204 rfl rfl ?_
    refine s_getA C L 10 (by decide) rfl d_Sv_propagate_205 ?_
    refine j_iload_n C 1 d_Sv_propagate_208 rfl rfl ?_
    refine s_iald C L 10 32 (by decide) rfl rfl (u 10 g) rfl (by omega) (by omega) d_Sv_propagate_209 ?_
    refine s_iast C L 4 1234 (by decide) rfl rfl (by omega) (by omega) d_Sv_propagate_210 ?_
    refine j_aload_n C 0 d_Sv_propagate_211 rfl rfl ?_
    refine s_getA C L 10 (by decide) rfl d_Sv_propagate_212 ?_
    refine j_iload_n C 1 d_Sv_propagate_215 rfl rfl ?_
    refine j_iload_n C 2 d_Sv_propagate_216 rfl rfl ?_
    refine s_iast C L 10 32 (by decide) rfl rfl (by omega) (by omega) d_Sv_propagate_217 ?_
    refine j_aload_n C 0 d_Sv_propagate_218 rfl rfl ?_
    refine j_iload C 6 d_Sv_propagate_219 rfl ?_
    refine j_callI (wr := []) (As := [jv (wl (u 2) (u 3) (ng w))]) (rest := []) (w := sw h0 ad cA) (u0 := (u2 (u2 u 4 w (u 10 g)) 10 g w)) C (c_Sv_valueOf _ _ h0 ad cA (u2 (u2 u 4 w (u 10 g)) 10 g w) (wl (u 2) (u 3) (ng w)) ho.1 (by omega)) (by rw [ht]; exact fun _ h => h) lk_Sv_90 rfl (q0 := 0) rfl rfl (by rw [hR]; decide) hcs d_Sv_propagate_221 rfl (Nat.le_of_ble_eq_true rfl) (fun z u3 hz => ?_)
    obtain ⟨rfl, hz⟩ := hz
    have hz : z = vOf (u 11) (wl (u 2) (u 3) (ng w)) := hz
    subst hz
    refine j_if_ge (tgt := 236) C d_Sv_propagate_224 (by decide) rvo (fun d1 => ?_) (fun d1 => ?_)
    · refine j_aload_n C 0 d_Sv_propagate_236 rfl rfl ?_
      refine j_iload C 6 d_Sv_propagate_237 rfl ?_
      refine j_callI (wr := []) (As := [jv (wl (u 2) (u 3) (ng w))]) (rest := []) (w := sw h0 ad cA) (u0 := (u2 (u2 u 4 w (u 10 g)) 10 g w)) C (c_Sv_valueOf _ _ h0 ad cA (u2 (u2 u 4 w (u 10 g)) 10 g w) (wl (u 2) (u 3) (ng w)) ho.1 (by omega)) (by rw [ht]; exact fun _ h => h) lk_Sv_90 rfl (q0 := 0) rfl rfl (by rw [hR]; decide) hcs d_Sv_propagate_239 rfl (Nat.le_of_ble_eq_true rfl) (fun z u3 hz => ?_)
      obtain ⟨rfl, hz⟩ := hz
      have hz : z = vOf (u 11) (wl (u 2) (u 3) (ng w)) := hz
      subst hz
      refine j_if_ne (tgt := 252) C d_Sv_propagate_242 (by decide) rvo (fun d2 => ?_) (fun d2 => ?_)
      · refine j_iload C 5 d_Sv_propagate_252 rfl ?_
        refine j_istore_n (lv' := [(0, .ref h0), (1, jv g), (2, jv (u 4 w)), (3, jv (w / 2)), (4, jv (w % 2)), (5, jv (u 4 w)), (6, jv (wl (u 2) (u 3) (ng w))), (7, jv k)]) C d_Sv_propagate_254 rfl (by rw [hL]; decide) rfl rfl ?_
        refine j_goto (tgt := 47) C d_Sv_propagate_255 (by decide) ?_
        refine j_sub [0, 1, 2] rfl ?_
        exact kk _ (hPB.stayT hc (by omega)) rfl
      · omega
    · omega
  · refine j_iload C 7 d_Sv_propagate_147 rfl ?_
    refine j_aload_n C 0 d_Sv_propagate_149 rfl rfl ?_
    refine s_getA C L 3 (by decide) rfl d_Sv_propagate_150 ?_
    refine j_iload_n C 3 d_Sv_propagate_153 rfl rfl ?_
    refine j_iconst C d_Sv_propagate_154 ?_
    refine j_iadd C d_Sv_propagate_155 ?_
    refine s_iald C L 3 618 (by decide) rfl rfl (u 3 ((w / 2) + 1)) rfl (by omega) (by omega) d_Sv_propagate_156 ?_
    refine j_icmp_ge (tgt := 199) C d_Sv_propagate_157 (by decide) (rgi (by omega) (by omega)) (rgi (by omega) (by omega)) (fun e => ?_) (fun e => ?_)
    · refine j_aload_n C 0 d_Sv_propagate_199 rfl rfl ?_
      refine s_getA C L 4 (by decide) rfl d_Sv_propagate_200 ?_
      refine j_iload_n C 2 d_Sv_propagate_203 rfl rfl ?_
      refine j_aload_n C 0 d_Sv_propagate_204 rfl rfl ?_
      refine s_getA C L 10 (by decide) rfl d_Sv_propagate_205 ?_
      refine j_iload_n C 1 d_Sv_propagate_208 rfl rfl ?_
      refine s_iald C L 10 32 (by decide) rfl rfl (u 10 g) rfl (by omega) (by omega) d_Sv_propagate_209 ?_
      refine s_iast C L 4 1234 (by decide) rfl rfl (by omega) (by omega) d_Sv_propagate_210 ?_
      refine j_aload_n C 0 d_Sv_propagate_211 rfl rfl ?_
      refine s_getA C L 10 (by decide) rfl d_Sv_propagate_212 ?_
      refine j_iload_n C 1 d_Sv_propagate_215 rfl rfl ?_
      refine j_iload_n C 2 d_Sv_propagate_216 rfl rfl ?_
      refine s_iast C L 10 32 (by decide) rfl rfl (by omega) (by omega) d_Sv_propagate_217 ?_
      refine j_aload_n C 0 d_Sv_propagate_218 rfl rfl ?_
      refine j_iload C 6 d_Sv_propagate_219 rfl ?_
      refine j_callI (wr := []) (As := [jv (wl (u 2) (u 3) (ng w))]) (rest := []) (w := sw h0 ad cA) (u0 := (u2 (u2 u 4 w (u 10 g)) 10 g w)) C (c_Sv_valueOf _ _ h0 ad cA (u2 (u2 u 4 w (u 10 g)) 10 g w) (wl (u 2) (u 3) (ng w)) ho.1 (by omega)) (by rw [ht]; exact fun _ h => h) lk_Sv_90 rfl (q0 := 0) rfl rfl (by rw [hR]; decide) hcs d_Sv_propagate_221 rfl (Nat.le_of_ble_eq_true rfl) (fun z u3 hz => ?_)
      obtain ⟨rfl, hz⟩ := hz
      have hz : z = vOf (u 11) (wl (u 2) (u 3) (ng w)) := hz
      subst hz
      refine j_if_ge (tgt := 236) C d_Sv_propagate_224 (by decide) rvo (fun d1 => ?_) (fun d1 => ?_)
      · refine j_aload_n C 0 d_Sv_propagate_236 rfl rfl ?_
        refine j_iload C 6 d_Sv_propagate_237 rfl ?_
        refine j_callI (wr := []) (As := [jv (wl (u 2) (u 3) (ng w))]) (rest := []) (w := sw h0 ad cA) (u0 := (u2 (u2 u 4 w (u 10 g)) 10 g w)) C (c_Sv_valueOf _ _ h0 ad cA (u2 (u2 u 4 w (u 10 g)) 10 g w) (wl (u 2) (u 3) (ng w)) ho.1 (by omega)) (by rw [ht]; exact fun _ h => h) lk_Sv_90 rfl (q0 := 0) rfl rfl (by rw [hR]; decide) hcs d_Sv_propagate_239 rfl (Nat.le_of_ble_eq_true rfl) (fun z u3 hz => ?_)
        obtain ⟨rfl, hz⟩ := hz
        have hz : z = vOf (u 11) (wl (u 2) (u 3) (ng w)) := hz
        subst hz
        refine j_if_ne (tgt := 252) C d_Sv_propagate_242 (by decide) rvo (fun d2 => ?_) (fun d2 => ?_)
        · omega
        · have hr := hPB.1.a.room (by omega) (v := wl (u 2) (u 3) (ng w) / 2) (by omega) (by omega) (vOf_0.mp d2)
          refine j_aload_n C 0 d_Sv_propagate_245 rfl rfl ?_
          refine j_iload C 6 d_Sv_propagate_246 rfl ?_
          refine j_iload_n C 3 d_Sv_propagate_248 rfl rfl ?_
          refine j_callV (wr := []) (As := [jv (wl (u 2) (u 3) (ng w)), jv (w / 2)]) (rest := []) (w := sw h0 ad cA) (u0 := (u2 (u2 u 4 w (u 10 g)) 10 g w)) C (c_Sv_set _ _ h0 ad cA (u2 (u2 u 4 w (u 10 g)) 10 g w) (wl (u 2) (u 3) (ng w)) (w / 2) ho.1 (by omega) rn.2.2.2.2.1 (show u 16 0 < 16 by omega)) (by rw [ht]; exact fun _ h => h) lk_Sv_94 rfl (q0 := 0) rfl rfl (by rw [hR]; decide) hcs d_Sv_propagate_249 rfl (Nat.le_of_ble_eq_true rfl) (fun u3 hz => ?_)
          subst hz
          refine j_iload C 5 d_Sv_propagate_252 rfl ?_
          refine j_istore_n (lv' := [(0, .ref h0), (1, jv g), (2, jv (u 4 w)), (3, jv (w / 2)), (4, jv (w % 2)), (5, jv (u 4 w)), (6, jv (wl (u 2) (u 3) (ng w))), (7, jv k)]) C d_Sv_propagate_254 rfl (by rw [hL]; decide) rfl rfl ?_
          refine j_goto (tgt := 47) C d_Sv_propagate_255 (by decide) ?_
          refine j_sub [0, 1, 2] rfl ?_
          exact kk _ (hPB.staySet hc d2 (fun p x y => hk3 c p x (by omega))) rfl
      · refine j_aload_n C 0 d_Sv_propagate_227 rfl rfl ?_
        refine j_iload C 5 d_Sv_propagate_228 rfl ?_
        refine j_iload_n C 1 d_Sv_propagate_230 rfl rfl ?_
        refine j_callV (wr := []) (As := [jv (u 4 w), jv g]) (rest := []) (w := sw h0 ad cA) (u0 := (u2 (u2 u 4 w (u 10 g)) 10 g w)) C (c_Sv_rest _ _ h0 ad cA (u2 (u2 u 4 w (u 10 g)) 10 g w) (wl (u 2) (u 3)) (u 6 0) b4 (u 4 w) g g1 g2 P hst.2 hst.1) (by rw [ht]; exact fun _ h => h) lk_Sv_114 rfl (q0 := 0) rfl rfl (by rw [hR]; decide) hcs d_Sv_propagate_231 rfl (Nat.le_of_ble_eq_true rfl) (fun u3 hz => ?_)
        refine j_iload_n C 3 d_Sv_propagate_234 rfl rfl ?_
        exact j_ret C Z rfl d_Sv_propagate_235 (hp _ _ (hPB.conf (by omega) (fun p x y => hk3 c p x (by omega)) hz.1 hz.2))
    · have lk := hl k (by omega) (by omega)
      refine j_aload_n C 0 d_Sv_propagate_160 rfl rfl ?_
      refine s_getA C L 2 (by decide) rfl d_Sv_propagate_161 ?_
      refine j_aload_n C 0 d_Sv_propagate_164 rfl rfl ?_
      refine s_getA C L 3 (by decide) rfl d_Sv_propagate_165 ?_
      refine j_iload_n C 3 d_Sv_propagate_168 rfl rfl ?_
      refine s_iald C L 3 618 (by decide) rfl rfl (u 3 (w / 2)) rfl (by omega) (by omega) d_Sv_propagate_169 ?_
      refine j_iload C 4 d_Sv_propagate_170 rfl ?_
      refine j_iadd C d_Sv_propagate_172 ?_
      refine j_aload_n C 0 d_Sv_propagate_173 rfl rfl ?_
      refine s_getA C L 2 (by decide) rfl d_Sv_propagate_174 ?_
      refine j_iload C 7 d_Sv_propagate_177 rfl ?_
      refine s_iald C L 2 9872 (by decide) rfl rfl (u 2 k) rfl (by omega) (by omega) d_Sv_propagate_179 ?_
      refine s_iast C L 2 9872 (by decide) rfl rfl (by omega) (by omega) d_Sv_propagate_180 ?_
      refine j_aload_n C 0 d_Sv_propagate_181 rfl rfl ?_
      refine s_getA C L 2 (by decide) rfl d_Sv_propagate_182 ?_
      refine j_iload C 7 d_Sv_propagate_185 rfl ?_
      refine j_iload_n C 1 d_Sv_propagate_187 rfl rfl ?_
      refine s_iast C L 2 9872 (by decide) rfl rfl (by omega) (by omega) d_Sv_propagate_188 ?_
      refine j_aload_n C 0 d_Sv_propagate_189 rfl rfl ?_
      refine j_iload_n C 3 d_Sv_propagate_190 rfl rfl ?_
      refine j_iload C 4 d_Sv_propagate_191 rfl ?_
      have eL : (u2 (u2 u 2 (u 3 (w / 2) + (w % 2)) (u 2 k)) 2 k g) 2 ((u2 (u2 u 2 (u 3 (w / 2) + (w % 2)) (u 2 k)) 2 k g) 3 (w / 2) + w % 2) = u 2 k := by
        show up (up (u 2) (u 3 (w / 2) + w % 2) (u 2 k)) k g (u 3 (w / 2) + w % 2) = u 2 k
        rw [up_n _ _ (by omega), up_s]
      refine j_callV (wr := []) (As := [jv (w / 2), jv (w % 2)]) (rest := []) (w := sw h0 ad cA) (u0 := (u2 (u2 u 2 ((u 3 (w / 2)) + (w % 2)) (u 2 k)) 2 k g)) C (c_Sv_look _ _ h0 ad cA (u2 (u2 u 2 (u 3 (w / 2) + (w % 2)) (u 2 k)) 2 k g) (w / 2) (w % 2) (by omega) (by omega) (by omega) (show 0 ≤ u 3 (w / 2) + w % 2 by omega) (show u 3 (w / 2) + w % 2 < 9872 by omega) (by rw [eL]; omega) (by rw [eL]; omega)) (by rw [ht]; exact fun _ h => h) lk_Sv_105 rfl (q0 := 0) rfl rfl (by rw [hR]; decide) hcs d_Sv_propagate_193 rfl (Nat.le_of_ble_eq_true rfl) (fun u3 hz => ?_)
      subst hz
      refine j_goto (tgt := 252) C d_Sv_propagate_196 (by decide) ?_
      refine j_iload C 5 d_Sv_propagate_252 rfl ?_
      refine j_istore_n (lv' := [(0, .ref h0), (1, jv g), (2, jv (u 4 w)), (3, jv (w / 2)), (4, jv (w % 2)), (5, jv (u 4 w)), (6, jv (wl (u 2) (u 3) (ng w))), (7, jv k)]) C d_Sv_propagate_254 rfl (by rw [hL]; decide) rfl rfl ?_
      refine j_goto (tgt := 47) C d_Sv_propagate_255 (by decide) ?_
      refine j_sub [0, 1, 2] rfl ?_
      exact kk _ (hPB.move hc hk1 (by omega) (hk4 c (by omega))) rfl
theorem lp_prop1 {K : Cx} {h0 : Nat} {ad : Nat → Nat} {cA : Nat → ClassId} (C : Ok K R_Sv b_Sv_propagate) (hR : xR K = rmL 2) (ht : xt K = sty cA) (hL : xL K = 8) (hcs : xn K ≤ (xR K).cells ∧ xk K ≤ (xR K).slots) {post : Int → Sv → Prop} (Z : RI K .int (sw h0 ad cA) post) (Mod : (Int → Bool) → Prop) (S0 : Sv) (g d : Int) (hp : ∀ z u, PZ Mod S0 z u → post z u) (kk : ∀ S, PA Mod S0 S → S 18 0 = d → J K (sw h0 ad cA S) 0 [(0, .ref h0)] []) :
    ∀ (P : List Int) (S : Sv) (w : Int), PB Mod S0 S g w P → S 18 0 = d → J K (sw h0 ad cA S) 47 [(0, .ref h0), (1, jv g), (2, jv w)] [] := by
  have L := Ln_Sv (h0 := h0) (ad := ad) ht
  intro P
  induction P with
  | nil =>
    intro S w hPB hd
    have hw : w = -1 := hPB.2.1
    refine j_iload_n C 2 d_Sv_propagate_47 rfl rfl ?_
    refine j_if_lt (tgt := 258) C d_Sv_propagate_48 (by decide) (rgi (by omega) (by omega)) (fun c => ?_) (fun c => ?_)
    · refine j_goto (tgt := 0) C d_Sv_propagate_258 (by decide) ?_
      refine j_sub [0] rfl ?_
      exact kk S (hPB.end' c) hd
    · exact absurd hw (by omega)
  | cons x P ih =>
    intro S w hPB hd
    have hwx : w = x := hPB.2.1.1
    subst hwx
    have hw0 : 0 ≤ w := hPB.2.1.2.1
    have hc : chain (S 4) (S 4 w) P := hPB.2.1.2.2
    obtain ⟨P', eP, -, w2, eg, b1, b2, b3, b4, b5, ho, hl, n1, n2⟩ := hPB.pos (by omega)
    have vr := hPB.1.a.rng ho.1 ho.2
    have rvo : rg (vOf (S 11) (wl (S 2) (S 3) (ng w))) := rgi (by omega) (by omega)
    refine j_iload_n C 2 d_Sv_propagate_47 rfl rfl ?_
    refine j_if_lt (tgt := 258) C d_Sv_propagate_48 (by decide) (rgi (by omega) (by omega)) (fun c => ?_) (fun c => ?_)
    · exact absurd c (by omega)
    · refine j_iload_n C 2 d_Sv_propagate_51 rfl rfl ?_
      refine j_iconst C d_Sv_propagate_52 ?_
      refine j_ishr C d_Sv_propagate_53 (jI_shr1 (by omega) (by omega)) ?_
      refine j_istore_n (lv' := [(0, .ref h0), (1, jv g), (2, jv w), (3, jv (w / 2))]) C d_Sv_propagate_54 rfl (by rw [hL]; decide) rfl rfl ?_
      refine j_iload_n C 2 d_Sv_propagate_55 rfl rfl ?_
      refine j_iconst C d_Sv_propagate_56 ?_
      refine j_iand C d_Sv_propagate_57 (jI_and1 (by omega) (by omega)) ?_
      refine j_istore (lv' := [(0, .ref h0), (1, jv g), (2, jv w), (3, jv (w / 2)), (4, jv (w % 2))]) C d_Sv_propagate_58 (by rw [hL]; decide) rfl rfl ?_
      refine j_aload_n C 0 d_Sv_propagate_60 rfl rfl ?_
      refine s_getA C L 4 (by decide) rfl d_Sv_propagate_61 ?_
      refine j_iload_n C 2 d_Sv_propagate_64 rfl rfl ?_
      refine s_iald C L 4 1234 (by decide) rfl rfl (S 4 w) rfl (by omega) (by omega) d_Sv_propagate_65 ?_
      refine j_istore (lv' := [(0, .ref h0), (1, jv g), (2, jv w), (3, jv (w / 2)), (4, jv (w % 2)), (5, jv (S 4 w))]) C d_Sv_propagate_66 (by rw [hL]; decide) rfl rfl ?_
      refine j_aload_n C 0 d_Sv_propagate_68 rfl rfl ?_
      refine s_getA C L 2 (by decide) rfl d_Sv_propagate_69 ?_
      refine j_aload_n C 0 d_Sv_propagate_72 rfl rfl ?_
      refine s_getA C L 3 (by decide) rfl d_Sv_propagate_73 ?_
      refine j_iload_n C 3 d_Sv_propagate_76 rfl rfl ?_
      refine s_iald C L 3 618 (by decide) rfl rfl (S 3 (w / 2)) rfl (by omega) (by omega) d_Sv_propagate_77 ?_
      refine j_iconst C d_Sv_propagate_78 ?_
      refine j_iadd C d_Sv_propagate_79 ?_
      refine j_iload C 4 d_Sv_propagate_80 rfl ?_
      refine j_isub C d_Sv_propagate_82 ?_
      refine s_iald C L 2 9872 (by decide) rfl rfl (wl (S 2) (S 3) (ng w)) (wl_ng _ _ _).symm (by omega) (by omega) d_Sv_propagate_83 ?_
      refine j_istore (lv' := [(0, .ref h0), (1, jv g), (2, jv w), (3, jv (w / 2)), (4, jv (w % 2)), (5, jv (S 4 w)), (6, jv (wl (S 2) (S 3) (ng w)))]) C d_Sv_propagate_84 (by rw [hL]; decide) rfl rfl ?_
      refine j_aload_n C 0 d_Sv_propagate_86 rfl rfl ?_
      refine s_getA C L 3 (by decide) rfl d_Sv_propagate_87 ?_
      refine j_iload_n C 3 d_Sv_propagate_90 rfl rfl ?_
      refine s_iald C L 3 618 (by decide) rfl rfl (S 3 (w / 2)) rfl (by omega) (by omega) d_Sv_propagate_91 ?_
      refine j_iconst C d_Sv_propagate_92 ?_
      refine j_iadd C d_Sv_propagate_93 ?_
      refine j_istore (lv' := [(0, .ref h0), (1, jv g), (2, jv w), (3, jv (w / 2)), (4, jv (w % 2)), (5, jv (S 4 w)), (6, jv (wl (S 2) (S 3) (ng w))), (7, jv ((S 3 (w / 2)) + 2))]) C d_Sv_propagate_94 (by rw [hL]; decide) rfl rfl ?_
      refine j_aload_n C 0 d_Sv_propagate_96 rfl rfl ?_
      refine j_iload C 6 d_Sv_propagate_97 rfl ?_
      refine j_callI (wr := []) (As := [jv (wl (S 2) (S 3) (ng w))]) (rest := []) (w := sw h0 ad cA) (u0 := S) C (c_Sv_valueOf _ _ h0 ad cA S (wl (S 2) (S 3) (ng w)) ho.1 (by omega)) (by rw [ht]; exact fun _ h => h) lk_Sv_90 rfl (q0 := 0) rfl rfl (by rw [hR]; decide) hcs d_Sv_propagate_99 rfl (Nat.le_of_ble_eq_true rfl) (fun z u hz => ?_)
      obtain ⟨rfl, rfl⟩ := hz
      refine j_if_gt (tgt := 138) C d_Sv_propagate_102 (by decide) rvo (fun e => ?_) (fun e => ?_)
      · exact lp_prop2 C hR ht hL hcs Z Mod S0 u g w P hPB hc hw0 (u 3 (w / 2) + 2) (Int.le_refl _) (by omega) (fun q => absurd e q) (fun q => absurd e q) hp (fun S1 h1 h2 => ih S1 (u 4 w) h1 (by rw [h2]; exact hd))
      · refine lp_prop3 C hR ht hL hcs u g w hw0 (by omega) b1 b3 (fun p a b => ?_) (fun k k1 k2 k3 k4 => lp_prop2 C hR ht hL hcs Z Mod S0 u g w P hPB hc hw0 k k1 k2 (fun _ => k3) (fun _ => k4) hp (fun S1 h1 h2 => ih S1 (u 4 w) h1 (by rw [h2]; exact hd))) (u 3 (w / 2 + 1) - u 3 (w / 2)).toNat.succ (u 3 (w / 2) + 2) (by omega) (Int.le_refl _) (by omega) (fun p a b => by omega)
        have lp := hl p a b
        have vp := hPB.1.a.rng lp.1 lp.2
        exact ⟨lp.1, by omega, rgi (by omega) (by omega)⟩
theorem lp_prop0 {K : Cx} {h0 : Nat} {ad : Nat → Nat} {cA : Nat → ClassId} (C : Ok K R_Sv b_Sv_propagate) (hR : xR K = rmL 2) (ht : xt K = sty cA) (hL : xL K = 8) (hcs : xn K ≤ (xR K).cells ∧ xk K ≤ (xR K).slots) {post : Int → Sv → Prop} (Z : RI K .int (sw h0 ad cA) post) (Mod : (Int → Bool) → Prop) (S0 : Sv) (hp : ∀ z u, PZ Mod S0 z u → post z u) :
    ∀ (n : Nat) (S : Sv), S0 0 0 - S 18 0 < n → PA Mod S0 S → J K (sw h0 ad cA S) 0 [(0, .ref h0)] [] := by
  have L := Ln_Sv (h0 := h0) (ad := ad) ht
  intro n
  induction n with
  | zero =>
    intro S h1 hPA
    have rn := hPA.1.rng
    have e0 : S 0 = S0 0 := hPA.2.2.2.2.1 0 (by decide) (by decide) (by decide) (by decide) (by decide) (by decide) (by decide) (by decide) (by decide)
    have := hPA.2.2.1
    rw [e0] at rn; omega
  | succ n ih =>
    intro S h1 hPA
    have rn := hPA.1.rng
    have n1 := hPA.1.n
    have hd0 := hPA.2.1
    have hd1 := hPA.2.2.1
    have e0 : S 0 = S0 0 := hPA.2.2.2.2.1 0 (by decide) (by decide) (by decide) (by decide) (by decide) (by decide) (by decide) (by decide) (by decide)
    refine j_aload_n C 0 d_Sv_propagate_0 rfl rfl ?_
    refine s_get C L 18 (by decide) rfl (S 18 0) rfl d_Sv_propagate_1 ?_
    refine j_aload_n C 0 d_Sv_propagate_4 rfl rfl ?_
    refine s_get C L 16 (by decide) rfl (S 16 0) rfl d_Sv_propagate_5 ?_
    refine j_icmp_ge (tgt := 261) C d_Sv_propagate_8 (by decide) (rgi (by omega) (by omega)) (rgi (by omega) (by omega)) (fun c => ?_) (fun c => ?_)
    · refine j_iconst C d_Sv_propagate_261 ?_
      exact j_ret C Z rfl d_Sv_propagate_262 (hp _ _ (hPA.end' c))
    · have htr := hPA.1.a.2.1 (S 18 0) hd0 (by omega)
      have hg1 : 0 ≤ ng (S 14 (S 18 0)) := ng_lo htr.1
      have hg2 : ng (S 14 (S 18 0)) < 2 * S 0 0 := ng_hi htr.2.1
      obtain ⟨P, hPB⟩ := hPA.take (by omega)
      refine j_aload_n C 0 d_Sv_propagate_11 rfl rfl ?_
      refine s_getA C L 14 (by decide) rfl d_Sv_propagate_12 ?_
      refine j_aload_n C 0 d_Sv_propagate_15 rfl rfl ?_
      refine s_get C L 18 (by decide) rfl (S 18 0) rfl d_Sv_propagate_16 ?_
      refine s_iald C L 14 16 (by decide) rfl rfl (S 14 (S 18 0)) rfl (by omega) (by omega) d_Sv_propagate_19 ?_
      refine j_iconst C d_Sv_propagate_20 ?_
      refine j_ixor C d_Sv_propagate_21 (jI_xor1 (by omega)) ?_
      refine j_istore_n (lv' := [(0, .ref h0), (1, jv (ng (S 14 (S 18 0))))]) C d_Sv_propagate_22 rfl (by rw [hL]; decide) rfl rfl ?_
      refine j_aload_n C 0 d_Sv_propagate_23 rfl rfl ?_
      refine j_dup C d_Sv_propagate_24 rfl ?_
      refine s_get C L 18 (by decide) rfl (S 18 0) rfl d_Sv_propagate_25 ?_
      refine j_iconst C d_Sv_propagate_28 ?_
      refine j_iadd C d_Sv_propagate_29 ?_
      refine s_put C L 18 (by decide) rfl rfl rfl d_Sv_propagate_30 ?_
      refine j_aload_n C 0 d_Sv_propagate_33 rfl rfl ?_
      refine s_getA C L 10 (by decide) rfl d_Sv_propagate_34 ?_
      refine j_iload_n C 1 d_Sv_propagate_37 rfl rfl ?_
      refine s_iald C L 10 32 (by decide) rfl rfl (S 10 (ng (S 14 (S 18 0)))) rfl (by omega) (by omega) d_Sv_propagate_38 ?_
      refine j_istore_n (lv' := [(0, .ref h0), (1, jv (ng (S 14 (S 18 0)))), (2, jv (S 10 (ng (S 14 (S 18 0)))))]) C d_Sv_propagate_39 rfl (by rw [hL]; decide) rfl rfl ?_
      refine j_aload_n C 0 d_Sv_propagate_40 rfl rfl ?_
      refine s_getA C L 10 (by decide) rfl d_Sv_propagate_41 ?_
      refine j_iload_n C 1 d_Sv_propagate_44 rfl rfl ?_
      refine j_iconst C d_Sv_propagate_45 ?_
      refine s_iast C L 10 32 (by decide) rfl rfl (by omega) (by omega) d_Sv_propagate_46 ?_
      exact lp_prop1 C hR ht hL hcs Z Mod S0 _ (S 18 0 + 1) hp (fun S1 h2 h3 => ih S1 (by omega) h2) P _ _ hPB (show up (S 18) 0 (S 18 0 + 1) 0 = _ by rw [up_s])
theorem c_Sv_propagate (l : Launch) (D : va_G) (h0 : Nat) (ad : Nat → Nat) (cA : Nat → ClassId) (Mod : (Int → Bool) → Prop) (S : Sv) (h : PA Mod S S) : CI l y_Sv_propagate b_Sv_propagate 8 (some .int) 2 D (sty cA) [.ref h0] (sw h0 ad cA) S (fun z u => PZ Mod S z u) := by
  refine CI.of (by decide) (Nat.le_of_ble_eq_true rfl) (fun K C hR ht hL hcs Z => ?_)
  have C : Ok K R_Sv b_Sv_propagate := C
  have L := Ln_Sv (h0 := h0) (ad := ad) ht
  show J K (sw h0 ad cA S) 0 [(0, .ref h0)] []
  exact lp_prop0 C hR ht hL hcs Z Mod S (fun z u q => q) (S 0 0 - S 18 0).toNat.succ S (by omega) h
end
section
/-! Arrays.fill, and the solver's arrays that are filled -/
/-- a lone array -/
def fw (a : Nat) (cA : ClassId) (n : Nat) (f : Int → Int) : va_W := [(a, .inl (cA, n, .inl (fun i : Nat => jI (f (i : Int)))))]
def flt (f : Int → Int) (k v : Int) : Int → Int := fun i => if 0 ≤ i ∧ i < k then v else f i
theorem flt_0 (f : Int → Int) (v : Int) : flt f 0 v = f := by funext i; unfold flt; rw [if_neg (by omega)]
theorem flt_s (f : Int → Int) (k v : Int) (h : 0 ≤ k) : up (flt f k v) k v = flt f (k + 1) v := by
  funext i; unfold up flt
  by_cases e : i = k
  · rw [if_pos e, if_pos (by omega)]
  · rw [if_neg e]
    by_cases q : 0 ≤ i ∧ i < k
    · rw [if_pos q, if_pos (by omega)]
    · rw [if_neg q, if_neg (by omega)]
section ROWS
variable {K : Cx} {own : String} {cc : ByteArray} {pc : Nat} {lv : List (Nat × Value)} {st : List Value} {a n : Nat} {cA : ClassId} {f : Int → Int}
theorem f_len (C : Ok K own cc) {ty : FieldType} (ht : xt K = [(cA, ty)]) (hd : decode cc pc = .ok (.arraylength, 1)) (kk : J K (fw a cA n f) (pc + 1) lv (jv (n : Int) :: st)) : J K (fw a cA n f) pc lv (.ref a :: st) := by
  intro H locs ls hP hD hS hl
  have hK := C.2.2.2.2.2.1
  rw [ht] at hK
  exact va_alen (D := xD K) C.1 C.2.1 hK hP 0 0 rfl rfl (v := jI (n : Int)) rfl hd (kk H locs ls hP hD hS hl)
theorem f_ist (C : Ok K own cc) (ht : xt K = [(cA, .int)]) {i x : Int} (h1 : 0 ≤ i) (h2 : i < n) (hN : n < 2147483648) (hd : decode cc pc = .ok (.iastore, 1)) (kk : J K (fw a cA n (up f i x)) (pc + 1) lv st) : J K (fw a cA n f) pc lv (jv x :: jv i :: .ref a :: st) := by
  intro H locs ls hP hD hS hl
  have hK := C.2.2.2.2.2.1
  rw [ht] at hK
  refine va_iast (D := xD K) C.1 C.2.1 hK hP hD hS 0 0 rfl rfl (jI_in h1 h2 hN) hd (fun H1 locs1 hP1 hD1 hS1 => ?_)
  rw [jI_cl h1 (by omega), upd_ar _ _ _ h1] at hP1 hD1
  exact kk H1 locs1 ls hP1 hD1 hS1 hl
theorem f_zst (C : Ok K own cc) (ht : xt K = [(cA, .boolean)]) {i x : Int} (h1 : 0 ≤ i) (h2 : i < n) (hN : n < 2147483648) (hx : x = 0 ∨ x = 1) (hd : decode cc pc = .ok (.bastore, 1)) (kk : J K (fw a cA n (up f i x)) (pc + 1) lv st) : J K (fw a cA n f) pc lv (jv x :: jv i :: .ref a :: st) := by
  intro H locs ls hP hD hS hl
  have hK := C.2.2.2.2.2.1
  rw [ht] at hK
  refine va_zast (D := xD K) C.1 C.2.1 hK hP hD hS 0 0 rfl rfl (jI_in h1 h2 hN) hd (fun H1 locs1 hP1 hD1 hS1 => ?_)
  rw [show vp_nar .boolean (jI x) = jI x by rcases hx with rfl | rfl <;> decide, jI_cl h1 (by omega), upd_ar _ _ _ h1] at hP1 hD1
  exact kk H1 locs1 ls hP1 hD1 hS1 hl
/-- the cells in another order, or fewer -/
theorem j_perm {ws ws' : va_W} (is : List Nat) (hn : va_nd is = true) (hs : is.map (fun i => ws[i]?) = ws'.map some) (kk : J K ws' pc lv st) : J K ws pc lv st := by
  intro H locs ls hP hD hS hl
  refine kk H locs ls (fun k q hq => ?_) (hD.sub is hn hs) hS hl
  have h1 : (is.map (fun i => ws[i]?))[k]? = some (some q) := by rw [hs, List.getElem?_map, hq]; rfl
  rw [List.getElem?_map] at h1
  cases hi : is[k]? with
  | none => rw [hi] at h1; cases h1
  | some i => rw [hi] at h1; exact hP i q (Option.some.inj h1)
end ROWS
def uA (S : Sv) (k : Nat) (f : Int → Int) : Sv := fun k' => if k' = k then f else S k'
theorem lp_Ar_fillI {K : Cx} {a n : Nat} {cA : ClassId} {post : (Int → Int) → Prop} (C : Ok K "java/util/Arrays" b_Ar_fillI) (ht : xt K = [(cA, .int)]) (hL : xL K = 4) (Z : RV K (fw a cA n) post) (hN : n < 2147483648) (f : Int → Int) (v : Int) (hp : post (flt f n v)) : ∀ (m : Nat) (k : Int), (n : Int) - k < m → 0 ≤ k → k ≤ n → J K (fw a cA n (flt f k v)) 5 [(0, .ref a), (1, jv v), (2, jv k), (3, jv n)] [] := by
  intro m
  induction m with
  | zero => intro k h1; omega
  | succ m ih =>
    intro k h1 h2 h3
    refine j_iload_n C 2 d_Ar_fillI_5 rfl rfl ?_
    refine j_iload_n C 3 d_Ar_fillI_6 rfl rfl ?_
    refine j_icmp_ge (tgt := 20) C d_Ar_fillI_7 (by decide) (rgi (by omega) (by omega)) (rgi (by omega) (by omega)) (fun c => ?_) (fun c => ?_)
    · have e : k = n := by omega
      rw [e]
      exact j_vret C Z d_Ar_fillI_20 hp
    · refine j_aload_n C 0 d_Ar_fillI_10 rfl rfl ?_
      refine j_iload_n C 2 d_Ar_fillI_11 rfl rfl ?_
      refine j_iload_n C 1 d_Ar_fillI_12 rfl rfl ?_
      refine f_ist C ht h2 (by omega) hN d_Ar_fillI_13 ?_
      rw [flt_s f k v h2]
      refine j_iinc (lv' := [(0, .ref a), (1, jv v), (2, jv (k + 1)), (3, jv n)]) C 2 d_Ar_fillI_14 rfl (by rw [hL]; decide) rfl rfl ?_
      refine j_goto (tgt := 5) C d_Ar_fillI_17 (by decide) ?_
      exact ih (k + 1) (by omega) (by omega) (by omega)
theorem c_Ar_fillI (l : Launch) (D : va_G) (a n : Nat) (cA : ClassId) (f : Int → Int) (v : Int) (hN : n < 2147483648) : CV l y_Ar_fillI b_Ar_fillI 4 0 D [(cA, .int)] [.ref a, jv v] (fw a cA n) f (fun u => u = flt f n v) := by
  refine CV.of (by decide) (Nat.le_of_ble_eq_true rfl) (fun K C hR ht hL hcs Z => ?_)
  have C : Ok K "java/util/Arrays" b_Ar_fillI := C
  show J K (fw a cA n f) 0 [(0, .ref a), (1, jv v)] []
  refine j_iconst C d_Ar_fillI_0 ?_
  refine j_istore_n (lv' := [(0, .ref a), (1, jv v), (2, jv 0)]) C d_Ar_fillI_1 rfl (by rw [hL]; decide) rfl rfl ?_
  refine j_aload_n C 0 d_Ar_fillI_2 rfl rfl ?_
  refine f_len C ht d_Ar_fillI_3 ?_
  refine j_istore_n (lv' := [(0, .ref a), (1, jv v), (2, jv 0), (3, jv n)]) C d_Ar_fillI_4 rfl (by rw [hL]; decide) rfl rfl ?_
  have h := lp_Ar_fillI (a := a) C ht hL Z hN f v rfl (n + 1) 0 (by omega) (by omega) (by omega)
  rw [flt_0] at h
  exact h
theorem lp_Ar_fillZ {K : Cx} {a n : Nat} {cA : ClassId} {post : (Int → Int) → Prop} (C : Ok K "java/util/Arrays" b_Ar_fillZ) (ht : xt K = [(cA, .boolean)]) (hL : xL K = 4) (Z : RV K (fw a cA n) post) (hN : n < 2147483648) (f : Int → Int) (v : Int) (hx : v = 0 ∨ v = 1) (hp : post (flt f n v)) : ∀ (m : Nat) (k : Int), (n : Int) - k < m → 0 ≤ k → k ≤ n → J K (fw a cA n (flt f k v)) 5 [(0, .ref a), (1, jv v), (2, jv k), (3, jv n)] [] := by
  intro m
  induction m with
  | zero => intro k h1; omega
  | succ m ih =>
    intro k h1 h2 h3
    refine j_iload_n C 2 d_Ar_fillZ_5 rfl rfl ?_
    refine j_iload_n C 3 d_Ar_fillZ_6 rfl rfl ?_
    refine j_icmp_ge (tgt := 20) C d_Ar_fillZ_7 (by decide) (rgi (by omega) (by omega)) (rgi (by omega) (by omega)) (fun c => ?_) (fun c => ?_)
    · have e : k = n := by omega
      rw [e]
      exact j_vret C Z d_Ar_fillZ_20 hp
    · refine j_aload_n C 0 d_Ar_fillZ_10 rfl rfl ?_
      refine j_iload_n C 2 d_Ar_fillZ_11 rfl rfl ?_
      refine j_iload_n C 1 d_Ar_fillZ_12 rfl rfl ?_
      refine f_zst C ht h2 (by omega) hN hx d_Ar_fillZ_13 ?_
      rw [flt_s f k v h2]
      refine j_iinc (lv' := [(0, .ref a), (1, jv v), (2, jv (k + 1)), (3, jv n)]) C 2 d_Ar_fillZ_14 rfl (by rw [hL]; decide) rfl rfl ?_
      refine j_goto (tgt := 5) C d_Ar_fillZ_17 (by decide) ?_
      exact ih (k + 1) (by omega) (by omega) (by omega)
theorem c_Ar_fillZ (l : Launch) (D : va_G) (a n : Nat) (cA : ClassId) (f : Int → Int) (v : Int) (hx : v = 0 ∨ v = 1) (hN : n < 2147483648) : CV l y_Ar_fillZ b_Ar_fillZ 4 0 D [(cA, .boolean)] [.ref a, jv v] (fw a cA n) f (fun u => u = flt f n v) := by
  refine CV.of (by decide) (Nat.le_of_ble_eq_true rfl) (fun K C hR ht hL hcs Z => ?_)
  have C : Ok K "java/util/Arrays" b_Ar_fillZ := C
  show J K (fw a cA n f) 0 [(0, .ref a), (1, jv v)] []
  refine j_iconst C d_Ar_fillZ_0 ?_
  refine j_istore_n (lv' := [(0, .ref a), (1, jv v), (2, jv 0)]) C d_Ar_fillZ_1 rfl (by rw [hL]; decide) rfl rfl ?_
  refine j_aload_n C 0 d_Ar_fillZ_2 rfl rfl ?_
  refine f_len C ht d_Ar_fillZ_3 ?_
  refine j_istore_n (lv' := [(0, .ref a), (1, jv v), (2, jv 0), (3, jv n)]) C d_Ar_fillZ_4 rfl (by rw [hL]; decide) rfl rfl ?_
  have h := lp_Ar_fillZ (a := a) C ht hL Z hN f v hx rfl (n + 1) 0 (by omega) (by omega) (by omega)
  rw [flt_0] at h
  exact h
theorem s_fill10 {K : Cx} {cc : ByteArray} {S : Sv} {pc : Nat} {lv : List (Nat × Value)} {rest : List Value} {h0 : Nat} {ad : Nat → Nat} {cA : Nat → ClassId} (C : Ok K R_Sv cc) (ht : xt K = sty cA) {v : Int} (hR : 1 ≤ (xR K).frames ∧ 23 ≤ (xR K).locals) (hcs : xn K ≤ (xR K).cells ∧ xk K ≤ (xR K).slots) (hd : decode cc pc = .ok (.invokestatic 84, 3)) (hcat : (rest.map fun v => v.category).sum ≤ 8) (kk : J K (sw h0 ad cA (uA S 10 (flt (S 10) 32 v))) (pc + 3) lv rest) : J K (sw h0 ad cA S) pc lv (jv v :: .ref (ad 10) :: rest) := by
  refine j_perm (ws' := (sw h0 ad cA S).eraseIdx 7 ++ fw (ad 10) (cA 10) 32 (S 10)) [0, 1, 2, 3, 4, 5, 6, 8, 9, 10, 11, 12, 13, 14, 7] (by decide) rfl ?_
  refine j_callSV (wr := (sw h0 ad cA S).eraseIdx 7) (As := [.ref (ad 10), jv v]) (rest := rest) (w := fw (ad 10) (cA 10) 32) (u0 := S 10) C (c_Ar_fillI _ _ (ad 10) 32 (cA 10) (S 10) v (by decide)) (fun q hq => by rw [ht]; rw [List.mem_singleton.mp hq]; exact List.mem_of_getElem? (i := 6) rfl) lk_Sv_84 rfl hR hcs hd rfl hcat (fun u hu => ?_)
  subst hu
  exact j_perm (ws' := sw h0 ad cA (uA S 10 (flt (S 10) 32 v))) [0, 1, 2, 3, 4, 5, 6, 14, 7, 8, 9, 10, 11, 12, 13] (by decide) rfl kk
theorem s_fill11 {K : Cx} {cc : ByteArray} {S : Sv} {pc : Nat} {lv : List (Nat × Value)} {rest : List Value} {h0 : Nat} {ad : Nat → Nat} {cA : Nat → ClassId} (C : Ok K R_Sv cc) (ht : xt K = sty cA) {v : Int} (hR : 1 ≤ (xR K).frames ∧ 23 ≤ (xR K).locals) (hcs : xn K ≤ (xR K).cells ∧ xk K ≤ (xR K).slots) (hd : decode cc pc = .ok (.invokestatic 84, 3)) (hcat : (rest.map fun v => v.category).sum ≤ 8) (kk : J K (sw h0 ad cA (uA S 11 (flt (S 11) 16 v))) (pc + 3) lv rest) : J K (sw h0 ad cA S) pc lv (jv v :: .ref (ad 11) :: rest) := by
  refine j_perm (ws' := (sw h0 ad cA S).eraseIdx 8 ++ fw (ad 11) (cA 11) 16 (S 11)) [0, 1, 2, 3, 4, 5, 6, 7, 9, 10, 11, 12, 13, 14, 8] (by decide) rfl ?_
  refine j_callSV (wr := (sw h0 ad cA S).eraseIdx 8) (As := [.ref (ad 11), jv v]) (rest := rest) (w := fw (ad 11) (cA 11) 16) (u0 := S 11) C (c_Ar_fillI _ _ (ad 11) 16 (cA 11) (S 11) v (by decide)) (fun q hq => by rw [ht]; rw [List.mem_singleton.mp hq]; exact List.mem_of_getElem? (i := 7) rfl) lk_Sv_84 rfl hR hcs hd rfl hcat (fun u hu => ?_)
  subst hu
  exact j_perm (ws' := sw h0 ad cA (uA S 11 (flt (S 11) 16 v))) [0, 1, 2, 3, 4, 5, 6, 7, 14, 8, 9, 10, 11, 12, 13] (by decide) rfl kk
theorem s_fill22 {K : Cx} {cc : ByteArray} {S : Sv} {pc : Nat} {lv : List (Nat × Value)} {rest : List Value} {h0 : Nat} {ad : Nat → Nat} {cA : Nat → ClassId} (C : Ok K R_Sv cc) (ht : xt K = sty cA) {v : Int} (hx : v = 0 ∨ v = 1) (hR : 1 ≤ (xR K).frames ∧ 23 ≤ (xR K).locals) (hcs : xn K ≤ (xR K).cells ∧ xk K ≤ (xR K).slots) (hd : decode cc pc = .ok (.invokestatic 127, 3)) (hcat : (rest.map fun v => v.category).sum ≤ 8) (kk : J K (sw h0 ad cA (uA S 22 (flt (S 22) 16 v))) (pc + 3) lv rest) : J K (sw h0 ad cA S) pc lv (jv v :: .ref (ad 22) :: rest) := by
  refine j_perm (ws' := (sw h0 ad cA S).eraseIdx 14 ++ fw (ad 22) (cA 22) 16 (S 22)) [0, 1, 2, 3, 4, 5, 6, 7, 8, 9, 10, 11, 12, 13, 14] (by decide) rfl ?_
  refine j_callSV (wr := (sw h0 ad cA S).eraseIdx 14) (As := [.ref (ad 22), jv v]) (rest := rest) (w := fw (ad 22) (cA 22) 16) (u0 := S 22) C (c_Ar_fillZ _ _ (ad 22) 16 (cA 22) (S 22) v hx (by decide)) (fun q hq => by rw [ht]; rw [List.mem_singleton.mp hq]; exact List.mem_of_getElem? (i := 13) rfl) lk_Sv_127 rfl hR hcs hd rfl hcat (fun u hu => ?_)
  subst hu
  exact j_perm (ws' := sw h0 ad cA (uA S 22 (flt (S 22) 16 v))) [0, 1, 2, 3, 4, 5, 6, 7, 8, 9, 10, 11, 12, 13, 14] (by decide) rfl kk
end
section
/-! pure: what forget keeps -/
/-- which clauses stay: 0, else -1 -/
def FS (S0 : Sv) (st1 : Int → Int) : Prop :=
  (∀ c, 0 ≤ c → c < S0 6 0 → (st1 c = 0 ∨ st1 c = -1) ∧ (S0 5 c = 0 → st1 c = 0) ∧ (st1 c = 0 → S0 5 c = 0 ∨ ∃ k, 0 ≤ k ∧ k < S0 16 0 ∧ S0 13 (S0 14 k / 2) = c)) ∧ ∀ k, 0 ≤ k → k < S0 16 0 → 0 ≤ S0 13 (S0 14 k / 2) → st1 (S0 13 (S0 14 k / 2)) = 0
/-- c clauses are gone through, n of them stay, with to literals: what isn't touched yet -/
def FA (S0 S : Sv) (st1 : Int → Int) (c n to : Int) : Prop :=
  (∀ k, k ≠ 2 → k ≠ 3 → k ≠ 4 → k ≠ 5 → k ≠ 8 → k ≠ 9 → k ≠ 10 → S k = S0 k) ∧ (0 ≤ n ∧ n ≤ c ∧ c ≤ S0 6 0 ∧ to ≤ S0 3 c) ∧ (∀ j, c ≤ j → j ≤ S0 6 0 → S 3 j = S0 3 j) ∧ (∀ p, S0 3 c ≤ p → p < S0 7 0 → S 2 p = S0 2 p) ∧ ∀ j, c ≤ j → j < S0 6 0 → S 5 j = S0 5 j ∧ S 9 j = st1 j
/-- .. the clauses that stay -/
def FC (S0 S : Sv) (st1 : Int → Int) (c n to : Int) : Prop :=
  (∀ j, 0 ≤ j → j < c → st1 j = 0 → 0 ≤ S 9 j ∧ S 9 j < n ∧ S 5 (S 9 j) = S0 5 j ∧ ∀ l, Inc (S 2) (up (S 3) n to) (S 9 j) l ↔ Inc (S0 2) (S0 3) j l) ∧ (∀ i, 0 ≤ i → i < n → ∃ j, 0 ≤ j ∧ j < c ∧ st1 j = 0 ∧ S 9 j = i) ∧
  Cl (S0 0 0) (S 2) (up (S 3) n to) n to ∧ S 8 0 = cnt (S 5) n.toNat ∧ n - S 8 0 = c - cnt (S0 5) c.toNat
/-- .. their watches -/
def FW (S0 S : Sv) (n to : Int) (x0 : Int → Prop) (m : Int) : Prop := Wx (wl (S 2) (up (S 3) n to)) (S 4) (S 10) x0 ∧ Tw (wl (S 2) (up (S 3) n to)) (S0 11) (S0 12) (S0 14) m (S0 16 0) []
def FI (S0 S : Sv) (st1 : Int → Int) (c n to : Int) : Prop := FA S0 S st1 c n to ∧ FC S0 S st1 c n to ∧ FW S0 S n to (fun x => 0 ≤ x ∧ x < 2 * n) n
theorem cnt_s (f : Int → Int) {c : Int} (h : 0 ≤ c) : cnt f (c + 1).toNat = cnt f c.toNat + f c := by
  rw [show (c + 1).toNat = c.toNat + 1 by omega]
  simp only [cnt]
  rw [show ((c.toNat : Nat) : Int) = c by omega]
section
variable {Mod : (Int → Bool) → Prop} {S0 S S' : Sv} {st1 : Int → Int} {c n to : Int}
theorem FI.skip (hI : Iv Mod S0 (S0 16 0) 0 []) (hS : FS S0 st1) (h : FI S0 S st1 c n to) (hc : c < S0 6 0) (hs : st1 c < 0) : FI S0 S st1 (c + 1) n to := by
  obtain ⟨⟨a1, a2, a3, a4, a5⟩, ⟨b1, b2, b3, b4, b5⟩, hw⟩ := h
  have m := hI.cl.2.1 c (by omega) hc
  refine ⟨⟨a1, ⟨a2.1, by omega, by omega, by omega⟩, fun j x y => a3 j (by omega) y, fun p x y => a4 p (by omega) y, fun j x y => a5 j (by omega) y⟩, ⟨fun j x y z => ?_, fun i x y => ?_, b3, b4, ?_⟩, hw⟩
  · by_cases e : j = c
    · rw [e] at z; omega
    · exact b1 j x (by omega) z
  · obtain ⟨j, j1, j2, j3⟩ := b2 i x y
    exact ⟨j, j1, by omega, j3⟩
  · rw [cnt_s _ (by omega), b5]
    have t := (hS.1 c (by omega) hc).2.1
    have u := hI.c.1 c (by omega) hc
    have : S0 5 c = 1 := by
      rcases u with u | u
      · have := t u; omega
      · exact u
    omega
/-- the clause c is copied behind the n that stay, and counted -/
theorem FI.copy (hI : Iv Mod S0 (S0 16 0) 0 []) (h : FI S0 S st1 c n to) (hc : c < S0 6 0) (hs : st1 c = 0)
    (k1 : ∀ k, k ≠ 2 → k ≠ 3 → k ≠ 5 → k ≠ 8 → k ≠ 9 → S' k = S k) (k3 : S' 3 = up (S 3) n to) (k5 : S' 5 = up (S 5) n (S 5 c)) (k8 : S' 8 0 = S 8 0 + S 5 c) (k9 : S' 9 = up (S 9) c n)
    (l1 : ∀ p, p < to → S' 2 p = S 2 p) (l2 : ∀ p, to ≤ p → p < to + (S0 3 (c + 1) - S0 3 c) → S' 2 p = S0 2 (S0 3 c + (p - to))) (l3 : ∀ p, S0 3 (c + 1) ≤ p → p < S0 7 0 → S' 2 p = S0 2 p) :
    FA S0 S' st1 (c + 1) (n + 1) (to + (S0 3 (c + 1) - S0 3 c)) ∧ FC S0 S' st1 (c + 1) (n + 1) (to + (S0 3 (c + 1) - S0 3 c)) ∧ FW S0 S' (n + 1) (to + (S0 3 (c + 1) - S0 3 c)) (fun x => 0 ≤ x ∧ x < 2 * n) n := by
  obtain ⟨⟨a1, a2, a3, a4, a5⟩, ⟨b1, b2, b3, b4, b5⟩, hw, htw⟩ := h
  have m := hI.cl.2.1 c (by omega) hc
  have z0 := hI.cl.at (c := c) (by omega) hc
  have lo := b3.lo (c := n) a2.1 (Int.le_refl _)
  have en : up (S 3) n to n = to := up_s _ _ _
  rw [en] at lo
  have t5 := (a5 c (Int.le_refl _) hc).1
  have e3 : ∀ j, j ≤ n → up (S' 3) (n + 1) (to + (S0 3 (c + 1) - S0 3 c)) j = up (S 3) n to j := fun j hj => by rw [up_n _ _ (by omega), k3]
  have e3n : up (S' 3) (n + 1) (to + (S0 3 (c + 1) - S0 3 c)) (n + 1) = to + (S0 3 (c + 1) - S0 3 c) := up_s _ _ _
  -- places of the old clauses lie below to
  have below : ∀ i, 0 ≤ i → i < n → up (S 3) n to (i + 1) ≤ to := fun i x y => by
    have := b3.lo (c := i + 1) (by omega) (by omega); omega
  have inc_old : ∀ i, 0 ≤ i → i < n → ∀ l, Inc (S' 2) (up (S' 3) (n + 1) (to + (S0 3 (c + 1) - S0 3 c))) i l ↔ Inc (S 2) (up (S 3) n to) i l := by
    intro i x y l
    unfold Inc
    rw [e3 i (by omega), e3 (i + 1) (by omega)]
    have := below i x y
    constructor
    · rintro ⟨p, p1, p2, p3⟩; exact ⟨p, p1, p2, by rw [← l1 p (by omega)]; exact p3⟩
    · rintro ⟨p, p1, p2, p3⟩; exact ⟨p, p1, p2, by rw [l1 p (by omega)]; exact p3⟩
  have inc_new : ∀ l, Inc (S' 2) (up (S' 3) (n + 1) (to + (S0 3 (c + 1) - S0 3 c))) n l ↔ Inc (S0 2) (S0 3) c l := by
    intro l
    unfold Inc
    rw [e3 n (Int.le_refl _), en, e3n]
    constructor
    · rintro ⟨p, p1, p2, p3⟩; exact ⟨S0 3 c + (p - to), by omega, by omega, by rw [← l2 p p1 p2]; exact p3⟩
    · rintro ⟨p, p1, p2, p3⟩
      refine ⟨to + (p - S0 3 c), by omega, by omega, ?_⟩
      rw [l2 _ (by omega) (by omega), ← p3]; congr 1; omega
  have wl_old : ∀ x, 0 ≤ x → x < 2 * n → wl (S' 2) (up (S' 3) (n + 1) (to + (S0 3 (c + 1) - S0 3 c))) x = wl (S 2) (up (S 3) n to) x := by
    intro x h1 h2
    unfold wl
    rw [e3 (x / 2) (by omega)]
    have q := b3.2.1 (x / 2) (by omega) (by omega)
    have := below (x / 2) (by omega) (by omega)
    exact l1 _ (by omega)
  refine ⟨⟨fun k q2 q3 q4 q5 q8 q9 q10 => by rw [k1 k q2 q3 q5 q8 q9, a1 k q2 q3 q4 q5 q8 q9 q10], ⟨by omega, by omega, by omega, by omega⟩, fun j x y => ?_, l3, fun j x y => ?_⟩, ⟨fun j x y z => ?_, fun i x y => ?_, ?_, ?_, ?_⟩, ?_, ?_⟩
  · rw [k3, up_n _ _ (by omega)]; exact a3 j (by omega) y
  · rw [k5, k9, up_n _ _ (by omega), up_n _ _ (by omega)]; exact a5 j (by omega) y
  · by_cases e : j = c
    · rw [e, k9, up_s, k5, up_s]
      exact ⟨a2.1, by omega, t5, inc_new⟩
    · have q := b1 j x (by omega) z
      rw [k9, up_n _ _ e, k5, up_n _ _ (by omega)]
      exact ⟨q.1, by omega, q.2.2.1, fun l => (inc_old _ q.1 q.2.1 l).trans (q.2.2.2 l)⟩
  · by_cases e : i = n
    · exact ⟨c, by omega, by omega, hs, by rw [k9, up_s, e]⟩
    · obtain ⟨j, j1, j2, j3, j4⟩ := b2 i x (by omega)
      exact ⟨j, j1, by omega, j3, by rw [k9, up_n _ _ (by omega)]; exact j4⟩
  · refine ⟨⟨by omega, ?_, e3n⟩, fun i x y => ?_, fun p x y => ?_, fun i x y p q h1 h2 h3 => ?_⟩
    · rw [e3 0 a2.1]; exact b3.1.2.1
    · by_cases e : i = n
      · rw [e, e3 n (Int.le_refl _), en, e3n]; omega
      · rw [e3 i (by omega), e3 (i + 1) (by omega)]; exact b3.2.1 i x (by omega)
    · rcases Int.lt_or_le p to with z | z
      · rw [l1 p z]; exact b3.2.2.1 p x z
      · rw [l2 p z y]
        exact hI.cl.2.2.1 _ (by omega) (by omega)
    · by_cases e : i = n
      · rw [e, e3 n (Int.le_refl _), en] at h1
        rw [e, e3n] at h3
        rw [l2 p h1 (by omega), l2 q (by omega) h3]
        exact hI.cl.2.2.2 c (by omega) hc _ _ (by omega) (by omega) (by omega)
      · rw [e3 i (by omega)] at h1
        rw [e3 (i + 1) (by omega)] at h3
        have := below i x (by omega)
        rw [l1 p (by omega), l1 q (by omega)]
        exact b3.2.2.2 i x (by omega) p q h1 h2 h3
  · rw [k8, b4, cnt_s _ a2.1, k5, up_s]
    congr 1
    exact cnt_congr _ _ _ (fun i x y => (up_n _ _ (by omega)).symm)
  · rw [k8, t5, cnt_s _ (by omega)]; omega
  · have := hw.congr (x1 := fun x => 0 ≤ x ∧ x < 2 * n) (fun x hx => wl_old x hx.1 hx.2) (fun x => Iff.rfl)
    rw [k1 4 (by decide) (by decide) (by decide) (by decide) (by decide), k1 10 (by decide) (by decide) (by decide) (by decide) (by decide)]
    exact this
  · exact htw.congr wl_old
/-- two literals of a clause that stays change places -/
theorem FC.swp {i a b : Int} (h : FC S0 S st1 c n to) (hi : 0 ≤ i) (hi2 : i < n) (ha : up (S 3) n to i ≤ a ∧ a < up (S 3) n to (i + 1)) (hb : up (S 3) n to i ≤ b ∧ b < up (S 3) n to (i + 1)) (k1 : ∀ k, k ≠ 2 → k ≠ 4 → k ≠ 10 → S' k = S k) (k2 : S' 2 = swp (S 2) a b) : FC S0 S' st1 c n to := by
  obtain ⟨b1, b2, b3, b4, b5⟩ := h
  have e3 := k1 3 (by decide) (by decide) (by decide)
  have e5 := k1 5 (by decide) (by decide) (by decide)
  have e8 := k1 8 (by decide) (by decide) (by decide)
  have e9 := k1 9 (by decide) (by decide) (by decide)
  unfold FC
  rw [e3, e5, e8, e9, k2]
  refine ⟨fun j x y z => ?_, b2, Cl_swp b3 hi hi2 ha hb, b4, b5⟩
  have q := b1 j x y z
  exact ⟨q.1, q.2.1, q.2.2.1, fun l => (Inc_swp b3 hi hi2 ha hb q.1 q.2.1).trans (q.2.2.2 l)⟩
theorem FC.congr (h : FC S0 S st1 c n to) (k1 : ∀ k, k ≠ 4 → k ≠ 10 → S' k = S k) : FC S0 S' st1 c n to := by
  unfold FC
  rw [k1 2 (by decide) (by decide), k1 3 (by decide) (by decide), k1 5 (by decide) (by decide), k1 8 (by decide) (by decide), k1 9 (by decide) (by decide)]
  exact h
theorem FA.swp {i a b : Int} (h : FA S0 S st1 c n to) (ha : a < S0 3 c) (hb : b < S0 3 c) (k1 : ∀ k, k ≠ 2 → k ≠ 4 → k ≠ 10 → S' k = S k) (k2 : S' 2 = swp (S 2) a b) : FA S0 S' st1 c n to := by
  obtain ⟨a1, a2, a3, a4, a5⟩ := h
  refine ⟨fun k q2 q3 q4 q5 q8 q9 q10 => by rw [k1 k q2 q4 q10, a1 k q2 q3 q4 q5 q8 q9 q10], a2, ?_, fun p x y => ?_, ?_⟩
  · rw [k1 3 (by decide) (by decide) (by decide)]; exact a3
  · rw [k2, swp_o _ (by omega) (by omega)]; exact a4 p x y
  · rw [k1 5 (by decide) (by decide) (by decide), k1 9 (by decide) (by decide) (by decide)]; exact a5
theorem FA.congr (h : FA S0 S st1 c n to) (k1 : ∀ k, k ≠ 4 → k ≠ 10 → S' k = S k) : FA S0 S' st1 c n to := by
  obtain ⟨a1, a2, a3, a4, a5⟩ := h
  refine ⟨fun k q2 q3 q4 q5 q8 q9 q10 => by rw [k1 k q4 q10, a1 k q2 q3 q4 q5 q8 q9 q10], a2, ?_, ?_, ?_⟩
  · rw [k1 3 (by decide) (by decide)]; exact a3
  · rw [k1 2 (by decide) (by decide)]; exact a4
  · rw [k1 5 (by decide) (by decide), k1 9 (by decide) (by decide)]; exact a5
/-- of a clause of the old ones: a0 is best to watch, a1 second best -/
theorem best_tw (hI : Iv Mod S0 (S0 16 0) 0 []) (hc0 : 0 ≤ c) (hc : c < S0 6 0) {a0 a1 : Int} (m0 : Inc (S0 2) (S0 3) c a0) (m1 : Inc (S0 2) (S0 3) c a1) (r0 : ∀ l, Inc (S0 2) (S0 3) c l → rk S0 l ≤ rk S0 a0) (r1 : ∀ l, Inc (S0 2) (S0 3) c l → l ≠ a0 → rk S0 l ≤ rk S0 a1) :
    (∀ i, 0 ≤ i → i < S0 16 0 → S0 14 i = ng a0 → 0 < vOf (S0 11) a1 ∧ S0 12 (a1 / 2) ≤ S0 12 (a0 / 2)) ∧ ∀ i, 0 ≤ i → i < S0 16 0 → S0 14 i = ng a1 → 0 < vOf (S0 11) a0 ∧ S0 12 (a0 / 2) ≤ S0 12 (a1 / 2) := by
  have rn := hI.rng
  have hn := hI.n
  have zz := hI.cl.at hc0 hc
  -- a false literal's rank is its level, which is small
  have litr : ∀ l, Inc (S0 2) (S0 3) c l → 0 ≤ l ∧ l < 2 * S0 0 0 := fun l ⟨p, p1, p2, p3⟩ => by rw [← p3]; exact hI.cl.lit hc0 hc p1 p2
  have fal : ∀ l, Inc (S0 2) (S0 3) c l → (vOf (S0 11) l < 0 ↔ rk S0 l < 17) := fun l hl => by
    unfold rk
    split
    · rename_i q
      refine ⟨fun _ => ?_, fun _ => q⟩
      obtain ⟨i, i1, i2, i3⟩ := (hI.a.f (litr l hl).1 (litr l hl).2).mp q
      have := hI.l.2.2.2 i i1 i2
      rw [i3, ng_div] at this; omega
    · rename_i q
      exact ⟨fun z => absurd z q, fun z => by omega⟩
  have lev : ∀ l, vOf (S0 11) l < 0 → rk S0 l = S0 12 (l / 2) := fun l q => by unfold rk; rw [if_pos q]
  have tf : ∀ l i, Inc (S0 2) (S0 3) c l → 0 ≤ i → i < S0 16 0 → S0 14 i = ng l → vOf (S0 11) l < 0 := fun l i hl i1 i2 i3 => (hI.a.f (litr l hl).1 (litr l hl).2).mpr ⟨i, i1, i2, i3⟩
  -- the old watches
  have w0 : Inc (S0 2) (S0 3) c (wl (S0 2) (S0 3) (2 * c)) := ⟨S0 3 c, Int.le_refl _, by omega, by unfold wl; rw [show 2 * c / 2 = c by omega, show 2 * c % 2 = 0 by omega, Int.add_zero]⟩
  have w1 : Inc (S0 2) (S0 3) c (wl (S0 2) (S0 3) (2 * c + 1)) := ⟨S0 3 c + 1, by omega, by omega, by unfold wl; rw [show (2 * c + 1) / 2 = c by omega, show (2 * c + 1) % 2 = 1 by omega]⟩
  have n0 : ng (2 * c) = 2 * c + 1 := by unfold ng; omega
  have n1 : ng (2 * c + 1) = 2 * c := by unfold ng; omega
  have wne : wl (S0 2) (S0 3) (2 * c) / 2 ≠ wl (S0 2) (S0 3) (2 * c + 1) / 2 := by
    have := hI.cl.2.2.2 c hc0 hc (S0 3 c) (S0 3 c + 1) (Int.le_refl _) (by omega) (by omega)
    unfold wl
    rw [show 2 * c / 2 = c by omega, show 2 * c % 2 = 0 by omega, show (2 * c + 1) / 2 = c by omega, show (2 * c + 1) % 2 = 1 by omega, Int.add_zero]
    exact this
  have T0 : vOf (S0 11) (wl (S0 2) (S0 3) (2 * c)) < 0 → 0 < vOf (S0 11) (wl (S0 2) (S0 3) (2 * c + 1)) ∧ S0 12 (wl (S0 2) (S0 3) (2 * c + 1) / 2) ≤ S0 12 (wl (S0 2) (S0 3) (2 * c) / 2) := fun q => by
    obtain ⟨i, i1, i2, i3⟩ := (hI.a.f (litr _ w0).1 (litr _ w0).2).mp q
    have := hI.t (2 * c) (by omega) (by omega) i i1 i2 (fun z => absurd z List.not_mem_nil) i3
    rw [n0] at this; exact this
  have T1 : vOf (S0 11) (wl (S0 2) (S0 3) (2 * c + 1)) < 0 → 0 < vOf (S0 11) (wl (S0 2) (S0 3) (2 * c)) ∧ S0 12 (wl (S0 2) (S0 3) (2 * c) / 2) ≤ S0 12 (wl (S0 2) (S0 3) (2 * c + 1) / 2) := fun q => by
    obtain ⟨i, i1, i2, i3⟩ := (hI.a.f (litr _ w1).1 (litr _ w1).2).mp q
    have := hI.t (2 * c + 1) (by omega) (by omega) i i1 i2 (fun z => absurd z List.not_mem_nil) i3
    rw [n1] at this; exact this
  constructor
  · intro i i1 i2 i3
    exfalso
    have f0 := (fal a0 m0).mp (tf a0 i m0 i1 i2 i3)
    have q0 := (fal _ w0).mpr (by have := r0 _ w0; omega)
    have q1 := (fal _ w1).mpr (by have := r0 _ w1; omega)
    have := (T0 q0).1; omega
  · intro i i1 i2 i3
    have fa1 := tf a1 i m1 i1 i2 i3
    have f1 := (fal a1 m1).mp fa1
    have oth : ∀ l, Inc (S0 2) (S0 3) c l → l ≠ a0 → vOf (S0 11) l < 0 ∧ S0 12 (l / 2) ≤ S0 12 (a1 / 2) := fun l hl hne => by
      have r := r1 l hl hne
      have q := (fal l hl).mpr (by omega)
      refine ⟨q, ?_⟩
      rw [lev l q, lev a1 fa1] at r; exact r
    by_cases e : wl (S0 2) (S0 3) (2 * c) = a0
    · have hne : wl (S0 2) (S0 3) (2 * c + 1) ≠ a0 := fun q => wne (by rw [e, q])
      have o := oth _ w1 hne
      have := T1 o.1
      rw [e] at this
      exact ⟨this.1, by omega⟩
    · have o := oth _ w0 e
      have t := T0 o.1
      by_cases e2 : wl (S0 2) (S0 3) (2 * c + 1) = a0
      · rw [e2] at t; exact ⟨t.1, by omega⟩
      · have := (oth _ w1 e2).1; omega
end
end
section
/-! pure: forget: the watches of a clause that stays; the end -/
/-- the clause n has v of its two watches; its literals lie from t up to e -/
def FM (S0 S : Sv) (st1 : Int → Int) (c n t e v : Int) : Prop :=
  FA S0 S st1 (c + 1) (n + 1) e ∧ FC S0 S st1 (c + 1) (n + 1) e ∧ S 3 n = t ∧ S 9 c = n ∧ FW S0 S (n + 1) e (fun x => 0 ≤ x ∧ x < 2 * n + v) n ∧ (1 ≤ v → ∀ p, t ≤ p → p < e → rk S0 (S 2 p) ≤ rk S0 (S 2 t)) ∧ (2 ≤ v → ∀ p, t + 1 ≤ p → p < e → rk S0 (S 2 p) ≤ rk S0 (S 2 (t + 1)))
section
variable {Mod : (Int → Bool) → Prop} {S0 S S' : Sv} {st1 : Int → Int} {c n to t e v : Int}
theorem FA.rkE (h : FA S0 S st1 c n to) : rk S = rk S0 := by
  funext l
  unfold rk
  rw [h.1 11 (by decide) (by decide) (by decide) (by decide) (by decide) (by decide) (by decide), h.1 12 (by decide) (by decide) (by decide) (by decide) (by decide) (by decide) (by decide)]
theorem FM.bd (h : FM S0 S st1 c n t e v) (hn : 0 ≤ n) : 0 ≤ t ∧ t + 2 ≤ e ∧ e ≤ S0 3 (c + 1) ∧ (∀ p, t ≤ p → p < e → 0 ≤ S 2 p ∧ S 2 p < 2 * S0 0 0) ∧ n ≤ c ∧ c + 1 ≤ S0 6 0 := by
  obtain ⟨hA, hC, h1, h2, hW, r0, r1⟩ := h
  have z := hC.2.2.1.at (c := n) hn (by omega)
  rw [up_n _ _ (by omega), up_s, h1] at z
  refine ⟨z.1, z.2.1, hA.2.1.2.2.2, fun p a b => ?_, by have := hA.2.1; omega, hA.2.1.2.2.1⟩
  have := hC.2.2.1.lit (c := n) (p := p) hn (by omega) (by rw [up_n _ _ (by omega), h1]; exact a) (by rw [up_s]; exact b)
  exact this
theorem FM.step (h : FM S0 S st1 c n t e v) (hn : 0 ≤ n) (h16 : S0 0 0 ≤ 16) (hv : v = 0 ∨ v = 1) {b : Int} (b1 : t + v ≤ b) (b2 : b < e) (b3 : ∀ p, t + v ≤ p → p < e → rk S (S 2 p) ≤ rk S (S 2 b)) : FM S0 (lookS (u2 (u2 S 2 (t + v) (S 2 b)) 2 b (S 2 (t + v))) n v) st1 c n t e (v + 1) := by
  have bd := h.bd hn
  obtain ⟨hA, hC, h1, h2, ⟨hW, hT⟩, r0, r1⟩ := h
  have e2 : (lookS (u2 (u2 S 2 (t + v) (S 2 b)) 2 b (S 2 (t + v))) n v) 2 = swp (S 2) (t + v) b := rfl
  have el : (u2 (u2 S 2 (t + v) (S 2 b)) 2 b (S 2 (t + v))) 2 ((u2 (u2 S 2 (t + v) (S 2 b)) 2 b (S 2 (t + v))) 3 n + v) = S 2 b := by
    show swp (S 2) (t + v) b (S 3 n + v) = S 2 b
    rw [h1, swp_a]
  have e4 : (lookS (u2 (u2 S 2 (t + v) (S 2 b)) 2 b (S 2 (t + v))) n v) 4 = up (S 4) (2 * n + v) (S 10 (S 2 b)) := by
    show up (S 4) (2 * n + v) (S 10 ((u2 (u2 S 2 (t + v) (S 2 b)) 2 b (S 2 (t + v))) 2 ((u2 (u2 S 2 (t + v) (S 2 b)) 2 b (S 2 (t + v))) 3 n + v))) = _
    rw [el]
  have e10 : (lookS (u2 (u2 S 2 (t + v) (S 2 b)) 2 b (S 2 (t + v))) n v) 10 = up (S 10) (S 2 b) (2 * n + v) := by
    show up (S 10) ((u2 (u2 S 2 (t + v) (S 2 b)) 2 b (S 2 (t + v))) 2 ((u2 (u2 S 2 (t + v) (S 2 b)) 2 b (S 2 (t + v))) 3 n + v)) (2 * n + v) = _
    rw [el]
  have ko : ∀ k, k ≠ 2 → k ≠ 4 → k ≠ 10 → (lookS (u2 (u2 S 2 (t + v) (S 2 b)) 2 b (S 2 (t + v))) n v) k = S k := fun k q2 q4 q10 => by
    unfold lookS; rw [u2_n _ _ _ q10, u2_n _ _ _ q4, u2_n _ _ _ q2, u2_n _ _ _ q2]
  have lb := bd.2.2.2.1 b (by omega) b2
  have rkS := hA.rkE
  -- the watches' literals
  have wo : ∀ x, 0 ≤ x → x < 2 * n + v → wl (swp (S 2) (t + v) b) (up (S 3) (n + 1) e) x = wl (S 2) (up (S 3) (n + 1) e) x := by
    intro x x1 x2
    unfold wl
    by_cases q : x / 2 = n
    · rw [q, up_n _ _ (by omega), h1, swp_o _ (by omega) (by omega)]
    · have z := hC.2.2.1.le (c := x / 2 + 1) (d := n) (by omega) (by omega) (by omega)
      have y := hC.2.2.1.2.1 (x / 2) (by omega) (by omega)
      have u : up (S 3) (n + 1) e n = t := by rw [up_n _ _ (by omega), h1]
      rw [u] at z
      exact swp_o _ (by omega) (by omega)
  have wn : wl (swp (S 2) (t + v) b) (up (S 3) (n + 1) e) (2 * n + v) = S 2 b := by
    unfold wl
    rw [show (2 * n + v) / 2 = n by omega, up_n _ _ (by omega), h1, show (2 * n + v) % 2 = v by omega, swp_a]
  refine ⟨FA.swp (i := n) hA (by omega) (by omega) ko e2, hC.swp (i := n) hn (by omega) ?_ ?_ ko e2, ?_, ?_, ?_, fun q p p1 p2 => ?_, fun q p p1 p2 => ?_⟩
  · rw [up_n _ _ (by omega), up_s, h1]; omega
  · rw [up_n _ _ (by omega), up_s, h1]; omega
  · rw [ko 3 (by decide) (by decide) (by decide)]; exact h1
  · rw [ko 9 (by decide) (by decide) (by decide)]; exact h2
  · unfold FW
    rw [e2, e4, e10, ko 3 (by decide) (by decide) (by decide)]
    refine ⟨?_, hT.congr (fun x x1 x2 => wo x x1 (by omega))⟩
    have p0 := hW.congr (w1 := wl (swp (S 2) (t + v) b) (up (S 3) (n + 1) e)) (x1 := fun x => 0 ≤ x ∧ x < 2 * n + v) (fun x hx => wo x hx.1 hx.2) (fun x => Iff.rfl)
    have p1 := p0.push (2 * n + v) (S 2 b) (by omega) (by omega) wn lb.1 (by omega)
    exact p1.congr (fun x _ => rfl) (fun x => by constructor <;> intro z <;> omega)
  · rw [e2]
    rcases hv with hv | hv
    · subst hv
      rw [show swp (S 2) (t + 0) b t = S 2 b by rw [Int.add_zero]; exact swp_a _ _ _, swp_i, ← rkS]
      have w := swi_in (a := t + 0) (b := b) (j := p) (lo := t) (hi := e) (by omega) (by omega) (by omega)
      exact b3 _ (by omega) w.2
    · subst hv
      rw [show swp (S 2) (t + 1) b t = S 2 t from swp_o _ (by omega) (by omega), swp_i]
      have w := swi_in (a := t + 1) (b := b) (j := p) (lo := t) (hi := e) (by omega) (by omega) (by omega)
      exact r0 (by omega) _ w.1 w.2
  · rw [e2]
    have hv1 : v = 1 := by omega
    subst hv1
    rw [swp_a, swp_i, ← rkS]
    have w := swi_in (a := t + 1) (b := b) (j := p) (lo := t + 1) (hi := e) (by omega) (by omega) (by omega)
    exact b3 _ w.1 w.2
theorem FM.done (hI : Iv Mod S0 (S0 16 0) 0 []) (h : FM S0 S st1 c n t e 2) (hn : 0 ≤ n) (hs : st1 c = 0) : FI S0 S st1 (c + 1) (n + 1) e := by
  have bd := h.bd hn
  obtain ⟨hA, hC, h1, h2, ⟨hW, hT⟩, r0, r1⟩ := h
  have hinc := (hC.1 c (by omega) (by omega) hs).2.2.2
  rw [h2] at hinc
  have un : up (S 3) (n + 1) e n = t := by rw [up_n _ _ (by omega), h1]
  have ue : up (S 3) (n + 1) e (n + 1) = e := up_s _ _ _
  have w0 : wl (S 2) (up (S 3) (n + 1) e) (2 * n) = S 2 t := by
    unfold wl; rw [show 2 * n / 2 = n by omega, un, show 2 * n % 2 = 0 by omega, Int.add_zero]
  have w1 : wl (S 2) (up (S 3) (n + 1) e) (2 * n + 1) = S 2 (t + 1) := by
    unfold wl; rw [show (2 * n + 1) / 2 = n by omega, un, show (2 * n + 1) % 2 = 1 by omega]
  have pos : ∀ l, Inc (S0 2) (S0 3) c l → ∃ p, t ≤ p ∧ p < e ∧ S 2 p = l := fun l hl => by
    obtain ⟨p, p1, p2, p3⟩ := (hinc l).mpr hl
    rw [un] at p1; rw [ue] at p2
    exact ⟨p, p1, p2, p3⟩
  have bt := best_tw hI (c := c) (by omega) (by omega) (a0 := S 2 t) (a1 := S 2 (t + 1)) ((hinc _).mp ⟨t, by rw [un]; exact Int.le_refl _, by rw [ue]; omega, rfl⟩) ((hinc _).mp ⟨t + 1, by rw [un]; omega, by rw [ue]; omega, rfl⟩)
    (fun l hl => by obtain ⟨p, p1, p2, p3⟩ := pos l hl; rw [← p3]; exact r0 (by omega) p p1 p2)
    (fun l hl hne => by
      obtain ⟨p, p1, p2, p3⟩ := pos l hl
      rw [← p3]
      refine r1 (by omega) p ?_ p2
      by_cases q : p = t
      · rw [q] at p3; exact absurd p3.symm hne
      · omega)
  refine ⟨hA, hC, hW.congr (fun x _ => rfl) (fun x => by constructor <;> intro z <;> omega), fun w a b i i1 i2 i3 q => ?_⟩
  by_cases z0 : w = 2 * n
  · subst z0
    rw [show ng (2 * n) = 2 * n + 1 by unfold ng; omega, w0, w1] at *
    exact bt.1 i i1 i2 q
  · by_cases z1 : w = 2 * n + 1
    · subst z1
      rw [show ng (2 * n + 1) = 2 * n by unfold ng; omega, w0, w1] at *
      exact bt.2 i i1 i2 q
    · exact hT w a (by omega) i i1 i2 i3 q
/-- behind forget -/
def FZ (Mod : (Int → Bool) → Prop) (S0 u : Sv) : Prop := Iv Mod u (u 16 0) 0 [] ∧ u 8 0 ≤ 16 ∧ ∀ k, k ≠ 2 → k ≠ 3 → k ≠ 4 → k ≠ 5 → k ≠ 6 → k ≠ 7 → k ≠ 8 → k ≠ 9 → k ≠ 10 → k ≠ 13 → u k = S0 k
theorem FI.done (hI : Iv Mod S0 (S0 16 0) 0 []) (hS : FS S0 st1) (h : FI S0 S st1 (S0 6 0) n to) (k1 : ∀ k, k ≠ 3 → k ≠ 6 → k ≠ 7 → k ≠ 13 → S' k = S k) (k3 : S' 3 = up (S 3) n to) (k6 : S' 6 0 = n) (k7 : S' 7 0 = to)
    (k13 : ∀ k, 0 ≤ k → k < S0 16 0 → S' 13 (S0 14 k / 2) = if 0 ≤ S0 13 (S0 14 k / 2) then S 9 (S0 13 (S0 14 k / 2)) else S0 13 (S0 14 k / 2)) : FZ Mod S0 S' := by
  obtain ⟨⟨a1, a2, a3, a4, a5⟩, ⟨b1, b2, b3, b4, b5⟩, hw, htw⟩ := h
  have rn := hI.rng
  have hn := hI.n
  have so : ∀ k, k ≠ 2 → k ≠ 3 → k ≠ 4 → k ≠ 5 → k ≠ 6 → k ≠ 7 → k ≠ 8 → k ≠ 9 → k ≠ 10 → k ≠ 13 → S' k = S0 k := fun k q2 q3 q4 q5 q6 q7 q8 q9 q10 q13 => by rw [k1 k q3 q6 q7 q13, a1 k q2 q3 q4 q5 q8 q9 q10]
  have e0 : S' 0 = S0 0 := so 0 (by decide) (by decide) (by decide) (by decide) (by decide) (by decide) (by decide) (by decide) (by decide) (by decide)
  have e1 : S' 1 = S0 1 := so 1 (by decide) (by decide) (by decide) (by decide) (by decide) (by decide) (by decide) (by decide) (by decide) (by decide)
  have e11 : S' 11 = S0 11 := so 11 (by decide) (by decide) (by decide) (by decide) (by decide) (by decide) (by decide) (by decide) (by decide) (by decide)
  have e12 : S' 12 = S0 12 := so 12 (by decide) (by decide) (by decide) (by decide) (by decide) (by decide) (by decide) (by decide) (by decide) (by decide)
  have e14 : S' 14 = S0 14 := so 14 (by decide) (by decide) (by decide) (by decide) (by decide) (by decide) (by decide) (by decide) (by decide) (by decide)
  have e15 : S' 15 = S0 15 := so 15 (by decide) (by decide) (by decide) (by decide) (by decide) (by decide) (by decide) (by decide) (by decide) (by decide)
  have e16 : S' 16 = S0 16 := so 16 (by decide) (by decide) (by decide) (by decide) (by decide) (by decide) (by decide) (by decide) (by decide) (by decide)
  have e17 : S' 17 = S0 17 := so 17 (by decide) (by decide) (by decide) (by decide) (by decide) (by decide) (by decide) (by decide) (by decide) (by decide)
  have e2 : S' 2 = S 2 := k1 2 (by decide) (by decide) (by decide) (by decide)
  have e4 : S' 4 = S 4 := k1 4 (by decide) (by decide) (by decide) (by decide)
  have e5 : S' 5 = S 5 := k1 5 (by decide) (by decide) (by decide) (by decide)
  have e8 : S' 8 = S 8 := k1 8 (by decide) (by decide) (by decide) (by decide)
  have e10 : S' 10 = S 10 := k1 10 (by decide) (by decide) (by decide) (by decide)
  have t01 : ∀ i, 0 ≤ i → i < n → S 5 i = 0 ∨ S 5 i = 1 := fun i x y => by
    obtain ⟨j, j1, j2, j3, j4⟩ := b2 i x y
    have := (b1 j j1 j2 j3).2.2.1
    rw [j4] at this; rw [this]; exact hI.c.1 j j1 j2
  have les : S 8 0 ≤ S0 16 0 := by
    rw [b4]
    have := cnt_wit (S0 16 0).toNat n.toNat (S 5) (fun k => S 9 (S0 13 (S0 14 k / 2))) (fun i x y => t01 i x (by omega)) (fun i x y z => by
      obtain ⟨j, j1, j2, j3, j4⟩ := b2 i x (by omega)
      have q := (b1 j j1 j2 j3).2.2.1
      rw [j4, z] at q
      rcases (hS.1 j j1 j2).2.2 j3 with r | ⟨k, r1, r2, r3⟩
      · omega
      · exact ⟨k, r1, by omega, by show S 9 (S0 13 (S0 14 k / 2)) = i; rw [r3, j4]⟩)
    omega
  have hcn := hI.c
  refine ⟨?_, by rw [e8]; omega, so⟩
  unfold Iv
  rw [e0, e1, e2, e4, e5, e8, e10, e11, e12, e14, e15, e16, e17, k3, k6, k7]
  refine ⟨hn, b3, hI.a, hI.l, fun i x y => ?_, hI.d, ⟨fun μ hm i x y => ?_, hI.s.2.1, fun μ q1 q2 => hI.s.2.2 μ (fun j j1 j2 j3 => ?_) q2⟩, ⟨t01, b4, by omega, ?_⟩, Wl.x.mpr hw, htw⟩
  · rw [k13 i x y]
    rcases hI.r i x y with ⟨q1, q2⟩ | ⟨q1, q2, q3, q4⟩
    · rw [if_neg (by omega)]; exact Or.inl ⟨q1, q2⟩
    · rw [if_pos q1]
      have r := b1 _ q1 q2 (hS.2 i x y q1)
      exact Or.inr ⟨r.1, r.2.1, (r.2.2.2 _).mpr q3, fun l hl => q4 l ((r.2.2.2 l).mp hl)⟩
  · obtain ⟨j, j1, j2, j3, j4⟩ := b2 i x y
    obtain ⟨l, l1, l2⟩ := hI.s.1 μ hm j j1 j2
    have r := (b1 j j1 j2 j3).2.2.2 l
    rw [j4] at r
    exact ⟨l, r.mpr l1, l2⟩
  · have r := b1 j j1 j2 ((hS.1 j j1 j2).2.1 j3)
    obtain ⟨l, l1, l2⟩ := q1 (S 9 j) r.1 r.2.1 (by rw [r.2.2.1]; exact j3)
    exact ⟨l, (r.2.2.2 l).mp l1, l2⟩
  · rw [b5]; have := hcn.2.1; have := hcn.2.2.2; omega
end
end
section
/-! forget -/
/-- which clauses stay, after the first k of the trail -/
def FSk (S0 : Sv) (st : Int → Int) (m : Int) : Prop :=
  (∀ c, 0 ≤ c → c < S0 6 0 → (st c = 0 ∨ st c = -1) ∧ (S0 5 c = 0 → st c = 0) ∧ (st c = 0 → S0 5 c = 0 ∨ ∃ k, 0 ≤ k ∧ k < m ∧ S0 13 (S0 14 k / 2) = c)) ∧ ∀ k, 0 ≤ k → k < m → 0 ≤ S0 13 (S0 14 k / 2) → st (S0 13 (S0 14 k / 2)) = 0
theorem FSk.s {S0 : Sv} {st : Int → Int} {m : Int} (h : FSk S0 st m) (hm : 0 ≤ m) (h0 : 0 ≤ S0 13 (S0 14 m / 2)) : FSk S0 (up st (S0 13 (S0 14 m / 2)) 0) (m + 1) := by
  refine ⟨fun c a b => ?_, fun k a b q => ?_⟩
  · have r := h.1 c a b
    by_cases e : c = S0 13 (S0 14 m / 2)
    · rw [e, up_s]
      refine ⟨Or.inl rfl, fun _ => rfl, fun _ => ?_⟩
      exact Or.inr ⟨m, hm, by omega, rfl⟩
    · rw [up_n _ _ e]
      refine ⟨r.1, r.2.1, fun q => ?_⟩
      rcases r.2.2 q with y | ⟨k, y1, y2, y3⟩
      · exact Or.inl y
      · exact Or.inr ⟨k, y1, by omega, y3⟩
  · by_cases e : S0 13 (S0 14 k / 2) = S0 13 (S0 14 m / 2)
    · rw [e, up_s]
    · rw [up_n _ _ e]
      by_cases z : k = m
      · rw [z] at e; exact absurd rfl e
      · exact h.2 k a (by omega) q
theorem FSk.n {S0 : Sv} {st : Int → Int} {m : Int} (h : FSk S0 st m) (h0 : S0 13 (S0 14 m / 2) < 0) : FSk S0 st (m + 1) := by
  refine ⟨fun c a b => ?_, fun k a b q => ?_⟩
  · have r := h.1 c a b
    refine ⟨r.1, r.2.1, fun q => ?_⟩
    rcases r.2.2 q with y | ⟨k, y1, y2, y3⟩
    · exact Or.inl y
    · exact Or.inr ⟨k, y1, by omega, y3⟩
  · by_cases z : k = m
    · rw [z] at q; omega
    · exact h.2 k a (by omega) q
theorem lp_forg1 {K : Cx} {h0 : Nat} {ad : Nat → Nat} {cA : Nat → ClassId} (C : Ok K R_Sv b_Sv_forget) (hR : xR K = rmL 3) (ht : xt K = sty cA) (hL : xL K = 7) (hcs : xn K ≤ (xR K).cells ∧ xk K ≤ (xR K).slots) (Mod : (Int → Bool) → Prop) (S0 : Sv) (hI : Iv Mod S0 (S0 16 0) 0 []) (kk : ∀ S : Sv, (∀ k, k ≠ 9 → S k = S0 k) → FSk S0 (S 9) 0 → J K (sw h0 ad cA S) 36 [(0, .ref h0), (1, jv (S0 6 0))] []) :
    ∀ (m : Nat) (S : Sv) (c : Int), S0 6 0 - c < m → 0 ≤ c → c ≤ S0 6 0 → (∀ k, k ≠ 9 → S k = S0 k) → (∀ j, 0 ≤ j → j < c → S 9 j = if S0 5 j = 0 then 0 else -1) → J K (sw h0 ad cA S) 2 [(0, .ref h0), (1, jv c)] [] := by
  have L := Ln_Sv (h0 := h0) (ad := ad) ht
  have rn := hI.rng
  intro m
  induction m with
  | zero => intro S c q1; omega
  | succ m ih =>
    intro S c q1 q2 q3 q4 q5
    have e6 : S 6 0 = S0 6 0 := by rw [q4 6 (by decide)]
    have e5 : S 5 c = S0 5 c := by rw [q4 5 (by decide)]
    refine j_iload_n C 1 d_Sv_forget_2 rfl rfl ?_
    refine j_aload_n C 0 d_Sv_forget_3 rfl rfl ?_
    refine s_get C L 6 (by decide) rfl (S0 6 0) e6 d_Sv_forget_4 ?_
    refine j_icmp_ge (tgt := 36) C d_Sv_forget_7 (by decide) (rgi (by omega) (by omega)) (rgi (by omega) (by omega)) (fun x => ?_) (fun x => ?_)
    · have e : c = S0 6 0 := by omega
      rw [e]
      refine kk S q4 ⟨fun j a b => ?_, fun k a b => by omega⟩
      rw [q5 j a (by omega)]
      split
      · exact ⟨Or.inl rfl, fun _ => rfl, fun _ => Or.inl (by assumption)⟩
      · exact ⟨Or.inr rfl, fun z => absurd z (by assumption), fun z => absurd z (by decide)⟩
    · have t01 := hI.c.1 c q2 (by omega)
      refine j_aload_n C 0 d_Sv_forget_10 rfl rfl ?_
      refine s_getA C L 9 (by decide) rfl d_Sv_forget_11 ?_
      refine j_iload_n C 1 d_Sv_forget_14 rfl rfl ?_
      refine j_aload_n C 0 d_Sv_forget_15 rfl rfl ?_
      refine s_getA C L 5 (by decide) rfl d_Sv_forget_16 ?_
      refine j_iload_n C 1 d_Sv_forget_19 rfl rfl ?_
      refine s_zald C L 5 617 (by decide) rfl rfl (S0 5 c) e5 (by omega) (by omega) d_Sv_forget_20 ?_
      refine j_if_eq (tgt := 28) C d_Sv_forget_21 (by decide) (rgi (by omega) (by omega)) (fun y => ?_) (fun y => ?_)
      · refine j_iconst C d_Sv_forget_28 ?_
        refine s_iast C L 9 617 (by decide) rfl rfl (by omega) (by omega) d_Sv_forget_29 ?_
        refine j_iinc (lv' := [(0, .ref h0), (1, jv (c + 1))]) C 1 d_Sv_forget_30 rfl (by rw [hL]; decide) rfl rfl ?_
        refine j_goto (tgt := 2) C d_Sv_forget_33 (by decide) ?_
        exact ih _ (c + 1) (by omega) (by omega) (by omega) (fun k hk => by rw [← q4 k hk, u2_n _ _ _ hk]) (fun j a b => by
          show up (S 9) c _ j = _
          by_cases e : j = c
          · rw [e, up_s, if_pos y]
          · rw [up_n _ _ e]; exact q5 j a (by omega))
      · refine j_iconst C d_Sv_forget_24 ?_
        refine j_goto (tgt := 29) C d_Sv_forget_25 (by decide) ?_
        refine s_iast C L 9 617 (by decide) rfl rfl (by omega) (by omega) d_Sv_forget_29 ?_
        refine j_iinc (lv' := [(0, .ref h0), (1, jv (c + 1))]) C 1 d_Sv_forget_30 rfl (by rw [hL]; decide) rfl rfl ?_
        refine j_goto (tgt := 2) C d_Sv_forget_33 (by decide) ?_
        exact ih _ (c + 1) (by omega) (by omega) (by omega) (fun k hk => by rw [← q4 k hk, u2_n _ _ _ hk]) (fun j a b => by
          show up (S 9) c _ j = _
          by_cases e : j = c
          · rw [e, up_s, if_neg y]
          · rw [up_n _ _ e]; exact q5 j a (by omega))
theorem lp_forg2 {K : Cx} {h0 : Nat} {ad : Nat → Nat} {cA : Nat → ClassId} (C : Ok K R_Sv b_Sv_forget) (hR : xR K = rmL 3) (ht : xt K = sty cA) (hL : xL K = 7) (hcs : xn K ≤ (xR K).cells ∧ xk K ≤ (xR K).slots) (Mod : (Int → Bool) → Prop) (S0 : Sv) (hI : Iv Mod S0 (S0 16 0) 0 []) (kk : ∀ S : Sv, (∀ k, k ≠ 9 → S k = S0 k) → FS S0 (S 9) → J K (sw h0 ad cA S) 87 [(0, .ref h0), (1, jv (S0 16 0))] []) :
    ∀ (m : Nat) (S : Sv) (c : Int), S0 16 0 - c < m → 0 ≤ c → c ≤ S0 16 0 → (∀ k, k ≠ 9 → S k = S0 k) → FSk S0 (S 9) c → J K (sw h0 ad cA S) 38 [(0, .ref h0), (1, jv c)] [] := by
  have L := Ln_Sv (h0 := h0) (ad := ad) ht
  have rn := hI.rng
  have hn := hI.n
  intro m
  induction m with
  | zero => intro S c q1; omega
  | succ m ih =>
    intro S c q1 q2 q3 q4 q5
    have e16 : S 16 0 = S0 16 0 := by rw [q4 16 (by decide)]
    have e14 : S 14 = S0 14 := q4 14 (by decide)
    have e13 : S 13 = S0 13 := q4 13 (by decide)
    refine j_iload_n C 1 d_Sv_forget_38 rfl rfl ?_
    refine j_aload_n C 0 d_Sv_forget_39 rfl rfl ?_
    refine s_get C L 16 (by decide) rfl (S0 16 0) e16 d_Sv_forget_40 ?_
    refine j_icmp_ge (tgt := 87) C d_Sv_forget_43 (by decide) (rgi (by omega) (by omega)) (rgi (by omega) (by omega)) (fun x => ?_) (fun x => ?_)
    · have e : c = S0 16 0 := by omega
      rw [e] at q5 ⊢
      exact kk S q4 q5
    · have ht0 := hI.a.2.1 c q2 (by omega)
      have hr0 : -1 ≤ S0 13 (S0 14 c / 2) ∧ S0 13 (S0 14 c / 2) < S0 6 0 := by
        rcases hI.r c q2 (by omega) with z | z
        · omega
        · omega
      refine j_aload_n C 0 d_Sv_forget_46 rfl rfl ?_
      refine s_getA C L 13 (by decide) rfl d_Sv_forget_47 ?_
      refine j_aload_n C 0 d_Sv_forget_50 rfl rfl ?_
      refine s_getA C L 14 (by decide) rfl d_Sv_forget_51 ?_
      refine j_iload_n C 1 d_Sv_forget_54 rfl rfl ?_
      refine s_iald C L 14 16 (by decide) rfl rfl (S0 14 c) (by rw [e14]) (by omega) (by omega) d_Sv_forget_55 ?_
      refine j_iconst C d_Sv_forget_56 ?_
      refine j_ishr C d_Sv_forget_57 (jI_shr1 (by omega) (by omega)) ?_
      refine s_iald C L 13 16 (by decide) rfl rfl (S0 13 (S0 14 c / 2)) (by rw [e13]) (by omega) (by omega) d_Sv_forget_58 ?_
      refine j_if_lt (tgt := 81) C d_Sv_forget_59 (by decide) (rgi (by omega) (by omega)) (fun y => ?_) (fun y => ?_)
      · refine j_iinc (lv' := [(0, .ref h0), (1, jv (c + 1))]) C 1 d_Sv_forget_81 rfl (by rw [hL]; decide) rfl rfl ?_
        refine j_goto (tgt := 38) C d_Sv_forget_84 (by decide) ?_
        exact ih S (c + 1) (by omega) (by omega) (by omega) q4 (q5.n y)
      · refine j_aload_n C 0 d_Sv_forget_62 rfl rfl ?_
        refine s_getA C L 9 (by decide) rfl d_Sv_forget_63 ?_
        refine j_aload_n C 0 d_Sv_forget_66 rfl rfl ?_
        refine s_getA C L 13 (by decide) rfl d_Sv_forget_67 ?_
        refine j_aload_n C 0 d_Sv_forget_70 rfl rfl ?_
        refine s_getA C L 14 (by decide) rfl d_Sv_forget_71 ?_
        refine j_iload_n C 1 d_Sv_forget_74 rfl rfl ?_
        refine s_iald C L 14 16 (by decide) rfl rfl (S0 14 c) (by rw [e14]) (by omega) (by omega) d_Sv_forget_75 ?_
        refine j_iconst C d_Sv_forget_76 ?_
        refine j_ishr C d_Sv_forget_77 (jI_shr1 (by omega) (by omega)) ?_
        refine s_iald C L 13 16 (by decide) rfl rfl (S0 13 (S0 14 c / 2)) (by rw [e13]) (by omega) (by omega) d_Sv_forget_78 ?_
        refine j_iconst C d_Sv_forget_79 ?_
        refine s_iast C L 9 617 (by decide) rfl rfl (by omega) (by omega) d_Sv_forget_80 ?_
        refine j_iinc (lv' := [(0, .ref h0), (1, jv (c + 1))]) C 1 d_Sv_forget_81 rfl (by rw [hL]; decide) rfl rfl ?_
        refine j_goto (tgt := 38) C d_Sv_forget_84 (by decide) ?_
        exact ih _ (c + 1) (by omega) (by omega) (by omega) (fun k hk => by rw [← q4 k hk, u2_n _ _ _ hk]) (q5.s q2 (by omega))
theorem lp_forg4 {K : Cx} {h0 : Nat} {ad : Nat → Nat} {cA : Nat → ClassId} (C : Ok K R_Sv b_Sv_forget) (hR : xR K = rmL 3) (ht : xt K = sty cA) (hL : xL K = 7) (hcs : xn K ≤ (xR K).cells ∧ xk K ≤ (xR K).slots) (Mod : (Int → Bool) → Prop) (S0 : Sv) (st1 : Int → Int) (hI : Iv Mod S0 (S0 16 0) 0 []) (c n t e a4 a5 : Int) (hn : 0 ≤ n) (hs : st1 c = 0) (kk : ∀ S : Sv, FI S0 S st1 (c + 1) (n + 1) e → J K (sw h0 ad cA S) 258 [(0, .ref h0), (1, jv n), (2, jv e), (3, jv c), (4, jv a4), (5, jv a5), (6, jv 2)] []) :
    ∀ (m : Nat) (S : Sv) (v : Int), 2 - v < m → 0 ≤ v → v ≤ 2 → FM S0 S st1 c n t e v → J K (sw h0 ad cA S) 225 [(0, .ref h0), (1, jv n), (2, jv e), (3, jv c), (4, jv a4), (5, jv a5), (6, jv v)] [] := by
  have L := Ln_Sv (h0 := h0) (ad := ad) ht
  have rn := hI.rng
  have hn0 := hI.n
  intro m
  induction m with
  | zero => intro S v q1; omega
  | succ m ih =>
    intro S v q1 q2 q3 hM
    have bd := hM.bd hn
    have zc := hI.cl.at (c := c) (by omega) (by omega)
    have e3 : S 3 n = t := hM.2.2.1
    have rks := hM.1.rkE
    have f11 : S 11 = S0 11 := hM.1.1 11 (by decide) (by decide) (by decide) (by decide) (by decide) (by decide) (by decide)
    have f12 : S 12 = S0 12 := hM.1.1 12 (by decide) (by decide) (by decide) (by decide) (by decide) (by decide) (by decide)
    refine j_iload C 6 d_Sv_forget_225 rfl ?_
    refine j_iconst C d_Sv_forget_227 ?_
    refine j_icmp_ge (tgt := 258) C d_Sv_forget_228 (by decide) (rgi (by omega) (by omega)) (rgi (by omega) (by omega)) (fun x => ?_) (fun x => ?_)
    · have ev : v = 2 := by omega
      subst ev
      exact kk S (hM.done hI hn hs)
    · refine j_aload_n C 0 d_Sv_forget_231 rfl rfl ?_
      refine j_aload_n C 0 d_Sv_forget_232 rfl rfl ?_
      refine s_getA C L 3 (by decide) rfl d_Sv_forget_233 ?_
      refine j_iload_n C 1 d_Sv_forget_236 rfl rfl ?_
      refine s_iald C L 3 618 (by decide) rfl rfl t e3 (by omega) (by omega) d_Sv_forget_237 ?_
      refine j_iload C 6 d_Sv_forget_238 rfl ?_
      refine j_iadd C d_Sv_forget_240 ?_
      refine j_iload_n C 2 d_Sv_forget_241 rfl rfl ?_
      have wb : ∀ p, t + v ≤ p → p < e → 0 ≤ S 2 p ∧ S 2 p < 32 ∧ rg (vOf (S 11) (S 2 p)) ∧ (vOf (S 11) (S 2 p) < 0 → rg (S 12 (S 2 p / 2))) := fun p p1 p2 => by
        have l := bd.2.2.2.1 p (by omega) p2
        have r := hI.a.rng l.1 l.2
        rw [f11, f12]
        refine ⟨l.1, by omega, rgi (by omega) (by omega), fun z => ?_⟩
        obtain ⟨i, i1, i2, i3⟩ := (hI.a.f l.1 l.2).mp z
        have lv := hI.l.2.2.2 i i1 i2
        rw [i3, ng_div] at lv
        exact rgi (by omega) (by omega)
      refine j_callV (wr := []) (As := [jv (t + v), jv e]) (rest := []) (w := sw h0 ad cA) (u0 := S) C (c_Sv_watchBest _ _ h0 ad cA S (t + v) e (by omega) (by omega) (by omega) wb) (by rw [ht]; exact fun _ h => h) lk_Sv_108 rfl (q0 := 0) rfl rfl (by rw [hR]; decide) hcs d_Sv_forget_242 rfl (Nat.le_of_ble_eq_true rfl) (fun u1 hu => ?_)
      obtain ⟨b, b1, b2, b3, rfl⟩ := hu
      refine j_aload_n C 0 d_Sv_forget_245 rfl rfl ?_
      refine j_iload_n C 1 d_Sv_forget_246 rfl rfl ?_
      refine j_iload C 6 d_Sv_forget_247 rfl ?_
      have lb := bd.2.2.2.1 b (by omega) b2
      have eL : (u2 (u2 S 2 (t + v) (S 2 b)) 2 b (S 2 (t + v))) 2 ((u2 (u2 S 2 (t + v) (S 2 b)) 2 b (S 2 (t + v))) 3 n + v) = S 2 b := by
        show swp (S 2) (t + v) b (S 3 n + v) = S 2 b
        rw [e3, swp_a]
      refine j_callV (wr := []) (As := [jv n, jv v]) (rest := []) (w := sw h0 ad cA) (u0 := (u2 (u2 S 2 (t + v) (S 2 b)) 2 b (S 2 (t + v)))) C (c_Sv_look _ _ h0 ad cA (u2 (u2 S 2 (t + v) (S 2 b)) 2 b (S 2 (t + v))) n v hn (by omega) (by omega) (show 0 ≤ S 3 n + v by omega) (show S 3 n + v < 9872 by omega) (by rw [eL]; omega) (by rw [eL]; omega)) (by rw [ht]; exact fun _ h => h) lk_Sv_105 rfl (q0 := 0) rfl rfl (by rw [hR]; decide) hcs d_Sv_forget_249 rfl (Nat.le_of_ble_eq_true rfl) (fun u2_ hu => ?_)
      subst hu
      refine j_iinc (lv' := [(0, .ref h0), (1, jv n), (2, jv e), (3, jv c), (4, jv a4), (5, jv a5), (6, jv (v + 1))]) C 6 d_Sv_forget_252 rfl (by rw [hL]; decide) rfl rfl ?_
      refine j_goto (tgt := 225) C d_Sv_forget_255 (by decide) ?_
      exact ih _ (v + 1) (by omega) (by omega) (by omega) (hM.step hn hn0.2 (by omega) b1 b2 b3)
theorem lp_forg5 {K : Cx} {h0 : Nat} {ad : Nat → Nat} {cA : Nat → ClassId} (C : Ok K R_Sv b_Sv_forget) (hR : xR K = rmL 3) (ht : xt K = sty cA) (hL : xL K = 7) (hcs : xn K ≤ (xR K).cells ∧ xk K ≤ (xR K).slots) (Mod : (Int → Bool) → Prop) (S0 S : Sv) (st1 : Int → Int) (hI : Iv Mod S0 (S0 16 0) 0 []) (c n to e a4 a5 a6 : Int) (hF : FI S0 S st1 c n to) (hc : c < S0 6 0) (hs : st1 c = 0) (ee : e = to + (S0 3 (c + 1) - S0 3 c)) (Sd : Sv) (k1 : ∀ k, k ≠ 2 → k ≠ 3 → k ≠ 5 → k ≠ 8 → Sd k = S k) (k3 : Sd 3 = up (S 3) n to) (k5 : Sd 5 = up (S 5) n (S 5 c)) (k8 : Sd 8 0 = S 8 0 + S 5 c) (l1 : ∀ p, p < to → Sd 2 p = S 2 p) (l2 : ∀ p, to ≤ p → p < to + (S0 3 (c + 1) - S0 3 c) → Sd 2 p = S0 2 (S0 3 c + (p - to))) (l3 : ∀ p, S0 3 (c + 1) ≤ p → p < S0 7 0 → Sd 2 p = S0 2 p) (kk : ∀ S : Sv, FI S0 S st1 (c + 1) (n + 1) e → J K (sw h0 ad cA S) 106 [(0, .ref h0), (1, jv (n + 1)), (2, jv e), (3, jv (c + 1))] []) :
    J K (sw h0 ad cA Sd) 215 [(0, .ref h0), (1, jv n), (2, jv e), (3, jv c), (4, jv a4), (5, jv a5), (6, jv a6)] [] := by
  have L := Ln_Sv (h0 := h0) (ad := ad) ht
  have rn := hI.rng
  have b1 := hF.1.2.1
  refine j_aload_n C 0 d_Sv_forget_215 rfl rfl ?_
  refine s_getA C L 9 (by decide) rfl d_Sv_forget_216 ?_
  refine j_iload_n C 3 d_Sv_forget_219 rfl rfl ?_
  refine j_iload_n C 1 d_Sv_forget_220 rfl rfl ?_
  refine s_iast C L 9 617 (by decide) rfl rfl (by omega) (by omega) d_Sv_forget_221 ?_
  refine j_iconst C d_Sv_forget_222 ?_
  refine j_istore (lv' := [(0, .ref h0), (1, jv n), (2, jv e), (3, jv c), (4, jv a4), (5, jv a5), (6, jv 0)]) C d_Sv_forget_223 (by rw [hL]; decide) rfl rfl ?_
  have hcp := FI.copy (S' := u2 Sd 9 c n) hI hF hc hs (fun k q2 q3 q5 q8 q9 => by rw [u2_n _ _ _ q9]; exact k1 k q2 q3 q5 q8) k3 k5 k8 (show up (Sd 9) c n = _ by rw [k1 9 (by decide) (by decide) (by decide) (by decide)]) l1 l2 l3
  rw [← ee] at hcp
  have hM : FM S0 (u2 Sd 9 c n) st1 c n to e 0 := ⟨hcp.1, hcp.2.1, by show Sd 3 n = to; rw [k3, up_s], (show up (Sd 9) c n c = n by rw [up_s]), by rw [Int.add_zero]; exact hcp.2.2, fun q => absurd q (by omega), fun q => absurd q (by omega)⟩
  refine lp_forg4 C hR ht hL hcs Mod S0 st1 hI c n to e a4 a5 b1.1 hs (fun S2 h2 => ?_) 3 _ 0 (by omega) (by omega) (by omega) hM
  refine j_iinc (lv' := [(0, .ref h0), (1, jv (n + 1)), (2, jv e), (3, jv c), (4, jv a4), (5, jv a5), (6, jv 2)]) C 1 d_Sv_forget_258 rfl (by rw [hL]; decide) rfl rfl ?_
  refine j_iinc (lv' := [(0, .ref h0), (1, jv (n + 1)), (2, jv e), (3, jv (c + 1)), (4, jv a4), (5, jv a5), (6, jv 2)]) C 3 d_Sv_forget_261 rfl (by rw [hL]; decide) rfl rfl ?_
  refine j_goto (tgt := 106) C d_Sv_forget_264 (by decide) ?_
  refine j_sub [0, 1, 2, 3] rfl ?_
  exact kk S2 h2
theorem lp_forg6 {K : Cx} {h0 : Nat} {ad : Nat → Nat} {cA : Nat → ClassId} (C : Ok K R_Sv b_Sv_forget) (hR : xR K = rmL 3) (ht : xt K = sty cA) (hL : xL K = 7) (hcs : xn K ≤ (xR K).cells ∧ xk K ≤ (xR K).slots) (Mod : (Int → Bool) → Prop) (S0 S : Sv) (st1 : Int → Int) (hI : Iv Mod S0 (S0 16 0) 0 []) (c n to : Int) (hF : FI S0 S st1 c n to) (hc : c < S0 6 0) (kk : ∀ (Sx : Sv) (t2 k : Int), k = S0 3 (c + 1) → t2 = to + (S0 3 (c + 1) - S0 3 c) → (∀ k, k ≠ 2 → Sx k = (u2 S 3 n to) k) → (∀ p, p < to → Sx 2 p = S 2 p) → (∀ p, to ≤ p → p < t2 → Sx 2 p = S0 2 (S0 3 c + (p - to))) → (∀ p, k ≤ p → p < S0 7 0 → Sx 2 p = S0 2 p) → J K (sw h0 ad cA Sx) 184 [(0, .ref h0), (1, jv n), (2, jv t2), (3, jv c), (4, jv (S0 3 c)), (5, jv (S0 3 (c + 1))), (6, jv k)] []) :
    ∀ (m : Nat) (Sx : Sv) (t2 k : Int), S0 3 (c + 1) - k < m → S0 3 c ≤ k → k ≤ S0 3 (c + 1) → t2 = to + (k - S0 3 c) → (∀ k, k ≠ 2 → Sx k = (u2 S 3 n to) k) → (∀ p, p < to → Sx 2 p = S 2 p) → (∀ p, to ≤ p → p < t2 → Sx 2 p = S0 2 (S0 3 c + (p - to))) → (∀ p, k ≤ p → p < S0 7 0 → Sx 2 p = S0 2 p) → J K (sw h0 ad cA Sx) 155 [(0, .ref h0), (1, jv n), (2, jv t2), (3, jv c), (4, jv (S0 3 c)), (5, jv (S0 3 (c + 1))), (6, jv k)] [] := by
  have L := Ln_Sv (h0 := h0) (ad := ad) ht
  have rn := hI.rng
  have b1 := hF.1.2.1
  have zc := hI.cl.at (c := c) (by omega) hc
  have lo := hF.2.1.2.2.1.lo (c := n) b1.1 (Int.le_refl _)
  rw [up_s] at lo
  intro m
  induction m with
  | zero => intro Sx t2 k q1; omega
  | succ m ih =>
    intro Sx t2 k q1 q2 q3 q4 r1 r2 r3 r4
    refine j_iload C 6 d_Sv_forget_155 rfl ?_
    refine j_iload C 5 d_Sv_forget_157 rfl ?_
    refine j_icmp_ge (tgt := 184) C d_Sv_forget_159 (by decide) (rgi (by omega) (by omega)) (rgi (by omega) (by omega)) (fun x => ?_) (fun x => ?_)
    · exact kk Sx t2 k (by omega) (by omega) r1 r2 r3 r4
    · refine j_aload_n C 0 d_Sv_forget_162 rfl rfl ?_
      refine s_getA C L 2 (by decide) rfl d_Sv_forget_163 ?_
      refine j_iload_n C 2 d_Sv_forget_166 rfl rfl ?_
      refine j_iinc (lv' := [(0, .ref h0), (1, jv n), (2, jv (t2 + 1)), (3, jv c), (4, jv (S0 3 c)), (5, jv (S0 3 (c + 1))), (6, jv k)]) C 2 d_Sv_forget_167 rfl (by rw [hL]; decide) rfl rfl ?_
      refine j_aload_n C 0 d_Sv_forget_170 rfl rfl ?_
      refine s_getA C L 2 (by decide) rfl d_Sv_forget_171 ?_
      refine j_iload C 6 d_Sv_forget_174 rfl ?_
      refine s_iald C L 2 9872 (by decide) rfl rfl (S0 2 k) (r4 k (Int.le_refl _) (by omega)) (by omega) (by omega) d_Sv_forget_176 ?_
      refine s_iast C L 2 9872 (by decide) rfl rfl (by omega) (by omega) d_Sv_forget_177 ?_
      refine j_iinc (lv' := [(0, .ref h0), (1, jv n), (2, jv (t2 + 1)), (3, jv c), (4, jv (S0 3 c)), (5, jv (S0 3 (c + 1))), (6, jv (k + 1))]) C 6 d_Sv_forget_178 rfl (by rw [hL]; decide) rfl rfl ?_
      refine j_goto (tgt := 155) C d_Sv_forget_181 (by decide) ?_
      refine ih _ (t2 + 1) (k + 1) (by omega) (by omega) (by omega) (by omega) (fun j hj => by rw [u2_n _ _ _ hj]; exact r1 j hj) (fun p hp => ?_) (fun p h1 h2 => ?_) (fun p h1 h2 => ?_)
      · show up (Sx 2) t2 (S0 2 k) p = _
        rw [up_n _ _ (by omega)]; exact r2 p hp
      · show up (Sx 2) t2 (S0 2 k) p = _
        by_cases e : p = t2
        · rw [e, up_s]; congr 1; omega
        · rw [up_n _ _ e]; exact r3 p h1 (by omega)
      · show up (Sx 2) t2 (S0 2 k) p = _
        rw [up_n _ _ (by omega)]; exact r4 p (by omega) h2
theorem lp_forg3 {K : Cx} {h0 : Nat} {ad : Nat → Nat} {cA : Nat → ClassId} (C : Ok K R_Sv b_Sv_forget) (hR : xR K = rmL 3) (ht : xt K = sty cA) (hL : xL K = 7) (hcs : xn K ≤ (xR K).cells ∧ xk K ≤ (xR K).slots) (Mod : (Int → Bool) → Prop) (S0 : Sv) (st1 : Int → Int) (hI : Iv Mod S0 (S0 16 0) 0 []) (hS : FS S0 st1) (kk : ∀ (S : Sv) (n to : Int), FI S0 S st1 (S0 6 0) n to → J K (sw h0 ad cA S) 267 [(0, .ref h0), (1, jv n), (2, jv to), (3, jv (S0 6 0))] []) :
    ∀ (m : Nat) (S : Sv) (c n to : Int), S0 6 0 - c < m → FI S0 S st1 c n to → J K (sw h0 ad cA S) 106 [(0, .ref h0), (1, jv n), (2, jv to), (3, jv c)] [] := by
  have L := Ln_Sv (h0 := h0) (ad := ad) ht
  have rn := hI.rng
  intro m
  induction m with
  | zero => intro S c n to q1 hF; have := hF.1.2.1; omega
  | succ m ih =>
    intro S c n to q1 hF
    have b1 := hF.1.2.1
    have e6 : S 6 0 = S0 6 0 := by rw [hF.1.1 6 (by decide) (by decide) (by decide) (by decide) (by decide) (by decide) (by decide)]
    have lo := hF.2.1.2.2.1.lo (c := n) b1.1 (Int.le_refl _)
    rw [up_s] at lo
    refine j_iload_n C 3 d_Sv_forget_106 rfl rfl ?_
    refine j_aload_n C 0 d_Sv_forget_107 rfl rfl ?_
    refine s_get C L 6 (by decide) rfl (S0 6 0) e6 d_Sv_forget_108 ?_
    refine j_icmp_ge (tgt := 267) C d_Sv_forget_111 (by decide) (rgi (by omega) (by omega)) (rgi (by omega) (by omega)) (fun x => ?_) (fun x => ?_)
    · have e : c = S0 6 0 := by omega
      subst e
      exact kk S n to hF
    · have zc := hI.cl.at (c := c) (by omega) (by omega)
      have st := (hS.1 c (by omega) (by omega)).1
      have e9 : S 9 c = st1 c := (hF.1.2.2.2.2 c (Int.le_refl _) (by omega)).2
      have e5 : S 5 c = S0 5 c := (hF.1.2.2.2.2 c (Int.le_refl _) (by omega)).1
      have t01 := hI.c.1 c (by omega) (by omega)
      have e3 : S 3 c = S0 3 c := hF.1.2.2.1 c (Int.le_refl _) (by omega)
      have e3' : S 3 (c + 1) = S0 3 (c + 1) := hF.1.2.2.1 (c + 1) (by omega) (by omega)
      refine j_aload_n C 0 d_Sv_forget_114 rfl rfl ?_
      refine s_getA C L 9 (by decide) rfl d_Sv_forget_115 ?_
      refine j_iload_n C 3 d_Sv_forget_118 rfl rfl ?_
      refine s_iald C L 9 617 (by decide) rfl rfl (st1 c) e9 (by omega) (by omega) d_Sv_forget_119 ?_
      refine j_if_ge (tgt := 126) C d_Sv_forget_120 (by decide) (rgi (by omega) (by omega)) (fun y => ?_) (fun y => ?_)
      · refine j_aload_n C 0 d_Sv_forget_126 rfl rfl ?_
        refine s_getA C L 3 (by decide) rfl d_Sv_forget_127 ?_
        refine j_iload_n C 3 d_Sv_forget_130 rfl rfl ?_
        refine s_iald C L 3 618 (by decide) rfl rfl (S0 3 c) e3 (by omega) (by omega) d_Sv_forget_131 ?_
        refine j_istore (lv' := [(0, .ref h0), (1, jv n), (2, jv to), (3, jv c), (4, jv (S0 3 c))]) C d_Sv_forget_132 (by rw [hL]; decide) rfl rfl ?_
        refine j_aload_n C 0 d_Sv_forget_134 rfl rfl ?_
        refine s_getA C L 3 (by decide) rfl d_Sv_forget_135 ?_
        refine j_iload_n C 3 d_Sv_forget_138 rfl rfl ?_
        refine j_iconst C d_Sv_forget_139 ?_
        refine j_iadd C d_Sv_forget_140 ?_
        refine s_iald C L 3 618 (by decide) rfl rfl (S0 3 (c + 1)) e3' (by omega) (by omega) d_Sv_forget_141 ?_
        refine j_istore (lv' := [(0, .ref h0), (1, jv n), (2, jv to), (3, jv c), (4, jv (S0 3 c)), (5, jv (S0 3 (c + 1)))]) C d_Sv_forget_142 (by rw [hL]; decide) rfl rfl ?_
        refine j_aload_n C 0 d_Sv_forget_144 rfl rfl ?_
        refine s_getA C L 3 (by decide) rfl d_Sv_forget_145 ?_
        refine j_iload_n C 1 d_Sv_forget_148 rfl rfl ?_
        refine j_iload_n C 2 d_Sv_forget_149 rfl rfl ?_
        refine s_iast C L 3 618 (by decide) rfl rfl (by omega) (by omega) d_Sv_forget_150 ?_
        refine j_iload C 4 d_Sv_forget_151 rfl ?_
        refine j_istore (lv' := [(0, .ref h0), (1, jv n), (2, jv to), (3, jv c), (4, jv (S0 3 c)), (5, jv (S0 3 (c + 1))), (6, jv (S0 3 c))]) C d_Sv_forget_153 (by rw [hL]; decide) rfl rfl ?_
        have hs : st1 c = 0 := by omega
        refine lp_forg6 C hR ht hL hcs Mod S0 S st1 hI c n to hF (by omega) (fun Sx t2 k ek et r1 r2 r3 r4 => ?_) (S0 3 (c + 1) - S0 3 c).toNat.succ _ to (S0 3 c) (by omega) (Int.le_refl _) (by omega) (by omega) (fun _ _ => rfl) (fun _ _ => rfl) (fun p h1 h2 => by omega) (fun p h1 h2 => hF.1.2.2.2.1 p h1 h2)
        have x5 : Sx 5 c = S0 5 c := by rw [r1 5 (by decide)]; exact e5
        have x8 : Sx 8 0 = S 8 0 := by rw [r1 8 (by decide)]; rfl
        refine j_aload_n C 0 d_Sv_forget_184 rfl rfl ?_
        refine s_getA C L 5 (by decide) rfl d_Sv_forget_185 ?_
        refine j_iload_n C 1 d_Sv_forget_188 rfl rfl ?_
        refine j_aload_n C 0 d_Sv_forget_189 rfl rfl ?_
        refine s_getA C L 5 (by decide) rfl d_Sv_forget_190 ?_
        refine j_iload_n C 3 d_Sv_forget_193 rfl rfl ?_
        refine s_zald C L 5 617 (by decide) rfl rfl (S0 5 c) x5 (by omega) (by omega) d_Sv_forget_194 ?_
        refine s_zast C L 5 617 (by decide) rfl rfl (by omega) (by omega) (by omega) d_Sv_forget_195 ?_
        refine j_aload_n C 0 d_Sv_forget_196 rfl rfl ?_
        refine s_getA C L 5 (by decide) rfl d_Sv_forget_197 ?_
        refine j_iload_n C 1 d_Sv_forget_200 rfl rfl ?_
        refine s_zald C L 5 617 (by decide) rfl rfl (S0 5 c) (show up (Sx 5) n (S0 5 c) n = _ by rw [up_s]) (by omega) (by omega) d_Sv_forget_201 ?_
        refine j_if_eq (tgt := 215) C d_Sv_forget_202 (by decide) (rgi (by omega) (by omega)) (fun z => ?_) (fun z => ?_)
        · refine lp_forg5 C hR ht hL hcs Mod S0 S st1 hI c n to t2 (S0 3 c) (S0 3 (c + 1)) k hF (by omega) hs et _ (fun j q2 q3 q5 q8 => ?_) ?_ ?_ ?_ r2 (fun p h1 h2 => r3 p h1 (by omega)) (fun p h1 h2 => r4 p (by omega) h2) (fun S2 h2 => ih S2 (c + 1) (n + 1) t2 (by omega) h2)
          · rw [u2_n _ _ _ q5, r1 j q2, u2_n _ _ _ q3]
          · show Sx 3 = _
            rw [r1 3 (by decide)]; rfl
          · show up (Sx 5) n (S0 5 c) = _
            rw [r1 5 (by decide), e5]; rfl
          · show Sx 8 0 = _; rw [x8, e5, z]; omega
        · refine j_aload_n C 0 d_Sv_forget_205 rfl rfl ?_
          refine j_dup C d_Sv_forget_206 rfl ?_
          refine s_get C L 8 (by decide) rfl (S 8 0) x8 d_Sv_forget_207 ?_
          refine j_iconst C d_Sv_forget_210 ?_
          refine j_iadd C d_Sv_forget_211 ?_
          refine s_put C L 8 (by decide) rfl rfl rfl d_Sv_forget_212 ?_
          refine lp_forg5 C hR ht hL hcs Mod S0 S st1 hI c n to t2 (S0 3 c) (S0 3 (c + 1)) k hF (by omega) hs et _ (fun j q2 q3 q5 q8 => ?_) ?_ ?_ ?_ r2 (fun p h1 h2 => r3 p h1 (by omega)) (fun p h1 h2 => r4 p (by omega) h2) (fun S2 h2 => ih S2 (c + 1) (n + 1) t2 (by omega) h2)
          · rw [u2_n _ _ _ q8, u2_n _ _ _ q5, r1 j q2, u2_n _ _ _ q3]
          · show Sx 3 = _
            rw [r1 3 (by decide)]; rfl
          · show up (Sx 5) n (S0 5 c) = _
            rw [r1 5 (by decide), e5]; rfl
          · rw [u2_ss, e5]; omega
      · refine j_goto (tgt := 261) C d_Sv_forget_123 (by decide) ?_
        refine j_iinc (lv' := [(0, .ref h0), (1, jv n), (2, jv to), (3, jv (c + 1))]) C 3 d_Sv_forget_261 rfl (by rw [hL]; decide) rfl rfl ?_
        refine j_goto (tgt := 106) C d_Sv_forget_264 (by decide) ?_
        exact ih S (c + 1) n to (by omega) (hF.skip hI hS (by omega) (by omega))
theorem lp_forg7 {K : Cx} {h0 : Nat} {ad : Nat → Nat} {cA : Nat → ClassId} (C : Ok K R_Sv b_Sv_forget) (hR : xR K = rmL 3) (ht : xt K = sty cA) (hL : xL K = 7) (hcs : xn K ≤ (xR K).cells ∧ xk K ≤ (xR K).slots) {post : Sv → Prop} (Z : RV K (sw h0 ad cA) post) (Mod : (Int → Bool) → Prop) (S0 S : Sv) (st1 : Int → Int) (hI : Iv Mod S0 (S0 16 0) 0 []) (hS : FS S0 st1) (n to : Int) (hF : FI S0 S st1 (S0 6 0) n to) (hp : ∀ u, FZ Mod S0 u → post u) :
    ∀ (m : Nat) (Sx : Sv) (k : Int), S0 16 0 - k < m → 0 ≤ k → k ≤ S0 16 0 → (∀ j, j ≠ 3 → j ≠ 6 → j ≠ 7 → j ≠ 13 → Sx j = S j) → Sx 3 = up (S 3) n to → Sx 6 0 = n → Sx 7 0 = to → (∀ i, 0 ≤ i → i < k → Sx 13 (S0 14 i / 2) = if 0 ≤ S0 13 (S0 14 i / 2) then S 9 (S0 13 (S0 14 i / 2)) else S0 13 (S0 14 i / 2)) → (∀ i, k ≤ i → i < S0 16 0 → Sx 13 (S0 14 i / 2) = S0 13 (S0 14 i / 2)) → J K (sw h0 ad cA Sx) 286 [(0, .ref h0), (1, jv n), (2, jv to), (3, jv k)] [] := by
  have L := Ln_Sv (h0 := h0) (ad := ad) ht
  have rn := hI.rng
  have hn := hI.n
  intro m
  induction m with
  | zero => intro Sx k q1; omega
  | succ m ih =>
    intro Sx k q1 q2 q3 r1 r3 r6 r7 p1 p2
    have e16 : Sx 16 0 = S0 16 0 := by rw [r1 16 (by decide) (by decide) (by decide) (by decide), hF.1.1 16 (by decide) (by decide) (by decide) (by decide) (by decide) (by decide) (by decide)]
    have e14 : Sx 14 = S0 14 := by rw [r1 14 (by decide) (by decide) (by decide) (by decide), hF.1.1 14 (by decide) (by decide) (by decide) (by decide) (by decide) (by decide) (by decide)]
    have e9 : Sx 9 = S 9 := r1 9 (by decide) (by decide) (by decide) (by decide)
    refine j_iload_n C 3 d_Sv_forget_286 rfl rfl ?_
    refine j_aload_n C 0 d_Sv_forget_287 rfl rfl ?_
    refine s_get C L 16 (by decide) rfl (S0 16 0) e16 d_Sv_forget_288 ?_
    refine j_icmp_ge (tgt := 339) C d_Sv_forget_291 (by decide) (rgi (by omega) (by omega)) (rgi (by omega) (by omega)) (fun x => ?_) (fun x => ?_)
    · exact j_vret C Z d_Sv_forget_339 (hp _ (hF.done hI hS r1 r3 r6 r7 (fun i a b => p1 i a (by omega))))
    · have ht0 := hI.a.2.1 k q2 (by omega)
      have pk := p2 k (Int.le_refl _) (by omega)
      have hr0 : -1 ≤ S0 13 (S0 14 k / 2) ∧ S0 13 (S0 14 k / 2) < S0 6 0 := by
        rcases hI.r k q2 (by omega) with z | z
        · omega
        · omega
      refine j_aload_n C 0 d_Sv_forget_294 rfl rfl ?_
      refine s_getA C L 14 (by decide) rfl d_Sv_forget_295 ?_
      refine j_iload_n C 3 d_Sv_forget_298 rfl rfl ?_
      refine s_iald C L 14 16 (by decide) rfl rfl (S0 14 k) (by rw [e14]) (by omega) (by omega) d_Sv_forget_299 ?_
      refine j_iconst C d_Sv_forget_300 ?_
      refine j_ishr C d_Sv_forget_301 (jI_shr1 (by omega) (by omega)) ?_
      refine j_istore (lv' := [(0, .ref h0), (1, jv n), (2, jv to), (3, jv k), (4, jv ((S0 14 k) / 2))]) C d_Sv_forget_302 (by rw [hL]; decide) rfl rfl ?_
      refine j_aload_n C 0 d_Sv_forget_304 rfl rfl ?_
      refine s_getA C L 13 (by decide) rfl d_Sv_forget_305 ?_
      refine j_iload C 4 d_Sv_forget_308 rfl ?_
      refine s_iald C L 13 16 (by decide) rfl rfl (S0 13 (S0 14 k / 2)) pk (by omega) (by omega) d_Sv_forget_310 ?_
      refine j_if_lt (tgt := 333) C d_Sv_forget_311 (by decide) (rgi (by omega) (by omega)) (fun y => ?_) (fun y => ?_)
      · refine j_iinc (lv' := [(0, .ref h0), (1, jv n), (2, jv to), (3, jv (k + 1)), (4, jv ((S0 14 k) / 2))]) C 3 d_Sv_forget_333 rfl (by rw [hL]; decide) rfl rfl ?_
        refine j_goto (tgt := 286) C d_Sv_forget_336 (by decide) ?_
        refine j_sub [0, 1, 2, 3] rfl ?_
        exact ih Sx (k + 1) (by omega) (by omega) (by omega) r1 r3 r6 r7 (fun i a b => by
          by_cases e : i = k
          · rw [e, if_neg (by omega)]; exact pk
          · exact p1 i a (by omega)) (fun i a b => p2 i (by omega) b)
      · refine j_aload_n C 0 d_Sv_forget_314 rfl rfl ?_
        refine s_getA C L 13 (by decide) rfl d_Sv_forget_315 ?_
        refine j_iload C 4 d_Sv_forget_318 rfl ?_
        refine j_aload_n C 0 d_Sv_forget_320 rfl rfl ?_
        refine s_getA C L 9 (by decide) rfl d_Sv_forget_321 ?_
        refine j_aload_n C 0 d_Sv_forget_324 rfl rfl ?_
        refine s_getA C L 13 (by decide) rfl d_Sv_forget_325 ?_
        refine j_iload C 4 d_Sv_forget_328 rfl ?_
        refine s_iald C L 13 16 (by decide) rfl rfl (S0 13 (S0 14 k / 2)) pk (by omega) (by omega) d_Sv_forget_330 ?_
        refine s_iald C L 9 617 (by decide) rfl rfl (S 9 (S0 13 (S0 14 k / 2))) (by rw [e9]) (by omega) (by omega) d_Sv_forget_331 ?_
        refine s_iast C L 13 16 (by decide) rfl rfl (by omega) (by omega) d_Sv_forget_332 ?_
        refine j_iinc (lv' := [(0, .ref h0), (1, jv n), (2, jv to), (3, jv (k + 1)), (4, jv ((S0 14 k) / 2))]) C 3 d_Sv_forget_333 rfl (by rw [hL]; decide) rfl rfl ?_
        refine j_goto (tgt := 286) C d_Sv_forget_336 (by decide) ?_
        refine j_sub [0, 1, 2, 3] rfl ?_
        refine ih _ (k + 1) (by omega) (by omega) (by omega) (fun j j3 j6 j7 j13 => by rw [u2_n _ _ _ j13]; exact r1 j j3 j6 j7 j13) r3 r6 r7 (fun i a b => ?_) (fun i a b => ?_)
        · show up (Sx 13) (S0 14 k / 2) _ (S0 14 i / 2) = _
          by_cases e : i = k
          · rw [e, up_s, if_pos (by omega)]
          · rw [up_n _ _ (fun z => e (hI.a.inj a (by omega) q2 (by omega) z))]; exact p1 i a (by omega)
        · show up (Sx 13) (S0 14 k / 2) _ (S0 14 i / 2) = _
          rw [up_n _ _ (fun z => by have := hI.a.inj (i := i) (j := k) (by omega) b q2 (by omega) z; omega)]; exact p2 i (by omega) b
theorem c_Sv_forget (l : Launch) (D : va_G) (h0 : Nat) (ad : Nat → Nat) (cA : Nat → ClassId) (Mod : (Int → Bool) → Prop) (S : Sv) (hI : Iv Mod S (S 16 0) 0 []) : CV l y_Sv_forget b_Sv_forget 7 3 D (sty cA) [.ref h0] (sw h0 ad cA) S (fun u => FZ Mod S u) := by
  refine CV.of (by decide) (Nat.le_of_ble_eq_true rfl) (fun K C hR ht hL hcs Z => ?_)
  have C : Ok K R_Sv b_Sv_forget := C
  have L := Ln_Sv (h0 := h0) (ad := ad) ht
  show J K (sw h0 ad cA S) 0 [(0, .ref h0)] []
  refine j_iconst C d_Sv_forget_0 ?_
  refine j_istore_n (lv' := [(0, .ref h0), (1, jv 0)]) C d_Sv_forget_1 rfl (by rw [hL]; decide) rfl rfl ?_
  have rn := hI.rng
  refine lp_forg1 C hR ht hL hcs Mod S hI (fun S1 h1 h2 => ?_) (S 6 0).toNat.succ S 0 (by omega) (by omega) (by omega) (fun _ _ => rfl) (fun j a b => by omega)
  refine j_iconst C d_Sv_forget_36 ?_
  refine j_istore_n (lv' := [(0, .ref h0), (1, jv 0)]) C d_Sv_forget_37 rfl (by rw [hL]; decide) rfl rfl ?_
  refine lp_forg2 C hR ht hL hcs Mod S hI (fun S2 h3 h4 => ?_) (S 16 0).toNat.succ S1 0 (by omega) (by omega) (by omega) h1 h2
  refine j_iconst C d_Sv_forget_87 ?_
  refine j_istore_n (lv' := [(0, .ref h0), (1, jv 0)]) C d_Sv_forget_88 rfl (by rw [hL]; decide) rfl rfl ?_
  refine j_iconst C d_Sv_forget_89 ?_
  refine j_istore_n (lv' := [(0, .ref h0), (1, jv 0), (2, jv 0)]) C d_Sv_forget_90 rfl (by rw [hL]; decide) rfl rfl ?_
  refine j_aload_n C 0 d_Sv_forget_91 rfl rfl ?_
  refine j_iconst C d_Sv_forget_92 ?_
  refine s_put C L 8 (by decide) rfl rfl rfl d_Sv_forget_93 ?_
  refine j_aload_n C 0 d_Sv_forget_96 rfl rfl ?_
  refine s_getA C L 10 (by decide) rfl d_Sv_forget_97 ?_
  refine j_iconst C d_Sv_forget_100 ?_
  refine s_fill10 C ht (by rw [hR]; decide) hcs d_Sv_forget_101 (Nat.le_of_ble_eq_true rfl) ?_
  refine j_iconst C d_Sv_forget_104 ?_
  refine j_istore_n (lv' := [(0, .ref h0), (1, jv 0), (2, jv 0), (3, jv 0)]) C d_Sv_forget_105 rfl (by rw [hL]; decide) rfl rfl ?_
  have k10 : ∀ k, k ≠ 8 → k ≠ 9 → k ≠ 10 → (uA (u2 S2 8 0 0) 10 (flt (S2 10) 32 (-1))) k = S k := fun k k8 k9 k10 => by
    rw [← h3 k k9]
    show (if k = 10 then _ else (u2 S2 8 0 0) k) = S2 k
    rw [if_neg k10, u2_n _ _ _ k8]
  have hW : ∀ l, 0 ≤ l → l < 32 → (uA (u2 S2 8 0 0) 10 (flt (S2 10) 32 (-1))) 10 l = -1 := fun l a b => by
    show flt (S2 10) 32 (-1) l = -1
    unfold flt; rw [if_pos ⟨a, b⟩]
  have e3 : S2 3 = S 3 := h3 3 (by decide)
  have hF : FI S (uA (u2 S2 8 0 0) 10 (flt (S2 10) 32 (-1))) (S2 9) 0 0 0 := by
    refine ⟨⟨fun k q2 q3 q4 q5 q8 q9 q10 => k10 k q8 q9 q10, ⟨by omega, by omega, rn.1, ?_⟩, fun j a b => ?_, fun p a b => ?_, fun j a b => ⟨?_, rfl⟩⟩, ⟨fun j a b => by omega, fun i a b => by omega, ⟨⟨by omega, up_s _ _ _, up_s _ _ _⟩, fun j a b => by omega, fun p a b => by omega, fun j a b => by omega⟩, ?_, ?_⟩, ?_, fun w a b => by omega⟩
    · rw [hI.cl.1.2.1]; exact Int.le_refl _
    · show S2 3 j = _; rw [e3]
    · show S2 2 p = _; rw [h3 2 (by decide)]
    · show S2 5 j = _; rw [h3 5 (by decide)]
    · show up (S2 8) 0 0 0 = _; rw [up_s]; rfl
    · show 0 - up (S2 8) 0 0 0 = _; rw [up_s]; rfl
    · exact (Wl.x (g := 0)).mp (Wl.nil 0 hW)
  refine lp_forg3 C hR ht hL hcs Mod S (S2 9) hI h4 (fun S3 n to hF3 => ?_) (S 6 0).toNat.succ _ 0 0 0 (by omega) hF
  have b1 := hF3.1.2.1
  refine j_aload_n C 0 d_Sv_forget_267 rfl rfl ?_
  refine s_getA C L 3 (by decide) rfl d_Sv_forget_268 ?_
  refine j_iload_n C 1 d_Sv_forget_271 rfl rfl ?_
  refine j_iload_n C 2 d_Sv_forget_272 rfl rfl ?_
  refine s_iast C L 3 618 (by decide) rfl rfl (by omega) (by omega) d_Sv_forget_273 ?_
  refine j_aload_n C 0 d_Sv_forget_274 rfl rfl ?_
  refine j_iload_n C 1 d_Sv_forget_275 rfl rfl ?_
  refine s_put C L 6 (by decide) rfl rfl rfl d_Sv_forget_276 ?_
  refine j_aload_n C 0 d_Sv_forget_279 rfl rfl ?_
  refine j_iload_n C 2 d_Sv_forget_280 rfl rfl ?_
  refine s_put C L 7 (by decide) rfl rfl rfl d_Sv_forget_281 ?_
  refine j_iconst C d_Sv_forget_284 ?_
  refine j_istore_n (lv' := [(0, .ref h0), (1, jv n), (2, jv to), (3, jv 0)]) C d_Sv_forget_285 rfl (by rw [hL]; decide) rfl rfl ?_
  have q13 : S3 13 = S 13 := hF3.1.1 13 (by decide) (by decide) (by decide) (by decide) (by decide) (by decide) (by decide)
  refine lp_forg7 C hR ht hL hcs Z Mod S S3 (S2 9) hI h4 n to hF3 (fun u h => h) (S 16 0).toNat.succ _ 0 (by omega) (by omega) (by omega) (fun j j3 j6 j7 j13 => by rw [u2_n _ _ _ j7, u2_n _ _ _ j6, u2_n _ _ _ j3]) rfl ?_ (u2_ss _ _ _ _) (fun i a b => by omega) (fun i a b => by show S3 13 _ = _; rw [q13])
  show up (S3 6) 0 n 0 = n; rw [up_s]
end
section
/-! pure: a clause is kept -/
/-- the invariant, the watches' law for the first m clauses -/
def Ik (Mod : (Int → Bool) → Prop) (S : Sv) (D m : Int) : Prop :=
  (1 ≤ S 0 0 ∧ S 0 0 ≤ 16) ∧ Cl (S 0 0) (S 2) (S 3) (S 6 0) (S 7 0) ∧ TrA (S 0 0) (S 11) (S 14) (S 16 0) ∧ TrL (S 12) (S 14) (S 15) (S 16 0) (S 17 0) ∧ Rs (Inc (S 2) (S 3)) (S 6 0) (S 14) (S 13) (S 12) (S 15) (S 16 0) ∧ De (S 1) (S 14) (S 15) (S 17 0) ∧ Se Mod (Inc (S 2) (S 3)) (S 6 0) (S 5) (S 14) (S 12) (S 16 0) ∧ Cn (S 5) (S 6 0) (S 8 0) ∧ Wl (wl (S 2) (S 3)) (S 4) (S 10) (S 6 0) 0 [] ∧ Tw (wl (S 2) (S 3)) (S 11) (S 12) (S 14) m D []
theorem Ik.iv {Mod : (Int → Bool) → Prop} {S : Sv} {D m : Int} (h : Ik Mod S D m) (ht : Tw (wl (S 2) (S 3)) (S 11) (S 12) (S 14) (S 6 0) D []) : Iv Mod S D 0 [] := ⟨h.1, h.2.1, h.2.2.1, h.2.2.2.1, h.2.2.2.2.1, h.2.2.2.2.2.1, h.2.2.2.2.2.2.1, h.2.2.2.2.2.2.2.1, h.2.2.2.2.2.2.2.2.1, ht⟩
/-- literals that are made up: a clause -/
def Mk (n : Int) (made : Int → Int) (mm : Int) : Prop := 2 ≤ mm ∧ mm ≤ 16 ∧ (∀ k, 0 ≤ k → k < mm → 0 ≤ made k ∧ made k < 2 * n) ∧ ∀ j k, 0 ≤ j → j < k → k < mm → made j / 2 ≠ made k / 2
/-- behind keep: the clause z is new -/
def KZ (Mod : (Int → Bool) → Prop) (S : Sv) (D b : Int) (z : Int) (u : Sv) : Prop :=
  Ik Mod u D z ∧ 0 ≤ z ∧ u 6 0 = z + 1 ∧ (∀ l, Inc (u 2) (u 3) z l ↔ ∃ k, 0 ≤ k ∧ k < S 21 0 ∧ S 20 k = l) ∧ wl (u 2) (u 3) (2 * z) = S 20 0 ∧ wl (u 2) (u 3) (2 * z + 1) = S 20 1 ∧ (b = 0 → u 6 0 = S 6 0 + 1 ∧ u 8 0 = S 8 0) ∧ ∀ k, k ≠ 2 → k ≠ 3 → k ≠ 4 → k ≠ 5 → k ≠ 6 → k ≠ 7 → k ≠ 8 → k ≠ 9 → k ≠ 10 → k ≠ 13 → u k = S k
theorem keep_ok {Mod Mod' : (Int → Bool) → Prop} {S Sx : Sv} {D b : Int} (h : Iv Mod S D 0 []) (hb : b = 0 ∨ b = 1) (hm : Mk (S 0 0) (S 20) (S 21 0)) (hl : S 8 0 + b ≤ 200) (hN : S 6 0 + 1 - (S 8 0 + b) ≤ 400)
    (hM : ∀ μ, Mod' μ → Mod μ ∧ ∃ k, 0 ≤ k ∧ k < S 21 0 ∧ sat μ (S 20 k)) (hM' : ∀ μ, Mod μ → (b = 0 → ∃ k, 0 ≤ k ∧ k < S 21 0 ∧ sat μ (S 20 k)) → Mod' μ)
    (k1 : ∀ k, k ≠ 2 → k ≠ 3 → k ≠ 5 → k ≠ 6 → k ≠ 7 → k ≠ 8 → Sx k = S k) (k3 : ∀ j, Sx 3 j = up (S 3) (S 6 0 + 1) (S 7 0 + S 21 0) j) (k5 : Sx 5 = up (S 5) (S 6 0) b) (k6 : Sx 6 0 = S 6 0 + 1) (k7 : Sx 7 0 = S 7 0 + S 21 0) (k8 : Sx 8 0 = S 8 0 + b)
    (l1 : ∀ p, p < S 7 0 → Sx 2 p = S 2 p) (l2 : ∀ j, 0 ≤ j → j < S 21 0 → Sx 2 (S 7 0 + j) = S 20 j) : KZ Mod' S D b (S 6 0) (lookS (lookS Sx (S 6 0) 0) (S 6 0) 1) := by
  obtain ⟨m1, m2, m3, m4⟩ := hm
  have rn := h.rng
  have hn := h.n
  have cl := h.cl
  have e3 : Sx 3 = up (S 3) (S 6 0 + 1) (S 7 0 + S 21 0) := funext k3
  have sN : up (S 3) (S 6 0 + 1) (S 7 0 + S 21 0) (S 6 0) = S 7 0 := by rw [up_n _ _ (by omega)]; exact cl.1.2.2
  have sE : up (S 3) (S 6 0 + 1) (S 7 0 + S 21 0) (S 6 0 + 1) = S 7 0 + S 21 0 := up_s _ _ _
  have sO : ∀ j, j ≤ S 6 0 → up (S 3) (S 6 0 + 1) (S 7 0 + S 21 0) j = S 3 j := fun j hj => up_n _ _ (by omega)
  have below : ∀ c, 0 ≤ c → c < S 6 0 → 0 ≤ S 3 c ∧ S 3 c + 2 ≤ S 3 (c + 1) ∧ S 3 (c + 1) ≤ S 7 0 := fun c a b => by have := cl.at a b; omega
  have inO : ∀ c l, 0 ≤ c → c < S 6 0 → (Inc (Sx 2) (Sx 3) c l ↔ Inc (S 2) (S 3) c l) := fun c l a b => by
    unfold Inc
    rw [e3, sO c (by omega), sO (c + 1) (by omega)]
    have q := below c a b
    constructor
    · rintro ⟨p, p1, p2, p3⟩; exact ⟨p, p1, p2, by rw [← l1 p (by omega)]; exact p3⟩
    · rintro ⟨p, p1, p2, p3⟩; exact ⟨p, p1, p2, by rw [l1 p (by omega)]; exact p3⟩
  have inN : ∀ l, Inc (Sx 2) (Sx 3) (S 6 0) l ↔ ∃ k, 0 ≤ k ∧ k < S 21 0 ∧ S 20 k = l := fun l => by
    unfold Inc
    rw [e3, sN, sE]
    constructor
    · rintro ⟨p, p1, p2, p3⟩
      refine ⟨p - S 7 0, by omega, by omega, ?_⟩
      rw [← l2 _ (by omega) (by omega), ← p3]; congr 1; omega
    · rintro ⟨k, a, b, c⟩; exact ⟨S 7 0 + k, by omega, by omega, by rw [l2 k a b]; exact c⟩
  have wO : ∀ x, 0 ≤ x → x < 2 * S 6 0 → wl (Sx 2) (Sx 3) x = wl (S 2) (S 3) x := fun x a b => by
    unfold wl
    rw [e3, sO (x / 2) (by omega)]
    have q := below (x / 2) (by omega) (by omega)
    exact l1 _ (by omega)
  have w0 : wl (Sx 2) (Sx 3) (2 * S 6 0) = S 20 0 := by
    unfold wl
    rw [show 2 * S 6 0 / 2 = S 6 0 by omega, show 2 * S 6 0 % 2 = 0 by omega, e3, sN]
    exact l2 0 (by omega) (by omega)
  have w1 : wl (Sx 2) (Sx 3) (2 * S 6 0 + 1) = S 20 1 := by
    unfold wl
    rw [show (2 * S 6 0 + 1) / 2 = S 6 0 by omega, show (2 * S 6 0 + 1) % 2 = 1 by omega, e3, sN]
    exact l2 1 (by omega) (by omega)
  have x0 : Sx 2 (Sx 3 (S 6 0) + 0) = S 20 0 := by rw [e3, sN]; exact l2 0 (by omega) (by omega)
  have x1 : Sx 2 (Sx 3 (S 6 0) + 1) = S 20 1 := by rw [e3, sN]; exact l2 1 (by omega) (by omega)
  have q0 := m3 0 (by omega) (by omega)
  have q1 := m3 1 (by omega) (by omega)
  -- the lists
  have v0 := (Wl.x.mp h.w).congr (w1 := wl (Sx 2) (Sx 3)) (x1 := fun x => 0 ≤ x ∧ x < 2 * S 6 0) (fun x hx => wO x hx.1 hx.2) (fun x => Iff.rfl)
  have v1 := v0.push (2 * S 6 0 + 0) (S 20 0) (by omega) (by omega) (by rw [Int.add_zero]; exact w0) q0.1 (by omega)
  have v2 := v1.push (2 * S 6 0 + 1) (S 20 1) (by omega) (by omega) w1 q1.1 (by omega)
  have f4 : (lookS (lookS Sx (S 6 0) 0) (S 6 0) 1) 4 = up (up (S 4) (2 * S 6 0 + 0) (S 10 (S 20 0))) (2 * S 6 0 + 1) (up (S 10) (S 20 0) (2 * S 6 0 + 0) (S 20 1)) := by
    show up (up (Sx 4) (2 * S 6 0 + 0) (Sx 10 (Sx 2 (Sx 3 (S 6 0) + 0)))) (2 * S 6 0 + 1) (up (Sx 10) (Sx 2 (Sx 3 (S 6 0) + 0)) (2 * S 6 0 + 0) (Sx 2 (Sx 3 (S 6 0) + 1))) = _
    rw [x0, x1, k1 4 (by decide) (by decide) (by decide) (by decide) (by decide) (by decide), k1 10 (by decide) (by decide) (by decide) (by decide) (by decide) (by decide)]
  have f10 : (lookS (lookS Sx (S 6 0) 0) (S 6 0) 1) 10 = up (up (S 10) (S 20 0) (2 * S 6 0 + 0)) (S 20 1) (2 * S 6 0 + 1) := by
    show up (up (Sx 10) (Sx 2 (Sx 3 (S 6 0) + 0)) (2 * S 6 0 + 0)) (Sx 2 (Sx 3 (S 6 0) + 1)) (2 * S 6 0 + 1) = _
    rw [x0, x1, k1 10 (by decide) (by decide) (by decide) (by decide) (by decide) (by decide)]
  have fo : ∀ k, k ≠ 4 → k ≠ 10 → (lookS (lookS Sx (S 6 0) 0) (S 6 0) 1) k = Sx k := fun k a b => by
    unfold lookS; rw [u2_n _ _ _ b, u2_n _ _ _ a, u2_n _ _ _ b, u2_n _ _ _ a]
  have so : ∀ k, k ≠ 2 → k ≠ 3 → k ≠ 4 → k ≠ 5 → k ≠ 6 → k ≠ 7 → k ≠ 8 → k ≠ 10 → (lookS (lookS Sx (S 6 0) 0) (S 6 0) 1) k = S k := fun k q2 q3 q4 q5 q6 q7 q8 q10 => by rw [fo k q4 q10, k1 k q2 q3 q5 q6 q7 q8]
  refine ⟨?_, rn.1, k6, inN, w0, w1, ?_, fun k q2 q3 q4 q5 q6 q7 q8 q9 q10 q13 => so k q2 q3 q4 q5 q6 q7 q8 q10⟩
  · unfold Ik
    rw [f4, f10, so 0 (by decide) (by decide) (by decide) (by decide) (by decide) (by decide) (by decide) (by decide), so 1 (by decide) (by decide) (by decide) (by decide) (by decide) (by decide) (by decide) (by decide), so 11 (by decide) (by decide) (by decide) (by decide) (by decide) (by decide) (by decide) (by decide), so 12 (by decide) (by decide) (by decide) (by decide) (by decide) (by decide) (by decide) (by decide), so 13 (by decide) (by decide) (by decide) (by decide) (by decide) (by decide) (by decide) (by decide), so 14 (by decide) (by decide) (by decide) (by decide) (by decide) (by decide) (by decide) (by decide), so 15 (by decide) (by decide) (by decide) (by decide) (by decide) (by decide) (by decide) (by decide), so 16 (by decide) (by decide) (by decide) (by decide) (by decide) (by decide) (by decide) (by decide), so 17 (by decide) (by decide) (by decide) (by decide) (by decide) (by decide) (by decide) (by decide)]
    rw [fo 2 (by decide) (by decide), fo 3 (by decide) (by decide), fo 5 (by decide) (by decide), fo 6 (by decide) (by decide), fo 7 (by decide) (by decide), fo 8 (by decide) (by decide), k6, k7, k8]
    refine ⟨hn, ⟨⟨by omega, ?_, ?_⟩, fun c a d => ?_, fun p a d => ?_, fun c a d p q r1 r2 r3 => ?_⟩, h.a, h.l, h.r.more (by omega) inO, h.d, ⟨fun μ hm c a d => ?_, fun μ hm => h.s.2.1 μ (hM μ hm).1, fun μ q1 q2 => hM' μ (h.s.2.2 μ (fun c a d t => ?_) q2) (fun b0 => ?_)⟩, ⟨fun c a d => ?_, ?_, hl, hN⟩, ?_, h.t.congr wO⟩
    · rw [e3, sO 0 rn.1]; exact cl.1.2.1
    · rw [e3, sE]
    · by_cases e : c = S 6 0
      · rw [e, e3, sN, sE]; omega
      · rw [e3, sO c (by omega), sO (c + 1) (by omega)]; exact cl.2.1 c a (by omega)
    · rcases Int.lt_or_le p (S 7 0) with z | z
      · rw [l1 p z]; exact cl.2.2.1 p a z
      · have := l2 (p - S 7 0) (by omega) (by omega)
        rw [show S 7 0 + (p - S 7 0) = p by omega] at this
        rw [this]; exact m3 _ (by omega) (by omega)
    · by_cases e : c = S 6 0
      · rw [e, e3, sN] at r1
        rw [e, e3, sE] at r3
        have t1 := l2 (p - S 7 0) (by omega) (by omega)
        have t2 := l2 (q - S 7 0) (by omega) (by omega)
        rw [show S 7 0 + (p - S 7 0) = p by omega] at t1
        rw [show S 7 0 + (q - S 7 0) = q by omega] at t2
        rw [t1, t2]; exact m4 _ _ (by omega) (by omega) (by omega)
      · rw [e3, sO c (by omega)] at r1
        rw [e3, sO (c + 1) (by omega)] at r3
        have z := below c a (by omega)
        rw [l1 p (by omega), l1 q (by omega)]
        exact cl.2.2.2 c a (by omega) p q r1 r2 r3
    · by_cases e : c = S 6 0
      · obtain ⟨k, k1, k2, k3⟩ := (hM μ hm).2
        exact ⟨S 20 k, by rw [e]; exact (inN _).mpr ⟨k, k1, k2, rfl⟩, k3⟩
      · obtain ⟨l, t1, t2⟩ := h.s.1 μ (hM μ hm).1 c a (by omega)
        exact ⟨l, (inO c l a (by omega)).mpr t1, t2⟩
    · obtain ⟨l, t1, t2⟩ := q1 c a (by omega) (by rw [k5, up_n _ _ (by omega)]; exact t)
      exact ⟨l, (inO c l a d).mp t1, t2⟩
    · obtain ⟨l, t1, t2⟩ := q1 (S 6 0) rn.1 (by omega) (by rw [k5, up_s]; exact b0)
      obtain ⟨k, t3, t4, t5⟩ := (inN l).mp t1
      exact ⟨k, t3, t4, by rw [t5]; exact t2⟩
    · rw [k5]
      by_cases e : c = S 6 0
      · rw [e, up_s]; exact hb
      · rw [up_n _ _ e]; exact h.c.1 c a (by omega)
    · rw [cnt_s _ rn.1, k5, up_s, h.c.2.1]
      congr 1
      exact cnt_congr _ _ _ (fun i a d => (up_n _ _ (by omega)).symm)
    · exact Wl.x.mpr (v2.congr (fun x _ => rfl) (fun x => by constructor <;> intro z <;> omega))
  · rw [fo 6 (by decide) (by decide), fo 8 (by decide) (by decide), k6, k8]; intro q; omega
end
section
/-! keep -/
theorem lp_keep {K : Cx} {h0 : Nat} {ad : Nat → Nat} {cA : Nat → ClassId} (C : Ok K R_Sv b_Sv_keep) (hR : xR K = rmL 4) (ht : xt K = sty cA) (hL : xL K = 4) (hcs : xn K ≤ (xR K).cells ∧ xk K ≤ (xR K).slots) {post : Int → Sv → Prop} (Z : RI K .int (sw h0 ad cA) post) (Mod Mod' : (Int → Bool) → Prop) (S Sb : Sv) (D b : Int) (h : Iv Mod S D 0 []) (hb : b = 0 ∨ b = 1) (hm : Mk (S 0 0) (S 20) (S 21 0)) (hl : S 8 0 + b ≤ 200) (hN : S 6 0 + 1 - (S 8 0 + b) ≤ 400) (hM : ∀ μ, Mod' μ → Mod μ ∧ ∃ k, 0 ≤ k ∧ k < S 21 0 ∧ sat μ (S 20 k)) (hM' : ∀ μ, Mod μ → (b = 0 → ∃ k, 0 ≤ k ∧ k < S 21 0 ∧ sat μ (S 20 k)) → Mod' μ) (k1 : ∀ k, k ≠ 3 → k ≠ 5 → k ≠ 8 → Sb k = S k) (k3 : ∀ j, Sb 3 j = S 3 j) (k5 : Sb 5 = up (S 5) (S 6 0) b) (k8 : Sb 8 0 = S 8 0 + b) (hp : ∀ u, KZ Mod' S D b (S 6 0) u → post (S 6 0) u) :
    ∀ (m : Nat) (Sx : Sv) (k : Int), S 21 0 - k < m → 0 ≤ k → k ≤ S 21 0 → (∀ j, j ≠ 2 → j ≠ 7 → Sx j = Sb j) → Sx 7 0 = S 7 0 + k → (∀ p, p < S 7 0 → Sx 2 p = S 2 p) → (∀ j, 0 ≤ j → j < k → Sx 2 (S 7 0 + j) = S 20 j) → J K (sw h0 ad cA Sx) 56 [(0, .ref h0), (1, jv b), (2, jv (S 6 0)), (3, jv k)] [] := by
  have L := Ln_Sv (h0 := h0) (ad := ad) ht
  have rn := h.rng
  have hn := h.n
  have m1 := hm.1
  have m2 := hm.2.1
  intro m
  induction m with
  | zero => intro Sx k q1; omega
  | succ m ih =>
    intro Sx k q1 q2 q3 r1 r7 l1 l2
    have e21 : Sx 21 0 = S 21 0 := by rw [r1 21 (by decide) (by decide), k1 21 (by decide) (by decide) (by decide)]
    have e20 : Sx 20 = S 20 := by rw [r1 20 (by decide) (by decide), k1 20 (by decide) (by decide) (by decide)]
    have e6 : Sx 6 0 = S 6 0 := by rw [r1 6 (by decide) (by decide), k1 6 (by decide) (by decide) (by decide)]
    refine j_iload_n C 3 d_Sv_keep_56 rfl rfl ?_
    refine j_aload_n C 0 d_Sv_keep_57 rfl rfl ?_
    refine s_get C L 21 (by decide) rfl (S 21 0) e21 d_Sv_keep_58 ?_
    refine j_icmp_ge (tgt := 92) C d_Sv_keep_61 (by decide) (rgi (by omega) (by omega)) (rgi (by omega) (by omega)) (fun x => ?_) (fun x => ?_)
    · have ek : k = S 21 0 := by omega
      subst ek
      refine j_aload_n C 0 d_Sv_keep_92 rfl rfl ?_
      refine j_dup C d_Sv_keep_93 rfl ?_
      refine s_get C L 6 (by decide) rfl (S 6 0) e6 d_Sv_keep_94 ?_
      refine j_iconst C d_Sv_keep_97 ?_
      refine j_iadd C d_Sv_keep_98 ?_
      refine s_put C L 6 (by decide) rfl rfl rfl d_Sv_keep_99 ?_
      refine j_aload_n C 0 d_Sv_keep_102 rfl rfl ?_
      refine s_getA C L 3 (by decide) rfl d_Sv_keep_103 ?_
      refine j_aload_n C 0 d_Sv_keep_106 rfl rfl ?_
      refine s_get C L 6 (by decide) rfl (S 6 0 + 1) (u2_ss _ _ _ _) d_Sv_keep_107 ?_
      refine j_aload_n C 0 d_Sv_keep_110 rfl rfl ?_
      refine s_get C L 7 (by decide) rfl (S 7 0 + S 21 0) r7 d_Sv_keep_111 ?_
      refine s_iast C L 3 618 (by decide) rfl rfl (by omega) (by omega) d_Sv_keep_114 ?_
      refine j_aload_n C 0 d_Sv_keep_115 rfl rfl ?_
      refine j_iload_n C 2 d_Sv_keep_116 rfl rfl ?_
      refine j_iconst C d_Sv_keep_117 ?_
      have e3 : ∀ j, (u2 (u2 Sx 6 0 ((S 6 0) + 1)) 3 (S 6 0 + 1) (S 7 0 + S 21 0)) 3 j = up (S 3) (S 6 0 + 1) (S 7 0 + S 21 0) j := fun j => by
        show up (Sx 3) (S 6 0 + 1) (S 7 0 + S 21 0) j = _
        unfold up; rw [r1 3 (by decide) (by decide), k3]
      have sN : (u2 (u2 Sx 6 0 ((S 6 0) + 1)) 3 (S 6 0 + 1) (S 7 0 + S 21 0)) 3 (S 6 0) = S 7 0 := by rw [e3, up_n _ _ (by omega)]; exact h.cl.1.2.2
      have x0 : (u2 (u2 Sx 6 0 ((S 6 0) + 1)) 3 (S 6 0 + 1) (S 7 0 + S 21 0)) 2 ((u2 (u2 Sx 6 0 ((S 6 0) + 1)) 3 (S 6 0 + 1) (S 7 0 + S 21 0)) 3 (S 6 0) + 0) = S 20 0 := by rw [sN]; exact l2 0 (by omega) (by omega)
      have x1 : (u2 (u2 Sx 6 0 ((S 6 0) + 1)) 3 (S 6 0 + 1) (S 7 0 + S 21 0)) 2 ((u2 (u2 Sx 6 0 ((S 6 0) + 1)) 3 (S 6 0 + 1) (S 7 0 + S 21 0)) 3 (S 6 0) + 1) = S 20 1 := by rw [sN]; exact l2 1 (by omega) (by omega)
      have q0 := hm.2.2.1 0 (by omega) (by omega)
      have q1' := hm.2.2.1 1 (by omega) (by omega)
      have hok := keep_ok (Sx := (u2 (u2 Sx 6 0 ((S 6 0) + 1)) 3 (S 6 0 + 1) (S 7 0 + S 21 0))) h hb hm hl hN hM hM' (fun j q2 q3 q5 q6 q7 q8 => by rw [u2_n _ _ _ q3, u2_n _ _ _ q6, r1 j q2 q7, k1 j q3 q5 q8]) e3 (show Sx 5 = _ by rw [r1 5 (by decide) (by decide)]; exact k5) (show up (Sx 6) 0 (S 6 0 + 1) 0 = _ by rw [up_s]) r7 (show Sx 8 0 = _ by rw [r1 8 (by decide) (by decide)]; exact k8) l1 l2
      refine j_callV (wr := []) (As := [jv (S 6 0), jv 0]) (rest := []) (w := sw h0 ad cA) (u0 := (u2 (u2 Sx 6 0 ((S 6 0) + 1)) 3 (S 6 0 + 1) (S 7 0 + S 21 0))) C (c_Sv_look _ _ h0 ad cA (u2 (u2 Sx 6 0 ((S 6 0) + 1)) 3 (S 6 0 + 1) (S 7 0 + S 21 0)) (S 6 0) 0 rn.1 (by omega) (by omega) (by rw [sN]; omega) (by rw [sN]; omega) (by rw [x0]; omega) (by rw [x0]; omega)) (by rw [ht]; exact fun _ h => h) lk_Sv_105 rfl (q0 := 0) rfl rfl (by rw [hR]; decide) hcs d_Sv_keep_118 rfl (Nat.le_of_ble_eq_true rfl) (fun u1 hu => ?_)
      subst hu
      refine j_aload_n C 0 d_Sv_keep_121 rfl rfl ?_
      refine j_iload_n C 2 d_Sv_keep_122 rfl rfl ?_
      refine j_iconst C d_Sv_keep_123 ?_
      refine j_callV (wr := []) (As := [jv (S 6 0), jv 1]) (rest := []) (w := sw h0 ad cA) (u0 := (lookS (u2 (u2 Sx 6 0 ((S 6 0) + 1)) 3 (S 6 0 + 1) (S 7 0 + S 21 0)) (S 6 0) 0)) C (c_Sv_look _ _ h0 ad cA (lookS (u2 (u2 Sx 6 0 ((S 6 0) + 1)) 3 (S 6 0 + 1) (S 7 0 + S 21 0)) (S 6 0) 0) (S 6 0) 1 rn.1 (by omega) (by omega) (show 0 ≤ (u2 (u2 Sx 6 0 ((S 6 0) + 1)) 3 (S 6 0 + 1) (S 7 0 + S 21 0)) 3 (S 6 0) + 1 by rw [sN]; omega) (show (u2 (u2 Sx 6 0 ((S 6 0) + 1)) 3 (S 6 0 + 1) (S 7 0 + S 21 0)) 3 (S 6 0) + 1 < 9872 by rw [sN]; omega) (show 0 ≤ (u2 (u2 Sx 6 0 ((S 6 0) + 1)) 3 (S 6 0 + 1) (S 7 0 + S 21 0)) 2 ((u2 (u2 Sx 6 0 ((S 6 0) + 1)) 3 (S 6 0 + 1) (S 7 0 + S 21 0)) 3 (S 6 0) + 1) by rw [x1]; omega) (show (u2 (u2 Sx 6 0 ((S 6 0) + 1)) 3 (S 6 0 + 1) (S 7 0 + S 21 0)) 2 ((u2 (u2 Sx 6 0 ((S 6 0) + 1)) 3 (S 6 0 + 1) (S 7 0 + S 21 0)) 3 (S 6 0) + 1) < 32 by rw [x1]; omega)) (by rw [ht]; exact fun _ h => h) lk_Sv_105 rfl (q0 := 0) rfl rfl (by rw [hR]; decide) hcs d_Sv_keep_124 rfl (Nat.le_of_ble_eq_true rfl) (fun u1 hu => ?_)
      subst hu
      refine j_iload_n C 2 d_Sv_keep_127 rfl rfl ?_
      exact j_ret C Z rfl d_Sv_keep_128 (hp _ hok)
    · refine j_aload_n C 0 d_Sv_keep_64 rfl rfl ?_
      refine s_getA C L 2 (by decide) rfl d_Sv_keep_65 ?_
      refine j_aload_n C 0 d_Sv_keep_68 rfl rfl ?_
      refine j_dup C d_Sv_keep_69 rfl ?_
      refine s_get C L 7 (by decide) rfl (S 7 0 + k) r7 d_Sv_keep_70 ?_
      refine j_dup_x1 C d_Sv_keep_73 rfl rfl ?_
      refine j_iconst C d_Sv_keep_74 ?_
      refine j_iadd C d_Sv_keep_75 ?_
      refine s_put C L 7 (by decide) rfl rfl rfl d_Sv_keep_76 ?_
      refine j_aload_n C 0 d_Sv_keep_79 rfl rfl ?_
      refine s_getA C L 20 (by decide) rfl d_Sv_keep_80 ?_
      refine j_iload_n C 3 d_Sv_keep_83 rfl rfl ?_
      refine s_iald C L 20 32 (by decide) rfl rfl (S 20 k) (show Sx 20 k = _ by rw [e20]) (by omega) (by omega) d_Sv_keep_84 ?_
      refine s_iast C L 2 9872 (by decide) rfl rfl (by omega) (by omega) d_Sv_keep_85 ?_
      refine j_iinc (lv' := [(0, .ref h0), (1, jv b), (2, jv (S 6 0)), (3, jv (k + 1))]) C 3 d_Sv_keep_86 rfl (by rw [hL]; decide) rfl rfl ?_
      refine j_goto (tgt := 56) C d_Sv_keep_89 (by decide) ?_
      refine ih _ (k + 1) (by omega) (by omega) (by omega) (fun j j2 j7 => by rw [u2_n _ _ _ j2, u2_n _ _ _ j7]; exact r1 j j2 j7) (show up (Sx 7) 0 (S 7 0 + k + 1) 0 = _ by rw [up_s]; omega) (fun p hp => ?_) (fun j a b => ?_)
      · show up (Sx 2) (S 7 0 + k) (S 20 k) p = _
        rw [up_n _ _ (by omega)]; exact l1 p hp
      · show up (Sx 2) (S 7 0 + k) (S 20 k) (S 7 0 + j) = _
        by_cases e : j = k
        · rw [e, up_s]
        · rw [up_n _ _ (by omega)]; exact l2 j a (by omega)
theorem lp_keep0 {K : Cx} {h0 : Nat} {ad : Nat → Nat} {cA : Nat → ClassId} (C : Ok K R_Sv b_Sv_keep) (hR : xR K = rmL 4) (ht : xt K = sty cA) (hL : xL K = 4) (hcs : xn K ≤ (xR K).cells ∧ xk K ≤ (xR K).slots) {post : Int → Sv → Prop} (Z : RI K .int (sw h0 ad cA) post) (Mod Mod' : (Int → Bool) → Prop) (S : Sv) (D b : Int) (h : Iv Mod S D 0 []) (hb : b = 0 ∨ b = 1) (hm : Mk (S 0 0) (S 20) (S 21 0)) (hl : S 8 0 + b ≤ 200) (hN : S 6 0 + 1 - (S 8 0 + b) ≤ 400) (hM : ∀ μ, Mod' μ → Mod μ ∧ ∃ k, 0 ≤ k ∧ k < S 21 0 ∧ sat μ (S 20 k)) (hM' : ∀ μ, Mod μ → (b = 0 → ∃ k, 0 ≤ k ∧ k < S 21 0 ∧ sat μ (S 20 k)) → Mod' μ) (hp : ∀ u, KZ Mod' S D b (S 6 0) u → post (S 6 0) u) :
    J K (sw h0 ad cA S) 18 [(0, .ref h0), (1, jv b)] [] := by
  have L := Ln_Sv (h0 := h0) (ad := ad) ht
  have rn := h.rng
  have hn := h.n
  have m1 := hm.1
  refine j_aload_n C 0 d_Sv_keep_18 rfl rfl ?_
  refine s_get C L 6 (by decide) rfl (S 6 0) rfl d_Sv_keep_19 ?_
  refine j_istore_n (lv' := [(0, .ref h0), (1, jv b), (2, jv (S 6 0))]) C d_Sv_keep_22 rfl (by rw [hL]; decide) rfl rfl ?_
  refine j_aload_n C 0 d_Sv_keep_23 rfl rfl ?_
  refine s_getA C L 5 (by decide) rfl d_Sv_keep_24 ?_
  refine j_iload_n C 2 d_Sv_keep_27 rfl rfl ?_
  refine j_iload_n C 1 d_Sv_keep_28 rfl rfl ?_
  refine s_zast C L 5 617 (by decide) rfl rfl (by omega) (by omega) (by omega) d_Sv_keep_29 ?_
  refine j_iload_n C 1 d_Sv_keep_30 rfl rfl ?_
  refine j_if_eq (tgt := 44) C d_Sv_keep_31 (by decide) (rgi (by omega) (by omega)) (fun x => ?_) (fun x => ?_)
  · refine j_aload_n C 0 d_Sv_keep_44 rfl rfl ?_
    refine s_getA C L 3 (by decide) rfl d_Sv_keep_45 ?_
    refine j_iload_n C 2 d_Sv_keep_48 rfl rfl ?_
    refine j_aload_n C 0 d_Sv_keep_49 rfl rfl ?_
    refine s_get C L 7 (by decide) rfl (S 7 0) rfl d_Sv_keep_50 ?_
    refine s_iast C L 3 618 (by decide) rfl rfl (by omega) (by omega) d_Sv_keep_53 ?_
    refine j_iconst C d_Sv_keep_54 ?_
    refine j_istore_n (lv' := [(0, .ref h0), (1, jv b), (2, jv (S 6 0)), (3, jv 0)]) C d_Sv_keep_55 rfl (by rw [hL]; decide) rfl rfl ?_
    exact lp_keep C hR ht hL hcs Z Mod Mod' S (u2 (u2 S 5 (S 6 0) b) 3 (S 6 0) (S 7 0)) D b h hb hm hl hN hM hM' (fun k q3 q5 q8 => by rw [u2_n _ _ _ q3, u2_n _ _ _ q5]) (fun j => by
      show up (S 3) (S 6 0) (S 7 0) j = _
      by_cases e : j = S 6 0
      · rw [e, up_s]; exact h.cl.1.2.2.symm
      · rw [up_n _ _ e]) rfl (show S 8 0 = _ by omega) hp (S 21 0).toNat.succ _ 0 (by omega) (by omega) (by omega) (fun _ _ _ => rfl) (show S 7 0 = _ by omega) (fun _ _ => rfl) (fun j a c => by omega)
  · refine j_aload_n C 0 d_Sv_keep_34 rfl rfl ?_
    refine j_dup C d_Sv_keep_35 rfl ?_
    refine s_get C L 8 (by decide) rfl (S 8 0) rfl d_Sv_keep_36 ?_
    refine j_iconst C d_Sv_keep_39 ?_
    refine j_iadd C d_Sv_keep_40 ?_
    refine s_put C L 8 (by decide) rfl rfl rfl d_Sv_keep_41 ?_
    refine j_aload_n C 0 d_Sv_keep_44 rfl rfl ?_
    refine s_getA C L 3 (by decide) rfl d_Sv_keep_45 ?_
    refine j_iload_n C 2 d_Sv_keep_48 rfl rfl ?_
    refine j_aload_n C 0 d_Sv_keep_49 rfl rfl ?_
    refine s_get C L 7 (by decide) rfl (S 7 0) rfl d_Sv_keep_50 ?_
    refine s_iast C L 3 618 (by decide) rfl rfl (by omega) (by omega) d_Sv_keep_53 ?_
    refine j_iconst C d_Sv_keep_54 ?_
    refine j_istore_n (lv' := [(0, .ref h0), (1, jv b), (2, jv (S 6 0)), (3, jv 0)]) C d_Sv_keep_55 rfl (by rw [hL]; decide) rfl rfl ?_
    exact lp_keep C hR ht hL hcs Z Mod Mod' S (u2 (u2 (u2 S 5 (S 6 0) b) 8 0 ((S 8 0) + 1)) 3 (S 6 0) (S 7 0)) D b h hb hm hl hN hM hM' (fun k q3 q5 q8 => by rw [u2_n _ _ _ q3, u2_n _ _ _ q8, u2_n _ _ _ q5]) (fun j => by
      show up (S 3) (S 6 0) (S 7 0) j = _
      by_cases e : j = S 6 0
      · rw [e, up_s]; exact h.cl.1.2.2.symm
      · rw [up_n _ _ e]) rfl (show up (S 8) 0 (S 8 0 + 1) 0 = _ by rw [up_s]; omega) hp (S 21 0).toNat.succ _ 0 (by omega) (by omega) (by omega) (fun _ _ _ => rfl) (show S 7 0 = _ by omega) (fun _ _ => rfl) (fun j a c => by omega)
theorem c_Sv_keep (l : Launch) (D : va_G) (h0 : Nat) (ad : Nat → Nat) (cA : Nat → ClassId) (Mod Mod' : (Int → Bool) → Prop) (S : Sv) (Dn b : Int) (h : Iv Mod S Dn 0 []) (hb : b = 0 ∨ b = 1) (hD : b = 1 → Dn = S 16 0) (hm : Mk (S 0 0) (S 20) (S 21 0)) (hN : b = 0 → S 6 0 - S 8 0 < 400) (hM : ∀ μ, Mod' μ → Mod μ ∧ ∃ k, 0 ≤ k ∧ k < S 21 0 ∧ sat μ (S 20 k)) (hM' : ∀ μ, Mod μ → (b = 0 → ∃ k, 0 ≤ k ∧ k < S 21 0 ∧ sat μ (S 20 k)) → Mod' μ) : CI l y_Sv_keep b_Sv_keep 4 (some .int) 4 D (sty cA) [.ref h0, jv b] (sw h0 ad cA) S (fun z u => KZ Mod' S Dn b z u) := by
  refine CI.of (by decide) (Nat.le_of_ble_eq_true rfl) (fun K C hR ht hL hcs Z => ?_)
  have C : Ok K R_Sv b_Sv_keep := C
  have L := Ln_Sv (h0 := h0) (ad := ad) ht
  show J K (sw h0 ad cA S) 0 [(0, .ref h0), (1, jv b)] []
  have rn := h.rng
  have hn := h.n
  have hc := h.c.2.2
  refine j_iload_n C 1 d_Sv_keep_0 rfl rfl ?_
  refine j_if_eq (tgt := 18) C d_Sv_keep_1 (by decide) (rgi (by omega) (by omega)) (fun x => ?_) (fun x => ?_)
  · exact lp_keep0 C hR ht hL hcs Z Mod Mod' S Dn b h hb hm (by omega) (by have := hN x; omega) hM hM' (fun u hu => hu)
  · have hb1 : b = 1 := by omega
    have h80 := cnt_nn (S 5) (S 6 0).toNat (fun i a c => by have := h.c.1 i a (by omega); omega)
    rw [← h.c.2.1] at h80
    refine j_aload_n C 0 d_Sv_keep_4 rfl rfl ?_
    refine s_get C L 8 (by decide) rfl (S 8 0) rfl d_Sv_keep_5 ?_
    refine j_sipush C d_Sv_keep_8 (by decide) ?_
    refine j_icmp_ne (tgt := 18) C d_Sv_keep_11 (by decide) (rgi (by omega) (by omega)) (rgi (by omega) (by omega)) (fun y => ?_) (fun y => ?_)
    · exact lp_keep0 C hR ht hL hcs Z Mod Mod' S Dn b h hb hm (by omega) (by omega) hM hM' (fun u hu => hu)
    · have hI : Iv Mod S (S 16 0) 0 [] := by rw [← hD hb1]; exact h
      refine j_aload_n C 0 d_Sv_keep_14 rfl rfl ?_
      refine j_callV (wr := []) (As := []) (rest := []) (w := sw h0 ad cA) (u0 := S) C (c_Sv_forget _ _ h0 ad cA Mod S hI) (by rw [ht]; exact fun _ h => h) lk_Sv_102 rfl (q0 := 0) rfl rfl (by rw [hR]; decide) hcs d_Sv_keep_15 rfl (Nat.le_of_ble_eq_true rfl) (fun u hu => ?_)
      obtain ⟨g1, g2, g3⟩ := hu
      have e16 : u 16 = S 16 := g3 16 (by decide) (by decide) (by decide) (by decide) (by decide) (by decide) (by decide) (by decide) (by decide) (by decide)
      have e20 : u 20 = S 20 := g3 20 (by decide) (by decide) (by decide) (by decide) (by decide) (by decide) (by decide) (by decide) (by decide) (by decide)
      have e21 : u 21 = S 21 := g3 21 (by decide) (by decide) (by decide) (by decide) (by decide) (by decide) (by decide) (by decide) (by decide) (by decide)
      have e0 : u 0 = S 0 := g3 0 (by decide) (by decide) (by decide) (by decide) (by decide) (by decide) (by decide) (by decide) (by decide) (by decide)
      have gc := g1.c.2.2
      refine lp_keep0 C hR ht hL hcs Z Mod Mod' u Dn b (by rw [hD hb1, ← e16]; exact g1) hb (by rw [e0, e20, e21]; exact hm) (by omega) (by omega) (by rw [e20, e21]; exact hM) (by rw [e20, e21]; exact hM') (fun v hv => ?_)
      obtain ⟨v1, v2, v3, v4, v5, v6, v7, v8⟩ := hv
      rw [e20, e21] at v4
      rw [e20] at v5 v6
      refine ⟨v1, v2, v3, v4, v5, v6, fun q => absurd q (by omega), fun k q2 q3 q4 q5 q6 q7 q8 q9 q10 q13 => by rw [v8 k q2 q3 q4 q5 q6 q7 q8 q9 q10 q13, g3 k q2 q3 q4 q5 q6 q7 q8 q9 q10 q13]⟩
end
section
/-! pure: learning from a false clause -/
section
variable {Mod : (Int → Bool) → Prop} {S u B : Sv} {D : Int}
/-- a way back keeps the invariant -/
theorem Iv.back {D' to : Int} (h : Iv Mod S D 0 []) (hb : BackTo S u to) (h0 : 0 ≤ to) (hD : D' ≤ D) (hD2 : D' ≤ u 16 0) : Iv Mod u D' 0 [] := by
  obtain ⟨k, e17, e16, e18, hu⟩ := hb
  have so : ∀ j, j ≠ 11 → j ≠ 16 → j ≠ 17 → j ≠ 18 → u j = S j := k
  unfold Iv
  rw [so 0 (by decide) (by decide) (by decide) (by decide), so 1 (by decide) (by decide) (by decide) (by decide), so 2 (by decide) (by decide) (by decide) (by decide), so 3 (by decide) (by decide) (by decide) (by decide), so 4 (by decide) (by decide) (by decide) (by decide), so 5 (by decide) (by decide) (by decide) (by decide), so 6 (by decide) (by decide) (by decide) (by decide), so 7 (by decide) (by decide) (by decide) (by decide), so 8 (by decide) (by decide) (by decide) (by decide), so 10 (by decide) (by decide) (by decide) (by decide), so 12 (by decide) (by decide) (by decide) (by decide), so 13 (by decide) (by decide) (by decide) (by decide), so 14 (by decide) (by decide) (by decide) (by decide), so 15 (by decide) (by decide) (by decide) (by decide)]
  by_cases e : to < S 17 0
  · rw [if_pos e] at e16 e17
    have hbg := h.l.2.1 to h0 e
    rw [e16] at hu hD2
    rw [e16, e17]
    exact ⟨h.n, h.cl, h.a.undo hbg.1 (by omega) hu, h.l.back h0 e, h.r.less (by omega), h.d.less (by omega), h.s.back h.l h0 e, h.c, h.w, (h.t.le hD).undo h.a h.l h0 e hu hD2 (fun x a b => h.cl.wl a b)⟩
  · rw [if_neg e] at e16 e17
    rw [e16] at hu
    have e11 : u 11 = S 11 := funext (fun v => hu.1 v (fun i a b => by omega))
    rw [e16, e17, e11]
    exact ⟨h.n, h.cl, h.a, h.l, h.r, h.d, h.s, h.c, h.w, h.t.le hD⟩
/-- what was false at a level that stays is false behind it -/
theorem back_fal {to l : Int} (h : Iv Mod S D 0 []) (hb : BackTo S u to) (h0 : 0 ≤ to) {j : Int} (j1 : 0 ≤ j) (j2 : j < S 16 0) (j3 : S 14 j = ng l) (hl : S 12 (l / 2) ≤ to) : j < u 16 0 ∧ u 14 j = ng l := by
  obtain ⟨k, e17, e16, e18, hu⟩ := hb
  rw [k 14 (by decide) (by decide) (by decide) (by decide)]
  refine ⟨?_, j3⟩
  rw [e16]
  by_cases e : to < S 17 0
  · rw [if_pos e]
    exact (h.l.lev_of j1 j2 h0 e).mp (by rw [j3, ng_div]; exact hl)
  · rw [if_neg e]; exact j2
/-- a false clause at the level 0: there is no model -/
theorem Iv.no_model {c : Int} (h : Iv Mod S D 0 []) (hc : 0 ≤ c) (hc2 : c < S 6 0) (h0 : S 17 0 = 0) (hf : ∀ l, Inc (S 2) (S 3) c l → ∃ j, 0 ≤ j ∧ j < S 16 0 ∧ S 14 j = ng l) : ∀ μ, ¬ Mod μ := by
  intro μ hm
  obtain ⟨l, hl, hs⟩ := h.s.1 μ hm c hc hc2
  obtain ⟨j, j1, j2, j3⟩ := hf l hl
  have q := h.l.2.2.2 j j1 j2
  have := h.s.2.1 μ hm j j1 j2 (by omega)
  rw [j3, sat_ng] at this
  exact this hs
/-- marked, of the last level -/
def mkd (B : Sv) (mark : Int → Int) (j : Int) : Int := if mark (B 14 j / 2) = 1 ∧ B 12 (B 14 j / 2) = B 17 0 then 1 else 0
/-- marks and literals, while a clause is learned -/
def AN (B : Sv) (made : Int → Int) (mm : Int) (mark : Int → Int) (op at_ : Int) : Prop :=
  1 ≤ mm ∧ (0 ≤ at_ ∧ at_ ≤ B 16 0) ∧ (∀ v, 0 ≤ v → v < 16 → mark v = 0 ∨ mark v = 1) ∧
  (∀ v, 0 ≤ v → v < B 0 0 → mark v = 1 → 0 < B 12 v ∧ (B 12 v < B 17 0 → ∃ k, 1 ≤ k ∧ k < mm ∧ made k / 2 = v)) ∧
  (∀ k, 1 ≤ k → k < mm → 0 ≤ made k ∧ made k < 2 * B 0 0 ∧ mark (made k / 2) = 1 ∧ B 12 (made k / 2) < B 17 0 ∧ ∃ j, 0 ≤ j ∧ j < B 16 0 ∧ B 14 j = ng (made k)) ∧
  (∀ j k, 1 ≤ j → j < k → k < mm → made j / 2 ≠ made k / 2) ∧ op = cnt (mkd B mark) at_.toNat
/-- a clause that is resolved with: its other literals are false, earlier -/
def RC (B : Sv) (c first at_ : Int) : Prop := 0 ≤ c ∧ c < B 6 0 ∧ ∀ l, Inc (B 2) (B 3) c l → l / 2 ≠ first → ∃ j, 0 ≤ j ∧ j < at_ ∧ B 14 j = ng l
/-- what each model says: a literal of the lesson, or one that is still to be resolved, or one of the clause from k on -/
def AS (Mod : (Int → Bool) → Prop) (B : Sv) (made : Int → Int) (mm : Int) (mark : Int → Int) (at_ : Int) (X : (Int → Bool) → Prop) : Prop :=
  ∀ μ, Mod μ → (∃ k, 1 ≤ k ∧ k < mm ∧ sat μ (made k)) ∨ (∃ j, 0 ≤ j ∧ j < at_ ∧ mkd B mark j = 1 ∧ sat μ (ng (B 14 j))) ∨ X μ
def rest_ (B : Sv) (c first k : Int) (μ : Int → Bool) : Prop := ∃ p, k ≤ p ∧ p < B 3 (c + 1) ∧ B 2 p / 2 ≠ first ∧ sat μ (B 2 p)
theorem AN.mm {made : Int → Int} {mm : Int} {mark : Int → Int} {op at_ : Int} (h : AN B made mm mark op at_) (hn : 0 ≤ B 0 0) : mm ≤ B 0 0 + 1 := by
  have := pigZ (n := B 0 0) (m := mm - 1) (f := fun i => made (i + 1) / 2) hn (fun i a b => by
    have := h.2.2.2.2.1 (i + 1) (by omega) (by omega)
    show 0 ≤ made (i + 1) / 2 ∧ made (i + 1) / 2 < B 0 0; omega) (fun i j a b c => h.2.2.2.2.2.1 (i + 1) (j + 1) (by omega) (by omega) (by omega))
  omega
section
variable {made : Int → Int} {mm : Int} {mark : Int → Int} {op at_ c first k : Int}
/-- the next literal's variable needs nothing -/
theorem AS.skip (hI : Iv Mod B D 0 []) (hA : AN B made mm mark op at_) (hC : RC B c first at_) (hS : AS Mod B made mm mark at_ (rest_ B c first k)) (k1 : B 3 c ≤ k) (k2 : k < B 3 (c + 1)) (hk : B 2 k / 2 = first ∨ mark (B 2 k / 2) = 1 ∨ B 12 (B 2 k / 2) = 0) : AS Mod B made mm mark at_ (rest_ B c first (k + 1)) := by
  intro μ hm
  rcases hS μ hm with q | q | ⟨p, p1, p2, p3, p4⟩
  · exact Or.inl q
  · exact Or.inr (Or.inl q)
  · by_cases e : p = k
    · subst e
      have lr := hI.cl.lit hC.1 hC.2.1 k1 p2
      obtain ⟨j, j1, j2, j3⟩ := hC.2.2 (B 2 p) ⟨p, k1, p2, rfl⟩ p3
      have hat := hA.2.1
      rcases hk with hk | hk | hk
      · exact absurd hk p3
      · have m := hA.2.2.2.1 (B 2 p / 2) (by omega) (by omega) hk
        have lv := hI.l.2.2.2 j j1 (by omega)
        rw [j3, ng_div] at lv
        by_cases z : B 12 (B 2 p / 2) = B 17 0
        · refine Or.inr (Or.inl ⟨j, j1, j2, ?_, by rw [j3, ng_ng]; exact p4⟩)
          unfold mkd; rw [j3, ng_div, if_pos ⟨hk, z⟩]
        · obtain ⟨k', q1, q2, q3⟩ := m.2 (by omega)
          have r := hA.2.2.2.2.1 k' q1 q2
          obtain ⟨i, i1, i2, i3⟩ := r.2.2.2.2
          have ij := hI.a.inj i1 i2 j1 (by omega) (by rw [i3, j3, ng_div, ng_div]; exact q3)
          subst ij
          have : made k' = B 2 p := ng_inj (i3.symm.trans j3)
          exact Or.inl ⟨k', q1, q2, by rw [this]; exact p4⟩
      · exfalso
        have := hI.s.2.1 μ hm j j1 (by omega) (by rw [j3, ng_div]; exact hk)
        rw [j3, sat_ng] at this
        exact this p4
    · exact Or.inr (Or.inr ⟨p, by omega, p2, p3, p4⟩)
theorem mkd_up (hI : Iv Mod B D 0 []) {v i : Int} (hi : 0 ≤ i) (hi2 : i < B 16 0) (hv : B 14 i / 2 = v) (hm : mark v ≠ 1) (hl : B 12 v = B 17 0) (hat : at_ ≤ B 16 0) (hia : i < at_) : cnt (mkd B (up mark v 1)) at_.toNat = cnt (mkd B mark) at_.toNat + 1 := by
  have e : cnt (mkd B (up mark v 1)) at_.toNat = cnt (up (mkd B mark) i 1) at_.toNat := cnt_congr _ _ _ (fun j a b => by
    by_cases q : j = i
    · subst q; rw [up_s]; unfold mkd; rw [hv, up_s, if_pos ⟨rfl, hl⟩]
    · rw [up_n _ _ q]
      have : B 14 j / 2 ≠ v := fun z => q (hI.a.inj a (by omega) hi hi2 (by rw [z, hv]))
      unfold mkd; rw [up_n _ _ this])
  rw [e, cnt_up _ _ _ hi, if_pos (by omega)]
  have : mkd B mark i = 0 := by unfold mkd; rw [hv, if_neg (fun q => hm q.1)]
  omega
/-- the next literal is marked: of the last level -/
theorem AN.open1 (hI : Iv Mod B D 0 []) (hA : AN B made mm mark op at_) (hC : RC B c first at_) (hS : AS Mod B made mm mark at_ (rest_ B c first k)) (k1 : B 3 c ≤ k) (k2 : k < B 3 (c + 1)) (h1 : B 2 k / 2 ≠ first) (h2 : ¬ mark (B 2 k / 2) = 1) (h3 : B 12 (B 2 k / 2) ≠ 0) (h4 : B 12 (B 2 k / 2) = B 17 0) : AN B made mm (up mark (B 2 k / 2) 1) (op + 1) at_ ∧ AS Mod B made mm (up mark (B 2 k / 2) 1) at_ (rest_ B c first (k + 1)) := by
  have lr := hI.cl.lit hC.1 hC.2.1 k1 k2
  obtain ⟨j, j1, j2, j3⟩ := hC.2.2 (B 2 k) ⟨k, k1, k2, rfl⟩ h1
  have hat := hA.2.1
  have lv := hI.l.2.2.2 j j1 (by omega)
  rw [j3, ng_div] at lv
  have mono : ∀ i, mkd B mark i = 1 → mkd B (up mark (B 2 k / 2) 1) i = 1 := fun i q => by
    unfold mkd at q ⊢
    split at q
    · rename_i z
      by_cases e : B 14 i / 2 = B 2 k / 2
      · rw [e, up_s, if_pos ⟨rfl, h4⟩]
      · rw [up_n _ _ e, if_pos z]
    · omega
  obtain ⟨a1, a2, a3, a4, a5, a6, a7⟩ := id hA
  refine ⟨⟨a1, a2, fun v x y => ?_, fun v x y z => ?_, fun i x y => ?_, a6, ?_⟩, fun μ hm => ?_⟩
  · by_cases e : v = B 2 k / 2
    · rw [e, up_s]; exact Or.inr rfl
    · rw [up_n _ _ e]; exact a3 v x y
  · by_cases e : v = B 2 k / 2
    · rw [e]; exact ⟨by omega, fun q => by omega⟩
    · rw [up_n _ _ e] at z; exact a4 v x y z
  · have r := a5 i x y
    refine ⟨r.1, r.2.1, ?_, r.2.2.2⟩
    have ne : made i / 2 ≠ B 2 k / 2 := fun e => h2 (by rw [← e]; exact r.2.2.1)
    rw [up_n _ _ ne]; exact r.2.2.1
  · rw [a7, mkd_up hI j1 (by omega) (by rw [j3, ng_div]) h2 h4 hat.2 j2]
  · rcases hS μ hm with q | ⟨i, i1, i2, i3, i4⟩ | ⟨p, p1, p2, p3, p4⟩
    · exact Or.inl q
    · exact Or.inr (Or.inl ⟨i, i1, i2, mono i i3, i4⟩)
    · by_cases e : p = k
      · subst e
        refine Or.inr (Or.inl ⟨j, j1, j2, ?_, by rw [j3, ng_ng]; exact p4⟩)
        unfold mkd; rw [j3, ng_div, up_s, if_pos ⟨rfl, h4⟩]
      · exact Or.inr (Or.inr ⟨p, by omega, p2, p3, p4⟩)
/-- .. of an earlier level: it belongs to the lesson -/
theorem AN.made1 (hI : Iv Mod B D 0 []) (hA : AN B made mm mark op at_) (hC : RC B c first at_) (hS : AS Mod B made mm mark at_ (rest_ B c first k)) (k1 : B 3 c ≤ k) (k2 : k < B 3 (c + 1)) (h1 : B 2 k / 2 ≠ first) (h2 : ¬ mark (B 2 k / 2) = 1) (h3 : B 12 (B 2 k / 2) ≠ 0) (h4 : B 12 (B 2 k / 2) ≠ B 17 0) : AN B (up made mm (B 2 k)) (mm + 1) (up mark (B 2 k / 2) 1) op at_ ∧ AS Mod B (up made mm (B 2 k)) (mm + 1) (up mark (B 2 k / 2) 1) at_ (rest_ B c first (k + 1)) := by
  have lr := hI.cl.lit hC.1 hC.2.1 k1 k2
  obtain ⟨j, j1, j2, j3⟩ := hC.2.2 (B 2 k) ⟨k, k1, k2, rfl⟩ h1
  have hat := hA.2.1
  have lv := hI.l.2.2.2 j j1 (by omega)
  rw [j3, ng_div] at lv
  have same : ∀ i, mkd B (up mark (B 2 k / 2) 1) i = mkd B mark i := fun i => by
    unfold mkd
    by_cases e : B 14 i / 2 = B 2 k / 2
    · rw [e, if_neg (fun q => h4 q.2), if_neg (fun q => h4 q.2)]
    · rw [up_n _ _ e]
  obtain ⟨a1, a2, a3, a4, a5, a6, a7⟩ := id hA
  have mo : ∀ i, i < mm → up made mm (B 2 k) i = made i := fun i q => up_n _ _ (by omega)
  refine ⟨⟨by omega, a2, fun v x y => ?_, fun v x y z => ?_, fun i x y => ?_, fun i i' x y z => ?_, ?_⟩, fun μ hm => ?_⟩
  · by_cases e : v = B 2 k / 2
    · rw [e, up_s]; exact Or.inr rfl
    · rw [up_n _ _ e]; exact a3 v x y
  · by_cases e : v = B 2 k / 2
    · rw [e]; exact ⟨by omega, fun _ => ⟨mm, a1, by omega, by rw [up_s]⟩⟩
    · rw [up_n _ _ e] at z
      have r := a4 v x y z
      refine ⟨r.1, fun q => ?_⟩
      obtain ⟨i, i1, i2, i3⟩ := r.2 q
      exact ⟨i, i1, by omega, by rw [mo i i2]; exact i3⟩
  · by_cases e : i = mm
    · rw [e, up_s]; exact ⟨lr.1, lr.2, up_s _ _ _, by omega, j, j1, by omega, j3⟩
    · rw [mo i (by omega)]
      have r := a5 i x (by omega)
      refine ⟨r.1, r.2.1, ?_, r.2.2.2⟩
      have ne : made i / 2 ≠ B 2 k / 2 := fun e => h2 (by rw [← e]; exact r.2.2.1)
      rw [up_n _ _ ne]; exact r.2.2.1
  · by_cases e : i' = mm
    · rw [e, up_s, mo i (by omega)]
      exact fun q => h2 (q ▸ (a5 i x (by omega)).2.2.1)
    · rw [mo i (by omega), mo i' (by omega)]; exact a6 i i' x y (by omega)
  · rw [a7]; exact (cnt_congr _ _ _ (fun i _ _ => same i)).symm
  · rcases hS μ hm with ⟨i, i1, i2, i3⟩ | ⟨i, i1, i2, i3, i4⟩ | ⟨p, p1, p2, p3, p4⟩
    · exact Or.inl ⟨i, i1, by omega, by rw [mo i i2]; exact i3⟩
    · exact Or.inr (Or.inl ⟨i, i1, i2, by rw [same]; exact i3, i4⟩)
    · by_cases e : p = k
      · subst e
        exact Or.inl ⟨mm, a1, by omega, by rw [up_s]; exact p4⟩
      · exact Or.inr (Or.inr ⟨p, by omega, p2, p3, p4⟩)
/-- the last marked one is found -/
theorem AN.found (hI : Iv Mod B D 0 []) (hA : AN B made mm mark op at_) (hop : 0 < op) {a : Int} (a0 : 0 ≤ a) (a1 : a < at_) (am : mark (B 14 a / 2) = 1) (hno : ∀ j, a < j → j < at_ → mark (B 14 j / 2) ≠ 1) : B 12 (B 14 a / 2) = B 17 0 ∧ AN B made mm mark (op - 1) a := by
  obtain ⟨b1, b2, b3, b4, b5, b6, b7⟩ := hA
  rw [b7] at hop
  obtain ⟨j, j1, j2, j3⟩ := cnt_ex _ _ hop
  have jm : mark (B 14 j / 2) = 1 ∧ B 12 (B 14 j / 2) = B 17 0 := by
    unfold mkd at j3; split at j3
    · assumption
    · omega
  have ja : j ≤ a := by
    rcases Int.lt_or_le a j with z | z
    · exact absurd jm.1 (hno j z (by omega))
    · exact z
  have lj := hI.l.2.2.2 j j1 (by omega)
  have la := hI.l.2.2.2 a a0 (by omega)
  have lev : B 12 (B 14 a / 2) = B 17 0 := by
    rcases Int.lt_or_le (B 12 (B 14 a / 2)) (B 17 0) with z | z
    · have h1 := (hI.l.lev_of (k := B 17 0 - 1) a0 (by omega) (by omega) (by omega)).mp (by omega)
      have h2 := (hI.l.lev_of (k := B 17 0 - 1) j1 (by omega) (by omega) (by omega)).mpr (by omega)
      omega
    · omega
  refine ⟨lev, b1, ⟨a0, by omega⟩, b3, b4, b5, b6, ?_⟩
  have step : ∀ (m : Nat), a + 1 + m ≤ at_ → cnt (mkd B mark) (a + 1 + m).toNat = cnt (mkd B mark) (a + 1).toNat := by
    intro m
    induction m with
    | zero => intro _; simp
    | succ m ih =>
      intro hm
      rw [show a + 1 + (m + 1 : Nat) = (a + 1 + m) + 1 by omega, cnt_s _ (by omega), ih (by omega)]
      have : mkd B mark (a + 1 + m) = 0 := by unfold mkd; rw [if_neg (fun q => hno _ (by omega) (by omega) q.1)]
      omega
  have h1 := step (at_ - (a + 1)).toNat (by omega)
  rw [show a + 1 + ((at_ - (a + 1)).toNat : Int) = at_ by omega, cnt_s _ a0] at h1
  have : mkd B mark a = 1 := by unfold mkd; rw [if_pos ⟨am, lev⟩]
  omega
/-- .. and is resolved with its reason -/
theorem AN.next (hI : Iv Mod B D 0 []) (hA : AN B made mm mark op at_) (hS : AS Mod B made mm mark at_ (fun _ => False)) {a : Int} (a0 : 0 ≤ a) (a1 : a < at_) (hno : ∀ j, a < j → j < at_ → mark (B 14 j / 2) ≠ 1) (lev : B 12 (B 14 a / 2) = B 17 0) (hA' : AN B made mm mark (op - 1) a) (hop : 0 < op - 1) : RC B (B 13 (B 14 a / 2)) (B 14 a / 2) a ∧ AS Mod B made mm mark a (rest_ B (B 13 (B 14 a / 2)) (B 14 a / 2) (B 3 (B 13 (B 14 a / 2)))) := by
  have b2 := hA.2.1
  obtain ⟨-, -, -, -, -, -, b7⟩ := hA'
  rw [b7] at hop
  obtain ⟨j, j1, j2, j3⟩ := cnt_ex _ _ hop
  have jm : mark (B 14 j / 2) = 1 ∧ B 12 (B 14 j / 2) = B 17 0 := by
    unfold mkd at j3; split at j3
    · assumption
    · omega
  have lj := hI.l.2.2.2 j j1 (by omega)
  have m4 := hA.2.2.2.1 (B 14 j / 2) (by have := hI.a.2.1 j j1 (by omega); omega) (by have := hI.a.2.1 j j1 (by omega); omega) jm.1
  have bj := lj.2.2.1 (by omega)
  rw [jm.2] at bj
  rcases hI.r a a0 (by omega) with ⟨r1, r2⟩ | ⟨r1, r2, r3, r4⟩
  · exfalso
    rcases r2 with r2 | r2
    · omega
    · rw [lev] at r2; omega
  · have rc : RC B (B 13 (B 14 a / 2)) (B 14 a / 2) a := ⟨r1, r2, fun l hl hne => r4 l hl (fun e => hne (by rw [e]))⟩
    refine ⟨rc, fun μ hm => ?_⟩
    rcases hS μ hm with q | ⟨i, i1, i2, i3, i4⟩ | q
    · exact Or.inl q
    · have im : mark (B 14 i / 2) = 1 := by
        unfold mkd at i3; split at i3
        · rename_i z; exact z.1
        · omega
      have ia : i ≤ a := by
        rcases Int.lt_or_le a i with z | z
        · exact absurd im (hno i z i2)
        · exact z
      by_cases e : i = a
      · subst e
        obtain ⟨l, ⟨p, p1, p2, p3⟩, ls⟩ := hI.s.1 μ hm _ r1 r2
        refine Or.inr (Or.inr ⟨p, p1, p2, ?_, by rw [p3]; exact ls⟩)
        intro e2
        obtain ⟨p', q1, q2, q3⟩ := r3
        have : p = p' := by
          rcases Int.lt_trichotomy p p' with z | z | z
          · exact absurd (by rw [e2, q3]) (hI.cl.2.2.2 _ r1 r2 p p' p1 z q2)
          · exact z
          · exact absurd (by rw [e2, q3]) (hI.cl.2.2.2 _ r1 r2 p' p q1 z p2)
        rw [this, q3] at p3
        rw [sat_ng, p3] at i4
        exact i4 ls
      · exact Or.inr (Or.inl ⟨i, i1, by omega, i3, i4⟩)
    · exact absurd q id
end
/-- THE LESSON: its literals (made 0 the one that becomes true) -/
def Ld (Mod : (Int → Bool) → Prop) (B : Sv) (made : Int → Int) (mm a : Int) : Prop :=
  1 ≤ mm ∧ made 0 = ng (B 14 a) ∧ (∀ k, 1 ≤ k → k < mm → 0 ≤ made k ∧ made k < 2 * B 0 0 ∧ 0 < B 12 (made k / 2) ∧ B 12 (made k / 2) < B 17 0 ∧ ∃ j, 0 ≤ j ∧ j < B 16 0 ∧ B 14 j = ng (made k)) ∧ (∀ j k, 1 ≤ j → j < k → k < mm → made j / 2 ≠ made k / 2) ∧ ∀ μ, Mod μ → ∃ k, 0 ≤ k ∧ k < mm ∧ sat μ (made k)
theorem AN.lesson {made : Int → Int} {mm : Int} {mark : Int → Int} {op at_ : Int} (hI : Iv Mod B D 0 []) (hA : AN B made mm mark op at_) (hS : AS Mod B made mm mark at_ (fun _ => False)) {a : Int} (a0 : 0 ≤ a) (a1 : a < at_) (hno : ∀ j, a < j → j < at_ → mark (B 14 j / 2) ≠ 1) (hA' : AN B made mm mark (op - 1) a) (hop : ¬ 0 < op - 1) : Ld Mod B (up made 0 (ng (B 14 a))) mm a := by
  obtain ⟨b1, b2, b3, b4, b5, b6, b7⟩ := hA
  have mo : ∀ i, 1 ≤ i → up made 0 (ng (B 14 a)) i = made i := fun i q => up_n _ _ (by omega)
  refine ⟨b1, up_s _ _ _, fun k k1 k2 => ?_, fun j k j1 j2 j3 => ?_, fun μ hm => ?_⟩
  · rw [mo k k1]
    have r := b5 k k1 k2
    have s := b4 (made k / 2) (by omega) (by omega) r.2.2.1
    exact ⟨r.1, r.2.1, s.1, r.2.2.2.1, r.2.2.2.2⟩
  · rw [mo j j1, mo k (by omega)]; exact b6 j k j1 j2 j3
  · rcases hS μ hm with ⟨i, i1, i2, i3⟩ | ⟨i, i1, i2, i3, i4⟩ | q
    · exact ⟨i, by omega, i2, by rw [mo i i1]; exact i3⟩
    · have im : mark (B 14 i / 2) = 1 := by
        unfold mkd at i3; split at i3
        · rename_i z; exact z.1
        · omega
      have ia : i ≤ a := by
        rcases Int.lt_or_le a i with z | z
        · exact absurd im (hno i z i2)
        · exact z
      by_cases e : i = a
      · subst e; exact ⟨0, by omega, by omega, by rw [up_s]; exact i4⟩
      · exfalso
        obtain ⟨-, -, -, -, -, -, c7⟩ := hA'
        have := cnt_pos (mkd B mark) a.toNat (fun j _ _ => by unfold mkd; split <;> omega) i i1 (by omega)
        omega
    · exact absurd q id
/-- two literals of the lesson change places -/
theorem Ld.swp {made : Int → Int} {mm a x y : Int} (h : Ld Mod B made mm a) (hx : 1 ≤ x ∧ x < mm) (hy : 1 ≤ y ∧ y < mm) : Ld Mod B (swp made x y) mm a := by
  obtain ⟨h1, h2, h3, h4, h5⟩ := h
  refine ⟨h1, ?_, fun k k1 k2 => ?_, fun j k j1 j2 j3 => ?_, fun μ hm => ?_⟩
  · rw [swp_o _ (by omega) (by omega)]; exact h2
  · rw [swp_i]
    have w := swi_in (a := x) (b := y) (j := k) (lo := 1) (hi := mm) hx hy ⟨k1, k2⟩
    exact h3 _ w.1 w.2
  · rw [swp_i, swp_i]
    have w1 := swi_in (a := x) (b := y) (j := j) (lo := 1) (hi := mm) hx hy ⟨j1, by omega⟩
    have w2 := swi_in (a := x) (b := y) (j := k) (lo := 1) (hi := mm) hx hy ⟨by omega, j3⟩
    have ne : swi x y j ≠ swi x y k := fun e => by have := congrArg (swi x y) e; rw [swi_swi, swi_swi] at this; omega
    rcases Int.lt_or_lt_of_ne ne with z | z
    · exact h4 _ _ w1.1 z w2.2
    · exact fun e => h4 _ _ w2.1 z w1.2 e.symm
  · obtain ⟨k, k1, k2, k3⟩ := h5 μ hm
    have w := swi_in (a := x) (b := y) (j := k) (lo := 0) (hi := mm) (by omega) (by omega) ⟨k1, k2⟩
    exact ⟨swi x y k, w.1, w.2, by rw [swp_i, swi_swi]; exact k3⟩
end
end
section
/-! pure: the lesson is kept, its first literal becomes true -/
section
variable {Mod : (Int → Bool) → Prop} {S u v : Sv} {a to : Int}
/-- behind learning: there is no model; or fewer levels, one more on the trail -/
def LZ (Mod : (Int → Bool) → Prop) (S : Sv) (z : Int) (u : Sv) : Prop :=
  (z = 0 ∧ (∀ μ, ¬ Mod μ) ∧ u 3 0 = 0) ∨ (z = 1 ∧ Iv Mod u (u 18 0) 0 [] ∧ 0 ≤ u 18 0 ∧ u 18 0 ≤ u 16 0 ∧ (0 < u 17 0 → u 15 (u 17 0 - 1) ≤ u 18 0) ∧ 0 ≤ u 17 0 ∧ u 17 0 < S 17 0 ∧ u 16 0 = S 15 (u 17 0) + 1 ∧ u 0 = S 0 ∧ u 1 = S 1 ∧ u 15 = S 15 ∧ u 19 = S 19 ∧ u 21 0 = 0)
/-- behind the way back with a lesson -/
def LB (Mod : (Int → Bool) → Prop) (S u : Sv) (to : Int) : Prop :=
  Iv Mod u (u 16 0) 0 [] ∧ u 16 0 = S 15 to ∧ u 17 0 = to ∧ u 18 0 = u 16 0 ∧ (0 ≤ S 20 0 ∧ S 20 0 < 2 * S 0 0 ∧ u 11 (S 20 0 / 2) = 0) ∧ (∀ k, 1 ≤ k → k < S 21 0 → 0 ≤ S 20 k ∧ S 20 k < 2 * S 0 0 ∧ ∃ j, 0 ≤ j ∧ j < u 16 0 ∧ u 14 j = ng (S 20 k)) ∧ 1 ≤ S 21 0 ∧ (∀ μ, Mod μ → ∃ k, 0 ≤ k ∧ k < S 21 0 ∧ sat μ (S 20 k)) ∧ (2 ≤ S 21 0 → Mk (S 0 0) (S 20) (S 21 0) ∧ S 12 (S 20 1 / 2) = to ∧ 0 < to) ∧ (S 21 0 = 1 → to = 0) ∧ ∀ k, k ≠ 11 → k ≠ 16 → k ≠ 17 → k ≠ 18 → u k = S k
theorem Ld.back (hI : Iv Mod S (S 15 (S 17 0 - 1)) 0 []) (hd : Ld Mod S (S 20) (S 21 0) a) (a0 : 0 ≤ a) (a1 : a < S 16 0) (hla : S 12 (S 14 a / 2) = S 17 0) (t0 : 0 ≤ to) (t1 : to < S 17 0) (hall : ∀ k, 1 ≤ k → k < S 21 0 → S 12 (S 20 k / 2) ≤ to) (h1 : S 21 0 = 1 → to = 0) (h2 : 1 < S 21 0 → S 12 (S 20 1 / 2) = to) (hb : BackTo S u to) : LB Mod S u to := by
  obtain ⟨d1, d2, d3, d4, d5⟩ := hd
  have hbt := hI.l.2.1 to t0 t1
  have e16 : u 16 0 = S 15 to := by rw [hb.2.2.1, if_pos t1]
  have e17 : u 17 0 = to := by rw [hb.2.1, if_pos t1]
  have hta := hI.a.2.1 a a0 a1
  have hab : S 15 to ≤ a := by
    rcases Int.lt_or_le a (S 15 to) with z | z
    · have := (hI.l.lev_of a0 a1 t0 t1).mpr z; omega
    · exact z
  have e0 : S 20 0 / 2 = S 14 a / 2 := by rw [d2, ng_div]
  have l0 : 0 ≤ S 20 0 ∧ S 20 0 < 2 * S 0 0 := by rw [d2]; exact ⟨ng_lo hta.1, ng_hi hta.2.1⟩
  have dis : ∀ j k, 0 ≤ j → j < k → k < S 21 0 → S 20 j / 2 ≠ S 20 k / 2 := fun j k x y z => by
    by_cases e : j = 0
    · rw [e, e0]; intro q
      have := (d3 k (by omega) z).2.2.2.1
      rw [← q, hla] at this; omega
    · exact d4 j k (by omega) y z
  have rng : ∀ k, 0 ≤ k → k < S 21 0 → 0 ≤ S 20 k ∧ S 20 k < 2 * S 0 0 := fun k x y => by
    by_cases e : k = 0
    · rw [e]; exact l0
    · have := d3 k (by omega) y; exact ⟨this.1, this.2.1⟩
  have hn := hI.n
  have mm16 : S 21 0 ≤ S 0 0 := pigZ (f := fun k => S 20 k / 2) (by omega) (fun k x y => by have := rng k x y; show 0 ≤ S 20 k / 2 ∧ S 20 k / 2 < S 0 0; omega) dis
  refine ⟨hI.back hb t0 ?_ (Int.le_refl _), e16, e17, hb.2.2.2.1, ⟨l0.1, l0.2, ?_⟩, fun k x y => ?_, d1, d5, fun q => ⟨⟨q, by omega, rng, dis⟩, h2 (by omega), ?_⟩, h1, hb.1⟩
  · rw [e16]
    have := hI.l.beg_le (j := to) (k := S 17 0 - 1) t0 (by omega) (by omega); omega
  · rw [e0]
    have hu := hb.2.2.2.2
    exact hu.2 a (by rw [e16]; exact hab) a1
  · have r := d3 k x y
    obtain ⟨j, j1, j2, j3⟩ := r.2.2.2.2
    have q := back_fal hI hb t0 j1 j2 j3 (hall k x y)
    exact ⟨r.1, r.2.1, j, j1, q.1, q.2⟩
  · have := (d3 1 (by omega) (by omega)).2.2.1
    rw [h2 (by omega)] at this; exact this
/-- a lesson of one literal -/
theorem LB.unit {B : Sv} (h : LB Mod S u to) (t1 : to < S 17 0) (h1 : S 21 0 = 1) (hB : S 0 = B 0 ∧ S 1 = B 1 ∧ S 15 = B 15 ∧ S 19 = B 19 ∧ S 17 0 ≤ B 17 0) : LZ Mod B 1 (u2 (setS u (S 20 0) (-1)) 21 0 0) := by
  obtain ⟨hI, e16, e17, e18, l0, hk, d1, d5, hm, ht, so⟩ := h
  have rn := hI.rng
  have t0 := ht h1
  have e0 : u 0 = S 0 := so 0 (by decide) (by decide) (by decide) (by decide)
  have hn := hI.n
  refine Or.inr ⟨rfl, ?_, ?_, ?_, ?_, ?_, ?_, ?_, ?_, ?_, ?_, ?_, u2_ss _ _ _ _⟩
  · have hlv : u 17 0 = 0 := by omega
    have b2 : S 20 0 < 2 * u 0 0 := by rw [e0]; exact l0.2.1
    refine ⟨hI.n, hI.cl, hI.a.set l0.1 b2 l0.2.2, hI.l.set hI.a l0.2.2, hI.r.set hI.a l0.2.2 (fun _ _ _ _ => rfl) (fun i a b => (hI.l.2.2.2 i a b).1) (Or.inl ⟨rfl, Or.inl hlv⟩), hI.d.set hI.l, hI.s.set hI.a l0.2.2 (fun _ μ hm => ?_), hI.c, hI.w, ?_⟩
    · obtain ⟨k, k1, k2, k3⟩ := d5 μ hm
      rw [show k = 0 by omega] at k3; exact k3
    · have := (hI.t.le (D' := u 18 0) (by omega)).set (l := S 20 0) (lv := u 17 0) hI.a (by omega) l0.2.2
      exact this
  · show 0 ≤ u 18 0; omega
  · show u 18 0 ≤ up (u 16) 0 (u 16 0 + 1) 0; rw [up_s]; omega
  · show 0 < u 17 0 → u 15 (u 17 0 - 1) ≤ u 18 0
    intro q; omega
  · show 0 ≤ u 17 0; omega
  · show u 17 0 < B 17 0; omega
  · show up (u 16) 0 (u 16 0 + 1) 0 = B 15 (u 17 0) + 1
    rw [up_s, e16, e17, hB.2.2.1]
  · show u 0 = _; rw [e0, hB.1]
  · show u 1 = _; rw [so 1 (by decide) (by decide) (by decide) (by decide), hB.2.1]
  · show u 15 = _; rw [so 15 (by decide) (by decide) (by decide) (by decide), hB.2.2.1]
  · show u 19 = _; rw [so 19 (by decide) (by decide) (by decide) (by decide), hB.2.2.2.1]
/-- a lesson that is kept as the clause z -/
theorem LB.keep {B : Sv} {z : Int} (h : LB Mod S u to) (t0 : 0 ≤ to) (t1 : to < S 17 0) (h1 : 2 ≤ S 21 0) (hB : S 0 = B 0 ∧ S 1 = B 1 ∧ S 15 = B 15 ∧ S 19 = B 19 ∧ S 17 0 ≤ B 17 0) (hz : KZ Mod u (u 16 0) 1 z v) : LZ Mod B 1 (u2 (setS v (S 20 0) z) 21 0 0) := by
  obtain ⟨hI, e16, e17, e18, l0, hk, d1, d5, hm, ht, so⟩ := h
  obtain ⟨hV, z0, z1, zi, w0, w1, -, zo⟩ := hz
  have rn := hI.rng
  have hn := hI.n
  have o : ∀ k, k ≠ 2 → k ≠ 3 → k ≠ 4 → k ≠ 5 → k ≠ 6 → k ≠ 7 → k ≠ 8 → k ≠ 9 → k ≠ 10 → k ≠ 13 → v k = u k := zo
  have v0 : v 0 = u 0 := o 0 (by decide) (by decide) (by decide) (by decide) (by decide) (by decide) (by decide) (by decide) (by decide) (by decide)
  have v1 : v 1 = u 1 := o 1 (by decide) (by decide) (by decide) (by decide) (by decide) (by decide) (by decide) (by decide) (by decide) (by decide)
  have v11 : v 11 = u 11 := o 11 (by decide) (by decide) (by decide) (by decide) (by decide) (by decide) (by decide) (by decide) (by decide) (by decide)
  have v12 : v 12 = u 12 := o 12 (by decide) (by decide) (by decide) (by decide) (by decide) (by decide) (by decide) (by decide) (by decide) (by decide)
  have v14 : v 14 = u 14 := o 14 (by decide) (by decide) (by decide) (by decide) (by decide) (by decide) (by decide) (by decide) (by decide) (by decide)
  have v15 : v 15 = u 15 := o 15 (by decide) (by decide) (by decide) (by decide) (by decide) (by decide) (by decide) (by decide) (by decide) (by decide)
  have v16 : v 16 = u 16 := o 16 (by decide) (by decide) (by decide) (by decide) (by decide) (by decide) (by decide) (by decide) (by decide) (by decide)
  have v17 : v 17 = u 17 := o 17 (by decide) (by decide) (by decide) (by decide) (by decide) (by decide) (by decide) (by decide) (by decide) (by decide)
  have v18 : v 18 = u 18 := o 18 (by decide) (by decide) (by decide) (by decide) (by decide) (by decide) (by decide) (by decide) (by decide) (by decide)
  have v19 : v 19 = u 19 := o 19 (by decide) (by decide) (by decide) (by decide) (by decide) (by decide) (by decide) (by decide) (by decide) (by decide)
  have u20 : u 20 = S 20 := so 20 (by decide) (by decide) (by decide) (by decide)
  have u21 : u 21 = S 21 := so 21 (by decide) (by decide) (by decide) (by decide)
  have u0 : u 0 = S 0 := so 0 (by decide) (by decide) (by decide) (by decide)
  have u15 : u 15 = S 15 := so 15 (by decide) (by decide) (by decide) (by decide)
  rw [u20] at w0 w1
  rw [u20, u21] at zi
  obtain ⟨hMk, hl1, htp⟩ := hm h1
  obtain ⟨c1, c2, c3, c4, c5, c6, c7, c8, c9, c10⟩ := hV
  have vv : v 11 (S 20 0 / 2) = 0 := by rw [v11]; exact l0.2.2
  have b2 : S 20 0 < 2 * v 0 0 := by rw [v0, u0]; exact l0.2.1
  have e18' : v 18 0 = v 16 0 := by rw [v18, v16]; exact e18
  have n0 : ∀ i, 0 ≤ i → i < v 16 0 → v 14 i / 2 ≠ S 20 0 / 2 := fun i x y e => by
    have := (c3.2.1 i x y).2.2
    rw [e, vv] at this
    have := sgn_or (v 14 i); omega
  have l1 := hk 1 (by omega) (by omega)
  have ne01 : S 20 0 / 2 ≠ S 20 1 / 2 := hMk.2.2.2 0 1 (by omega) (by omega) (by omega)
  refine Or.inr ⟨rfl, ?_, ?_, ?_, ?_, ?_, ?_, ?_, ?_, ?_, ?_, ?_, u2_ss _ _ _ _⟩
  · refine ⟨c1, c2, c3.set l0.1 b2 vv, c4.set c3 vv, c5.set c3 vv (fun _ _ _ _ => rfl) (fun i a b => (c4.2.2.2 i a b).1) (Or.inr ⟨z0, by omega, (zi _).mpr ⟨0, by omega, by omega, rfl⟩, fun q hq hne => ?_⟩), c6.set c4, c7.set c3 vv (fun q μ hμ => ?_), c8, c9, ?_⟩
    · obtain ⟨k, k1, k2, k3⟩ := (zi q).mp hq
      have k0 : k ≠ 0 := fun e => hne (by rw [← k3, e])
      obtain ⟨j, j1, j2, j3⟩ := (hk k (by omega) k2).2.2
      exact ⟨j, j1, by rw [v16]; exact j2, by rw [v14, ← k3]; exact j3⟩
    · -- the level is not 0: the second literal's isn't
      exfalso
      rw [v17] at q; omega
    · intro w a b i x y p q
      have y' : i < v 18 0 := y
      have q : up (v 14) (v 16 0) (S 20 0) i = ng (wl (v 2) (v 3) w) := q
      rw [up_n _ _ (by omega)] at q
      show 0 < vOf (up (v 11) (S 20 0 / 2) (if S 20 0 % 2 = 0 then 1 else -1)) (wl (v 2) (v 3) (ng w)) ∧ up (v 12) (S 20 0 / 2) (v 17 0) (wl (v 2) (v 3) (ng w) / 2) ≤ up (v 12) (S 20 0 / 2) (v 17 0) (wl (v 2) (v 3) w / 2)
      by_cases z2 : w = 2 * z
      · rw [z2, w0] at q
        exact absurd (by rw [q, ng_div]) (n0 i x (by omega))
      · by_cases z3 : w = 2 * z + 1
        · have e1 : ng w = 2 * z := by rw [z3]; unfold ng; omega
          rw [e1, w0, z3, w1, up_s, up_n _ _ (fun e => ne01 e.symm)]
          have t1 : vOf (up (v 11) (S 20 0 / 2) (if S 20 0 % 2 = 0 then 1 else -1)) (S 20 0) = 1 := vOf_self (by rw [up_s]; rfl)
          refine ⟨by omega, ?_⟩
          rw [v17, e17, v12, so 12 (by decide) (by decide) (by decide) (by decide), hl1]; exact Int.le_refl _
        · have := (Tw.set (l := S 20 0) (lv := v 17 0) c10 c3 (by rw [v16]; exact Int.le_refl _) vv) w a (by have b' : w < 2 * v 6 0 := b; omega) i x (by rw [← v16]; omega) (fun q => absurd q List.not_mem_nil) (by rw [up_n _ _ (by omega)]; exact q)
          exact this
  · show 0 ≤ v 18 0; rw [e18', v16]; omega
  · show v 18 0 ≤ up (v 16) 0 (v 16 0 + 1) 0; rw [up_s]; omega
  · show 0 < v 17 0 → v 15 (v 17 0 - 1) ≤ v 18 0
    intro q
    have := c4.2.1 (v 17 0 - 1) (by omega) (by omega)
    omega
  · show 0 ≤ v 17 0; rw [v17]; omega
  · show v 17 0 < B 17 0; rw [v17]; omega
  · show up (v 16) 0 (v 16 0 + 1) 0 = B 15 (v 17 0) + 1
    rw [up_s, v16, v17, e16, e17, hB.2.2.1]
  · show v 0 = _; rw [v0, u0, hB.1]
  · show v 1 = _; rw [v1, so 1 (by decide) (by decide) (by decide) (by decide), hB.2.1]
  · show v 15 = _; rw [v15, u15, hB.2.2.1]
  · show v 19 = _; rw [v19, so 19 (by decide) (by decide) (by decide) (by decide), hB.2.2.2.1]
end
end
section
/-! Math.max, Math.min; learn -/
section
variable {K : Cx} {own : String} {cc : ByteArray} {ws : va_W} {pc index : Nat} {lv : List (Nat × Value)} {st : List Value} {x y : Int}
theorem j_max (C : Ok K own cc) (lk : ∀ q ∈ ([.methodLink own index y_Ma_max, .static y_Ma_max, .initialized "java/lang/Math"] : List Cond), q ∈ tblG) (hR : 1 ≤ (xR K).frames ∧ 21 ≤ (xR K).locals) (hcs : xn K ≤ (xR K).cells ∧ xk K ≤ (xR K).slots) (hcat : (st.map fun v => v.category).sum ≤ 8) (hx : rg x) (hy : rg y) (hd : decode cc pc = .ok (.invokestatic index, 3)) (kk : J K ws (pc + 3) lv (jv (if x < y then y else x) :: st)) : J K ws pc lv (jv y :: jv x :: st) := by
  intro H locs ls hP hD hS hl
  obtain ⟨hx0, hb, hml, hown, hts, hK, -, -⟩ := id C
  refine va_mmax hx0 hb (hml.trans hl.1.symm) hown (hts (.methodLink own index y_Ma_max) (lk _ (by simp))) (hts (.static y_Ma_max) (lk _ (by simp))) (hts _ (lk _ (by simp))) (hts _ mc_Ma_max) hR.1 (by omega) hcs.1 hcs.2 hd ?_
  have e : (if jI x < jI y then jI y else jI x) = jI (if x < y then y else x) := by
    by_cases q : x < y
    · rw [if_pos q, if_pos ((jI_lt hx hy).mpr q)]
    · rw [if_neg q, if_neg (fun z => q ((jI_lt hx hy).mp z))]
  rw [e]
  exact kk H locs ls hP hD hS hl
theorem j_min (C : Ok K own cc) (lk : ∀ q ∈ ([.methodLink own index y_Ma_min, .static y_Ma_min, .initialized "java/lang/Math"] : List Cond), q ∈ tblG) (hR : 1 ≤ (xR K).frames ∧ 21 ≤ (xR K).locals) (hcs : xn K ≤ (xR K).cells ∧ xk K ≤ (xR K).slots) (hcat : (st.map fun v => v.category).sum ≤ 8) (hx : rg x) (hy : rg y) (hd : decode cc pc = .ok (.invokestatic index, 3)) (kk : J K ws (pc + 3) lv (jv (if y < x then y else x) :: st)) : J K ws pc lv (jv y :: jv x :: st) := by
  intro H locs ls hP hD hS hl
  obtain ⟨hx0, hb, hml, hown, hts, hK, -, -⟩ := id C
  refine va_mmin hx0 hb (hml.trans hl.1.symm) hown (hts (.methodLink own index y_Ma_min) (lk _ (by simp))) (hts (.static y_Ma_min) (lk _ (by simp))) (hts _ (lk _ (by simp))) (hts _ mc_Ma_min) hR.1 (by omega) hcs.1 hcs.2 hd ?_
  have e : (if jI y < jI x then jI y else jI x) = jI (if y < x then y else x) := by
    by_cases q : y < x
    · rw [if_pos q, if_pos ((jI_lt hy hx).mpr q)]
    · rw [if_neg q, if_neg (fun z => q ((jI_lt hy hx).mp z))]
  rw [e]
  exact kk H locs ls hP hD hS hl
end
theorem lp_lrn1 {K : Cx} {h0 : Nat} {ad : Nat → Nat} {cA : Nat → ClassId} (C : Ok K R_Sv b_Sv_learn) (hR : xR K = rmL 5) (ht : xt K = sty cA) (hL : xL K = 10) (hcs : xn K ≤ (xR K).cells ∧ xk K ≤ (xR K).slots) (Mod : (Int → Bool) → Prop) (S : Sv) (Dn f : Int) (h : Iv Mod S Dn 0 []) (f0 : 0 ≤ f) (f1 : f < S 6 0) (hf : ∀ l, Inc (S 2) (S 3) f l → ∃ j, 0 ≤ j ∧ j < S 16 0 ∧ S 14 j = ng l) (kk : ∀ m k, 0 ≤ m → m ≤ S 17 0 → (∀ l, Inc (S 2) (S 3) f l → S 12 (l / 2) ≤ m) → (m = 0 ∨ ∃ l, Inc (S 2) (S 3) f l ∧ S 12 (l / 2) = m) → J K (sw h0 ad cA S) 45 [(0, .ref h0), (1, jv f), (2, jv m), (3, jv k)] []) :
    ∀ (n : Nat) (m k : Int), S 3 (f + 1) - k < n → S 3 f ≤ k → k ≤ S 3 (f + 1) → 0 ≤ m → m ≤ S 17 0 → (∀ p, S 3 f ≤ p → p < k → S 12 (S 2 p / 2) ≤ m) → (m = 0 ∨ ∃ p, S 3 f ≤ p ∧ p < k ∧ S 12 (S 2 p / 2) = m) → J K (sw h0 ad cA S) 9 [(0, .ref h0), (1, jv f), (2, jv m), (3, jv k)] [] := by
  have L := Ln_Sv (h0 := h0) (ad := ad) ht
  have rn := h.rng
  have hn := h.n
  have zf := h.cl.at f0 f1
  intro n
  induction n with
  | zero => intro m k q1; omega
  | succ n ih =>
    intro m k q1 q2 q3 q4 q5 q6 q7
    refine j_iload_n C 3 d_Sv_learn_9 rfl rfl ?_
    refine j_aload_n C 0 d_Sv_learn_10 rfl rfl ?_
    refine s_getA C L 3 (by decide) rfl d_Sv_learn_11 ?_
    refine j_iload_n C 1 d_Sv_learn_14 rfl rfl ?_
    refine j_iconst C d_Sv_learn_15 ?_
    refine j_iadd C d_Sv_learn_16 ?_
    refine s_iald C L 3 618 (by decide) rfl rfl (S 3 (f + 1)) rfl (by omega) (by omega) d_Sv_learn_17 ?_
    refine j_icmp_ge (tgt := 45) C d_Sv_learn_18 (by decide) (rgi (by omega) (by omega)) (rgi (by omega) (by omega)) (fun x => ?_) (fun x => ?_)
    · refine kk m k q4 q5 (fun l hl => ?_) ?_
      · obtain ⟨p, p1, p2, p3⟩ := hl
        rw [← p3]; exact q6 p p1 (by omega)
      · rcases q7 with z | ⟨p, p1, p2, p3⟩
        · exact Or.inl z
        · exact Or.inr ⟨S 2 p, ⟨p, p1, by omega, rfl⟩, p3⟩
    · have lk := h.cl.lit f0 f1 q2 (by omega : k < S 3 (f + 1))
      have hlv : 0 ≤ S 12 (S 2 k / 2) ∧ S 12 (S 2 k / 2) ≤ S 17 0 := by
        obtain ⟨j, j1, j2, j3⟩ := hf (S 2 k) ⟨k, q2, by omega, rfl⟩
        have := h.l.2.2.2 j j1 j2
        rw [j3, ng_div] at this; exact ⟨this.1, this.2.1⟩
      refine j_iload_n C 2 d_Sv_learn_21 rfl rfl ?_
      refine j_aload_n C 0 d_Sv_learn_22 rfl rfl ?_
      refine s_getA C L 12 (by decide) rfl d_Sv_learn_23 ?_
      refine j_aload_n C 0 d_Sv_learn_26 rfl rfl ?_
      refine s_getA C L 2 (by decide) rfl d_Sv_learn_27 ?_
      refine j_iload_n C 3 d_Sv_learn_30 rfl rfl ?_
      refine s_iald C L 2 9872 (by decide) rfl rfl (S 2 k) rfl (by omega) (by omega) d_Sv_learn_31 ?_
      refine j_iconst C d_Sv_learn_32 ?_
      refine j_ishr C d_Sv_learn_33 (jI_shr1 (by omega) (by omega)) ?_
      refine s_iald C L 12 16 (by decide) rfl rfl (S 12 ((S 2 k) / 2)) rfl (by omega) (by omega) d_Sv_learn_34 ?_
      refine j_max C lk_Sv_117.1 (by rw [hR]; decide) hcs (Nat.le_of_ble_eq_true rfl) (rgi (by omega) (by omega)) (rgi (by omega) (by omega)) d_Sv_learn_35 ?_
      refine j_top (fun m2 hm2 => ?_)
      refine j_istore_n (lv' := [(0, .ref h0), (1, jv f), (2, jv m2), (3, jv k)]) C d_Sv_learn_38 rfl (by rw [hL]; decide) rfl rfl ?_
      refine j_iinc (lv' := [(0, .ref h0), (1, jv f), (2, jv m2), (3, jv (k + 1))]) C 3 d_Sv_learn_39 rfl (by rw [hL]; decide) rfl rfl ?_
      refine j_goto (tgt := 9) C d_Sv_learn_42 (by decide) ?_
      refine ih m2 (k + 1) (by omega) (by omega) (by omega) ?_ ?_ (fun p p1 p2 => ?_) ?_
      · rw [hm2]; split <;> omega
      · rw [hm2]; split <;> omega
      · by_cases e : p = k
        · rw [e, hm2]; split <;> omega
        · have := q6 p p1 (by omega)
          rw [hm2]; split <;> omega
      · by_cases e : m < S 12 (S 2 k / 2)
        · exact Or.inr ⟨k, q2, by omega, by rw [hm2, if_pos e]⟩
        · rw [if_neg e] at hm2
          rw [hm2]
          rcases q7 with z | ⟨p, p1, p2, p3⟩
          · exact Or.inl z
          · exact Or.inr ⟨p, p1, by omega, p3⟩
theorem lp_lrnB {K : Cx} {h0 : Nat} {ad : Nat → Nat} {cA : Nat → ClassId} (C : Ok K R_Sv b_Sv_learn) (hR : xR K = rmL 5) (ht : xt K = sty cA) (hL : xL K = 10) (hcs : xn K ≤ (xR K).cells ∧ xk K ≤ (xR K).slots) (Mod : (Int → Bool) → Prop) (B : Sv) (Dn f m a c fi : Int) (h : Iv Mod B Dn 0 []) (hfi : -1 ≤ fi ∧ fi < 16) (hl0 : 0 < B 17 0) (hC : RC B c fi a) (kk : ∀ (S : Sv) (op k : Int), (∀ k, k ≠ 20 → k ≠ 21 → k ≠ 22 → S k = B k) → AN B (S 20) (S 21 0) (S 22) op a → AS Mod B (S 20) (S 21 0) (S 22) a (fun _ => False) → 0 < op → J K (sw h0 ad cA S) 207 [(0, .ref h0), (1, jv f), (2, jv m), (3, jv op), (4, jv a), (5, jv c), (6, jv fi), (7, jv k)] []) :
    ∀ (n : Nat) (S : Sv) (op k : Int), B 3 (c + 1) - k < n → B 3 c ≤ k → k ≤ B 3 (c + 1) → (∀ k, k ≠ 20 → k ≠ 21 → k ≠ 22 → S k = B k) → AN B (S 20) (S 21 0) (S 22) op a → AS Mod B (S 20) (S 21 0) (S 22) a (rest_ B c fi k) → (0 < op ∨ ∃ p, k ≤ p ∧ p < B 3 (c + 1) ∧ B 2 p / 2 ≠ fi ∧ B 12 (B 2 p / 2) = B 17 0 ∧ S 22 (B 2 p / 2) ≠ 1) → J K (sw h0 ad cA S) 92 [(0, .ref h0), (1, jv f), (2, jv m), (3, jv op), (4, jv a), (5, jv c), (6, jv fi), (7, jv k)] [] := by
  have L := Ln_Sv (h0 := h0) (ad := ad) ht
  have rn := h.rng
  have hn := h.n
  have zc := h.cl.at hC.1 hC.2.1
  have hc1 := hC.1
  have hc2 := hC.2.1
  intro n
  induction n with
  | zero => intro S op k q1; omega
  | succ n ih =>
    intro S op k q1 q2 q3 hB hA hS hop
    have e3 : S 3 (c + 1) = B 3 (c + 1) := by rw [hB 3 (by decide) (by decide) (by decide)]
    have e2 : S 2 k = B 2 k := by rw [hB 2 (by decide) (by decide) (by decide)]
    have mm1 := hA.1
    have mm2 := hA.mm (by omega)
    refine j_iload C 7 d_Sv_learn_92 rfl ?_
    refine j_aload_n C 0 d_Sv_learn_94 rfl rfl ?_
    refine s_getA C L 3 (by decide) rfl d_Sv_learn_95 ?_
    refine j_iload C 5 d_Sv_learn_98 rfl ?_
    refine j_iconst C d_Sv_learn_100 ?_
    refine j_iadd C d_Sv_learn_101 ?_
    refine s_iald C L 3 618 (by decide) rfl rfl (B 3 (c + 1)) e3 (by omega) (by omega) d_Sv_learn_102 ?_
    refine j_icmp_ge (tgt := 207) C d_Sv_learn_103 (by decide) (rgi (by omega) (by omega)) (rgi (by omega) (by omega)) (fun x => ?_) (fun x => ?_)
    · refine kk S op k hB hA (fun μ hm => ?_) ?_
      · rcases hS μ hm with q | q | ⟨p, p1, p2, p3, p4⟩
        · exact Or.inl q
        · exact Or.inr (Or.inl q)
        · omega
      · rcases hop with z | ⟨p, p1, p2, p3⟩
        · exact z
        · omega
    · have lk := h.cl.lit hC.1 hC.2.1 q2 (by omega : k < B 3 (c + 1))
      have dis : ∀ p, k < p → p < B 3 (c + 1) → B 2 p / 2 ≠ B 2 k / 2 := fun p p1 p2 e => h.cl.2.2.2 c hC.1 hC.2.1 k p q2 p1 p2 e.symm
      have e12 : S 12 (B 2 k / 2) = B 12 (B 2 k / 2) := by rw [hB 12 (by decide) (by decide) (by decide)]
      have e17 : S 17 0 = B 17 0 := by rw [hB 17 (by decide) (by decide) (by decide)]
      have mk01 := hA.2.2.1 (B 2 k / 2) (by omega) (by omega)
      refine j_aload_n C 0 d_Sv_learn_106 rfl rfl ?_
      refine s_getA C L 2 (by decide) rfl d_Sv_learn_107 ?_
      refine j_iload C 7 d_Sv_learn_110 rfl ?_
      refine s_iald C L 2 9872 (by decide) rfl rfl (B 2 k) e2 (by omega) (by omega) d_Sv_learn_112 ?_
      refine j_iconst C d_Sv_learn_113 ?_
      refine j_ishr C d_Sv_learn_114 (jI_shr1 (by omega) (by omega)) ?_
      refine j_istore (lv' := [(0, .ref h0), (1, jv f), (2, jv m), (3, jv op), (4, jv a), (5, jv c), (6, jv fi), (7, jv k), (8, jv ((B 2 k) / 2))]) C d_Sv_learn_115 (by rw [hL]; decide) rfl rfl ?_
      refine j_iload C 8 d_Sv_learn_117 rfl ?_
      refine j_iload C 6 d_Sv_learn_119 rfl ?_
      refine j_icmp_eq (tgt := 201) C d_Sv_learn_121 (by decide) (rgi (by omega) (by omega)) (rgi (by omega) (by omega)) (fun y => ?_) (fun y => ?_)
      · refine j_iinc (lv' := [(0, .ref h0), (1, jv f), (2, jv m), (3, jv op), (4, jv a), (5, jv c), (6, jv fi), (7, jv (k + 1)), (8, jv ((B 2 k) / 2))]) C 7 d_Sv_learn_201 rfl (by rw [hL]; decide) rfl rfl ?_
        refine j_goto (tgt := 92) C d_Sv_learn_204 (by decide) ?_
        refine j_sub [0, 1, 2, 3, 4, 5, 6, 7] rfl ?_
        exact ih S op (k + 1) (by omega) (by omega) (by omega) hB hA (AS.skip h hA hC hS q2 (by omega) (Or.inl y)) (by
          rcases hop with z | ⟨p, p1, p2, p3, p4, p5⟩
          · exact Or.inl z
          · by_cases e : p = k
            · subst e; exact absurd y p3
            · exact Or.inr ⟨p, by omega, p2, p3, p4, p5⟩)
      · refine j_aload_n C 0 d_Sv_learn_124 rfl rfl ?_
        refine s_getA C L 22 (by decide) rfl d_Sv_learn_125 ?_
        refine j_iload C 8 d_Sv_learn_128 rfl ?_
        refine s_zald C L 22 16 (by decide) rfl rfl (S 22 ((B 2 k) / 2)) rfl (by omega) (by omega) d_Sv_learn_130 ?_
        refine j_if_ne (tgt := 201) C d_Sv_learn_131 (by decide) (rgi (by omega) (by omega)) (fun z1 => ?_) (fun z1 => ?_)
        · refine j_iinc (lv' := [(0, .ref h0), (1, jv f), (2, jv m), (3, jv op), (4, jv a), (5, jv c), (6, jv fi), (7, jv (k + 1)), (8, jv ((B 2 k) / 2))]) C 7 d_Sv_learn_201 rfl (by rw [hL]; decide) rfl rfl ?_
          refine j_goto (tgt := 92) C d_Sv_learn_204 (by decide) ?_
          refine j_sub [0, 1, 2, 3, 4, 5, 6, 7] rfl ?_
          exact ih S op (k + 1) (by omega) (by omega) (by omega) hB hA (AS.skip h hA hC hS q2 (by omega) (Or.inr (Or.inl (by omega)))) (by
            rcases hop with z | ⟨p, p1, p2, p3, p4, p5⟩
            · exact Or.inl z
            · by_cases e : p = k
              · subst e; omega
              · exact Or.inr ⟨p, by omega, p2, p3, p4, p5⟩)
        · have lvr : 0 ≤ B 12 (B 2 k / 2) ∧ B 12 (B 2 k / 2) ≤ B 17 0 := by
            obtain ⟨j, j1, j2, j3⟩ := hC.2.2 (B 2 k) ⟨k, q2, by omega, rfl⟩ y
            have ha2 := hA.2.1
            have := h.l.2.2.2 j j1 (by omega)
            rw [j3, ng_div] at this; exact ⟨this.1, this.2.1⟩
          refine j_aload_n C 0 d_Sv_learn_134 rfl rfl ?_
          refine s_getA C L 12 (by decide) rfl d_Sv_learn_135 ?_
          refine j_iload C 8 d_Sv_learn_138 rfl ?_
          refine s_iald C L 12 16 (by decide) rfl rfl (B 12 (B 2 k / 2)) e12 (by omega) (by omega) d_Sv_learn_140 ?_
          refine j_if_ne (tgt := 147) C d_Sv_learn_141 (by decide) (rgi (by omega) (by omega)) (fun z2 => ?_) (fun z2 => ?_)
          · refine j_aload_n C 0 d_Sv_learn_147 rfl rfl ?_
            refine s_getA C L 22 (by decide) rfl d_Sv_learn_148 ?_
            refine j_iload C 8 d_Sv_learn_151 rfl ?_
            refine j_iconst C d_Sv_learn_153 ?_
            refine s_zast C L 22 16 (by decide) rfl rfl (by omega) (by omega) (by omega) d_Sv_learn_154 ?_
            refine j_aload_n C 0 d_Sv_learn_155 rfl rfl ?_
            refine s_getA C L 12 (by decide) rfl d_Sv_learn_156 ?_
            refine j_iload C 8 d_Sv_learn_159 rfl ?_
            refine s_iald C L 12 16 (by decide) rfl rfl (B 12 (B 2 k / 2)) e12 (by omega) (by omega) d_Sv_learn_161 ?_
            refine j_aload_n C 0 d_Sv_learn_162 rfl rfl ?_
            refine s_get C L 17 (by decide) rfl (B 17 0) e17 d_Sv_learn_163 ?_
            refine j_icmp_ne (tgt := 175) C d_Sv_learn_166 (by decide) (rgi (by omega) (by omega)) (rgi (by omega) (by omega)) (fun z3 => ?_) (fun z3 => ?_)
            · refine j_aload_n C 0 d_Sv_learn_175 rfl rfl ?_
              refine s_getA C L 20 (by decide) rfl d_Sv_learn_176 ?_
              refine j_aload_n C 0 d_Sv_learn_179 rfl rfl ?_
              refine s_get C L 21 (by decide) rfl (S 21 0) rfl d_Sv_learn_180 ?_
              refine j_aload_n C 0 d_Sv_learn_183 rfl rfl ?_
              refine s_getA C L 2 (by decide) rfl d_Sv_learn_184 ?_
              refine j_iload C 7 d_Sv_learn_187 rfl ?_
              refine s_iald C L 2 9872 (by decide) rfl rfl (B 2 k) e2 (by omega) (by omega) d_Sv_learn_189 ?_
              refine s_iast C L 20 32 (by decide) rfl rfl (by omega) (by omega) d_Sv_learn_190 ?_
              refine j_aload_n C 0 d_Sv_learn_191 rfl rfl ?_
              refine j_dup C d_Sv_learn_192 rfl ?_
              refine s_get C L 21 (by decide) rfl (S 21 0) rfl d_Sv_learn_193 ?_
              refine j_iconst C d_Sv_learn_196 ?_
              refine j_iadd C d_Sv_learn_197 ?_
              refine s_put C L 21 (by decide) rfl rfl rfl d_Sv_learn_198 ?_
              refine j_iinc (lv' := [(0, .ref h0), (1, jv f), (2, jv m), (3, jv op), (4, jv a), (5, jv c), (6, jv fi), (7, jv (k + 1)), (8, jv ((B 2 k) / 2))]) C 7 d_Sv_learn_201 rfl (by rw [hL]; decide) rfl rfl ?_
              refine j_goto (tgt := 92) C d_Sv_learn_204 (by decide) ?_
              refine j_sub [0, 1, 2, 3, 4, 5, 6, 7] rfl ?_
              have hm1 := hA.made1 h hC hS q2 (by omega) y (by omega) z2 z3
              refine ih _ op (k + 1) (by omega) (by omega) (by omega) (fun j j20 j21 j22 => by rw [u2_n _ _ _ j21, u2_n _ _ _ j20, u2_n _ _ _ j22]; exact hB j j20 j21 j22) ?_ ?_ ?_
              · have e21 : up (S 21) 0 (S 21 0 + 1) 0 = S 21 0 + 1 := up_s _ _ _
                show AN B (up (S 20) (S 21 0) (B 2 k)) (up (S 21) 0 (S 21 0 + 1) 0) (up (S 22) (B 2 k / 2) 1) op a
                rw [e21]; exact hm1.1
              · have e21 : up (S 21) 0 (S 21 0 + 1) 0 = S 21 0 + 1 := up_s _ _ _
                show AS Mod B (up (S 20) (S 21 0) (B 2 k)) (up (S 21) 0 (S 21 0 + 1) 0) (up (S 22) (B 2 k / 2) 1) a _
                rw [e21]; exact hm1.2
              · rcases hop with z | ⟨p, p1, p2, p3, p4, p5⟩
                · exact Or.inl z
                · by_cases e : p = k
                  · subst e; exact absurd p4 z3
                  · refine Or.inr ⟨p, by omega, p2, p3, p4, ?_⟩
                    show up (S 22) (B 2 k / 2) 1 (B 2 p / 2) ≠ 1
                    rw [up_n _ _ (dis p (by omega) p2)]; exact p5
            · refine j_iinc (lv' := [(0, .ref h0), (1, jv f), (2, jv m), (3, jv (op + 1)), (4, jv a), (5, jv c), (6, jv fi), (7, jv k), (8, jv ((B 2 k) / 2))]) C 3 d_Sv_learn_169 rfl (by rw [hL]; decide) rfl rfl ?_
              refine j_goto (tgt := 201) C d_Sv_learn_172 (by decide) ?_
              refine j_iinc (lv' := [(0, .ref h0), (1, jv f), (2, jv m), (3, jv (op + 1)), (4, jv a), (5, jv c), (6, jv fi), (7, jv (k + 1)), (8, jv ((B 2 k) / 2))]) C 7 d_Sv_learn_201 rfl (by rw [hL]; decide) rfl rfl ?_
              refine j_goto (tgt := 92) C d_Sv_learn_204 (by decide) ?_
              refine j_sub [0, 1, 2, 3, 4, 5, 6, 7] rfl ?_
              have hm1 := hA.open1 h hC hS q2 (by omega) y (by omega) z2 z3
              have o0 := cnt_nn (mkd B (S 22)) a.toNat (fun j _ _ => by unfold mkd; split <;> omega)
              have o1 := hA.2.2.2.2.2.2
              exact ih _ (op + 1) (k + 1) (by omega) (by omega) (by omega) (fun j j20 j21 j22 => by rw [u2_n _ _ _ j22]; exact hB j j20 j21 j22) hm1.1 hm1.2 (Or.inl (by omega))
          · refine j_goto (tgt := 201) C d_Sv_learn_144 (by decide) ?_
            refine j_iinc (lv' := [(0, .ref h0), (1, jv f), (2, jv m), (3, jv op), (4, jv a), (5, jv c), (6, jv fi), (7, jv (k + 1)), (8, jv ((B 2 k) / 2))]) C 7 d_Sv_learn_201 rfl (by rw [hL]; decide) rfl rfl ?_
            refine j_goto (tgt := 92) C d_Sv_learn_204 (by decide) ?_
            refine j_sub [0, 1, 2, 3, 4, 5, 6, 7] rfl ?_
            exact ih S op (k + 1) (by omega) (by omega) (by omega) hB hA (AS.skip h hA hC hS q2 (by omega) (Or.inr (Or.inr z2))) (by
              rcases hop with z | ⟨p, p1, p2, p3, p4, p5⟩
              · exact Or.inl z
              · by_cases e : p = k
                · subst e; omega
                · exact Or.inr ⟨p, by omega, p2, p3, p4, p5⟩)
theorem lp_lrnC {K : Cx} {h0 : Nat} {ad : Nat → Nat} {cA : Nat → ClassId} (C : Ok K R_Sv b_Sv_learn) (hR : xR K = rmL 5) (ht : xt K = sty cA) (hL : xL K = 10) (hcs : xn K ≤ (xR K).cells ∧ xk K ≤ (xR K).slots) (Mod : (Int → Bool) → Prop) (B S : Sv) (Dn f m a c fi op k : Int) (h : Iv Mod B Dn 0 []) (hB : (∀ k, k ≠ 20 → k ≠ 21 → k ≠ 22 → S k = B k)) (hA : AN B (S 20) (S 21 0) (S 22) op a) (hop : 0 < op) (kk : ∀ x, 0 ≤ x → x < a → S 22 (B 14 x / 2) = 1 → (∀ j, x < j → j < a → S 22 (B 14 j / 2) ≠ 1) → J K (sw h0 ad cA S) 233 [(0, .ref h0), (1, jv f), (2, jv m), (3, jv op), (4, jv x), (5, jv c), (6, jv fi), (7, jv k)] []) :
    ∀ (n : Nat) (x : Int), x < n → x < a → (∀ j, x < j → j < a → S 22 (B 14 j / 2) ≠ 1) → J K (sw h0 ad cA S) 210 [(0, .ref h0), (1, jv f), (2, jv m), (3, jv op), (4, jv x), (5, jv c), (6, jv fi), (7, jv k)] [] := by
  have L := Ln_Sv (h0 := h0) (ad := ad) ht
  have rn := h.rng
  have hn := h.n
  have ha2 := hA.2.1
  have e14 : S 14 = B 14 := hB 14 (by decide) (by decide) (by decide)
  obtain ⟨i, i1, i2, i3⟩ : ∃ i, 0 ≤ i ∧ i < a ∧ S 22 (B 14 i / 2) = 1 := by
    have o1 := hA.2.2.2.2.2.2
    rw [o1] at hop
    obtain ⟨i, i1, i2, i3⟩ := cnt_ex _ _ hop
    refine ⟨i, i1, by omega, ?_⟩
    unfold mkd at i3; split at i3
    · rename_i z; exact z.1
    · omega
  intro n
  induction n with
  | zero =>
    intro x q1 q2 q3
    exact absurd i3 (q3 i (by omega) i2)
  | succ n ih =>
    intro x q1 q2 q3
    have ix : i ≤ x := by
      rcases Int.lt_or_le x i with z | z
      · exact absurd i3 (q3 i z i2)
      · exact z
    have htx := h.a.2.1 x (by omega) (by omega)
    have mk01 := hA.2.2.1 (B 14 x / 2) (by omega) (by omega)
    refine j_aload_n C 0 d_Sv_learn_210 rfl rfl ?_
    refine s_getA C L 22 (by decide) rfl d_Sv_learn_211 ?_
    refine j_aload_n C 0 d_Sv_learn_214 rfl rfl ?_
    refine s_getA C L 14 (by decide) rfl d_Sv_learn_215 ?_
    refine j_iload C 4 d_Sv_learn_218 rfl ?_
    refine s_iald C L 14 16 (by decide) rfl rfl (B 14 x) (by rw [e14]) (by omega) (by omega) d_Sv_learn_220 ?_
    refine j_iconst C d_Sv_learn_221 ?_
    refine j_ishr C d_Sv_learn_222 (jI_shr1 (by omega) (by omega)) ?_
    refine s_zald C L 22 16 (by decide) rfl rfl (S 22 ((B 14 x) / 2)) rfl (by omega) (by omega) d_Sv_learn_223 ?_
    refine j_if_ne (tgt := 233) C d_Sv_learn_224 (by decide) (rgi (by omega) (by omega)) (fun y => ?_) (fun y => ?_)
    · exact kk x (by omega) q2 (by omega) q3
    · refine j_iinc (lv' := [(0, .ref h0), (1, jv f), (2, jv m), (3, jv op), (4, jv (x + (-1))), (5, jv c), (6, jv fi), (7, jv k)]) C 4 d_Sv_learn_227 rfl (by rw [hL]; decide) rfl rfl ?_
      refine j_goto (tgt := 210) C d_Sv_learn_230 (by decide) ?_
      exact ih (x + (-1)) (by omega) (by omega) (fun j j1 j2 => by
        by_cases e : j = x
        · rw [e]; omega
        · exact q3 j (by omega) j2)
theorem lp_lrnA {K : Cx} {h0 : Nat} {ad : Nat → Nat} {cA : Nat → ClassId} (C : Ok K R_Sv b_Sv_learn) (hR : xR K = rmL 5) (ht : xt K = sty cA) (hL : xL K = 10) (hcs : xn K ≤ (xR K).cells ∧ xk K ≤ (xR K).slots) (Mod : (Int → Bool) → Prop) (B : Sv) (Dn f m : Int) (h : Iv Mod B Dn 0 []) (hl0 : 0 < B 17 0) (kk : ∀ (S : Sv) (op x : Int), (∀ k, k ≠ 20 → k ≠ 21 → k ≠ 22 → S k = B k) → (0 ≤ x ∧ x < B 16 0) → B 12 (B 14 x / 2) = B 17 0 → Ld Mod B (up (S 20) 0 (ng (B 14 x))) (S 21 0) x → J K (sw h0 ad cA S) 260 [(0, .ref h0), (1, jv f), (2, jv m), (3, jv op), (4, jv x)] []) :
    ∀ (n : Nat) (S : Sv) (op a c fi : Int), a < n → (∀ k, k ≠ 20 → k ≠ 21 → k ≠ 22 → S k = B k) → (-1 ≤ fi ∧ fi < 16) → AN B (S 20) (S 21 0) (S 22) op a → RC B c fi a → AS Mod B (S 20) (S 21 0) (S 22) a (rest_ B c fi (B 3 c)) → (0 < op ∨ ∃ p, B 3 c ≤ p ∧ p < B 3 (c + 1) ∧ B 2 p / 2 ≠ fi ∧ B 12 (B 2 p / 2) = B 17 0 ∧ S 22 (B 2 p / 2) ≠ 1) → J K (sw h0 ad cA S) 83 [(0, .ref h0), (1, jv f), (2, jv m), (3, jv op), (4, jv a), (5, jv c), (6, jv fi)] [] := by
  have L := Ln_Sv (h0 := h0) (ad := ad) ht
  have rn := h.rng
  have hn := h.n
  intro n
  induction n with
  | zero => intro S op a c fi q1 hB hfi hA; have := hA.2.1; omega
  | succ n ih =>
    intro S op a c fi q1 hB hfi hA hC hS hop
    have ha2 := hA.2.1
    have hc1 := hC.1
    have hc2 := hC.2.1
    have zc := h.cl.at hC.1 hC.2.1
    have e3 : S 3 c = B 3 c := by rw [hB 3 (by decide) (by decide) (by decide)]
    refine j_aload_n C 0 d_Sv_learn_83 rfl rfl ?_
    refine s_getA C L 3 (by decide) rfl d_Sv_learn_84 ?_
    refine j_iload C 5 d_Sv_learn_87 rfl ?_
    refine s_iald C L 3 618 (by decide) rfl rfl (B 3 c) e3 (by omega) (by omega) d_Sv_learn_89 ?_
    refine j_istore (lv' := [(0, .ref h0), (1, jv f), (2, jv m), (3, jv op), (4, jv a), (5, jv c), (6, jv fi), (7, jv (B 3 c))]) C d_Sv_learn_90 (by rw [hL]; decide) rfl rfl ?_
    refine lp_lrnB C hR ht hL hcs Mod B Dn f m a c fi h hfi hl0 hC (fun S1 op1 k hB1 hA1 hS1 hop1 => ?_) (B 3 (c + 1) - B 3 c).toNat.succ S op (B 3 c) (by omega) (Int.le_refl _) (by omega) hB hA hS hop
    refine j_iinc (lv' := [(0, .ref h0), (1, jv f), (2, jv m), (3, jv op1), (4, jv (a + (-1))), (5, jv c), (6, jv fi), (7, jv k)]) C 4 d_Sv_learn_207 rfl (by rw [hL]; decide) rfl rfl ?_
    refine lp_lrnC C hR ht hL hcs Mod B S1 Dn f m a c fi op1 k h hB1 hA1 hop1 (fun x x0 x1 xm hno => ?_) a.toNat.succ (a + (-1)) (by omega) (by omega) (fun j j1 j2 => by omega)
    have hfd := hA1.found h hop1 x0 x1 xm hno
    have htx := h.a.2.1 x x0 (by omega)
    have e14 : S1 14 x = B 14 x := by rw [hB1 14 (by decide) (by decide) (by decide)]
    have e13 : S1 13 (B 14 x / 2) = B 13 (B 14 x / 2) := by rw [hB1 13 (by decide) (by decide) (by decide)]
    have o2 := hA1.2.2.2.2.2.2
    have o3 := cnt_le (mkd B (S1 22)) (fun j _ => by unfold mkd; split <;> omega) a.toNat
    refine j_aload_n C 0 d_Sv_learn_233 rfl rfl ?_
    refine s_getA C L 14 (by decide) rfl d_Sv_learn_234 ?_
    refine j_iload C 4 d_Sv_learn_237 rfl ?_
    refine s_iald C L 14 16 (by decide) rfl rfl (B 14 x) e14 (by omega) (by omega) d_Sv_learn_239 ?_
    refine j_iconst C d_Sv_learn_240 ?_
    refine j_ishr C d_Sv_learn_241 (jI_shr1 (by omega) (by omega)) ?_
    refine j_istore (lv' := [(0, .ref h0), (1, jv f), (2, jv m), (3, jv op1), (4, jv x), (5, jv c), (6, jv ((B 14 x) / 2)), (7, jv k)]) C d_Sv_learn_242 (by rw [hL]; decide) rfl rfl ?_
    refine j_aload_n C 0 d_Sv_learn_244 rfl rfl ?_
    refine s_getA C L 13 (by decide) rfl d_Sv_learn_245 ?_
    refine j_iload C 6 d_Sv_learn_248 rfl ?_
    refine s_iald C L 13 16 (by decide) rfl rfl (B 13 (B 14 x / 2)) e13 (by omega) (by omega) d_Sv_learn_250 ?_
    refine j_istore (lv' := [(0, .ref h0), (1, jv f), (2, jv m), (3, jv op1), (4, jv x), (5, jv (B 13 (B 14 x / 2))), (6, jv ((B 14 x) / 2)), (7, jv k)]) C d_Sv_learn_251 (by rw [hL]; decide) rfl rfl ?_
    refine j_iinc (lv' := [(0, .ref h0), (1, jv f), (2, jv m), (3, jv (op1 + (-1))), (4, jv x), (5, jv (B 13 (B 14 x / 2))), (6, jv ((B 14 x) / 2)), (7, jv k)]) C 3 d_Sv_learn_253 rfl (by rw [hL]; decide) rfl rfl ?_
    refine j_iload_n C 3 d_Sv_learn_256 rfl rfl ?_
    refine j_if_gt (tgt := 83) C d_Sv_learn_257 (by decide) (rgi (by omega) (by omega)) (fun y => ?_) (fun y => ?_)
    · refine j_sub [0, 1, 2, 3, 4, 5, 6] rfl ?_
      have hnx := hA1.next h hS1 x0 x1 hno hfd.1 hfd.2 (by omega)
      exact ih S1 (op1 + (-1)) x (B 13 (B 14 x / 2)) (B 14 x / 2) (by omega) hB1 (by omega) (by rw [show op1 + (-1) = op1 - 1 by omega]; exact hfd.2) hnx.1 hnx.2 (Or.inl y)
    · refine j_sub [0, 1, 2, 3, 4] rfl ?_
      exact kk S1 (op1 + (-1)) x hB1 ⟨x0, by omega⟩ hfd.1 (hA1.lesson h hS1 x0 x1 hno hfd.2 (by omega))
theorem lp_lrnD {K : Cx} {h0 : Nat} {ad : Nat → Nat} {cA : Nat → ClassId} (C : Ok K R_Sv b_Sv_learn) (hR : xR K = rmL 5) (ht : xt K = sty cA) (hL : xL K = 10) (hcs : xn K ≤ (xR K).cells ∧ xk K ≤ (xR K).slots) (Mod : (Int → Bool) → Prop) (B : Sv) (Dn f m op x : Int) (h : Iv Mod B Dn 0 []) (hl0 : 0 < B 17 0) (kk : ∀ (S : Sv) (to k : Int), (∀ k, k ≠ 20 → k ≠ 21 → k ≠ 22 → S k = B k) → Ld Mod B (S 20) (S 21 0) x → 0 ≤ to → to < B 17 0 → (∀ i, 1 ≤ i → i < S 21 0 → B 12 (S 20 i / 2) ≤ to) → (S 21 0 = 1 → to = 0) → (1 < S 21 0 → B 12 (S 20 1 / 2) = to) → J K (sw h0 ad cA S) 364 [(0, .ref h0), (1, jv f), (2, jv m), (3, jv op), (4, jv x), (7, jv to), (8, jv k)] []) :
    ∀ (n : Nat) (S : Sv) (to k : Int), S 21 0 - k < n → 1 ≤ k → k ≤ S 21 0 → S 21 0 ≤ 17 → (∀ k, k ≠ 20 → k ≠ 21 → k ≠ 22 → S k = B k) → Ld Mod B (S 20) (S 21 0) x → 0 ≤ to → to < B 17 0 → (∀ i, 1 ≤ i → i < k → B 12 (S 20 i / 2) ≤ to) → (k = 1 → to = 0) → (1 < k → B 12 (S 20 1 / 2) = to) → J K (sw h0 ad cA S) 281 [(0, .ref h0), (1, jv f), (2, jv m), (3, jv op), (4, jv x), (7, jv to), (8, jv k)] [] := by
  have L := Ln_Sv (h0 := h0) (ad := ad) ht
  have rn := h.rng
  have hn := h.n
  intro n
  induction n with
  | zero => intro S to k q1; omega
  | succ n ih =>
    intro S to k q1 q2 q3 q4 hB hd t0 t1 g1 g2 g3
    have e12 : S 12 = B 12 := hB 12 (by decide) (by decide) (by decide)
    refine j_iload C 6 d_Sv_learn_281 rfl ?_
    refine j_aload_n C 0 d_Sv_learn_283 rfl rfl ?_
    refine s_get C L 21 (by decide) rfl (S 21 0) rfl d_Sv_learn_284 ?_
    refine j_icmp_ge (tgt := 364) C d_Sv_learn_287 (by decide) (rgi (by omega) (by omega)) (rgi (by omega) (by omega)) (fun y => ?_) (fun y => ?_)
    · exact kk S to k hB hd t0 t1 (fun i i1 i2 => g1 i i1 (by omega)) (fun e => g2 (by omega)) (fun e => g3 (by omega))
    · have dk := hd.2.2.1 k q2 (by omega)
      have dk1 := dk.2.2.1
      have dk2 := dk.2.2.2.1
      have dk3 := dk.1
      have dk4 := dk.2.1
      clear dk
      refine j_aload_n C 0 d_Sv_learn_290 rfl rfl ?_
      refine s_getA C L 12 (by decide) rfl d_Sv_learn_291 ?_
      refine j_aload_n C 0 d_Sv_learn_294 rfl rfl ?_
      refine s_getA C L 20 (by decide) rfl d_Sv_learn_295 ?_
      refine j_iload C 6 d_Sv_learn_298 rfl ?_
      refine s_iald C L 20 32 (by decide) rfl rfl (S 20 k) rfl (by omega) (by omega) d_Sv_learn_300 ?_
      refine j_iconst C d_Sv_learn_301 ?_
      refine j_ishr C d_Sv_learn_302 (jI_shr1 (by omega) (by omega)) ?_
      refine s_iald C L 12 16 (by decide) rfl rfl (B 12 (S 20 k / 2)) (by rw [e12]) (by omega) (by omega) d_Sv_learn_303 ?_
      refine j_iload C 5 d_Sv_learn_304 rfl ?_
      refine j_icmp_gt (tgt := 312) C d_Sv_learn_306 (by decide) (rgi (by omega) (by omega)) (rgi (by omega) (by omega)) (fun z => ?_) (fun z => ?_)
      · refine j_aload_n C 0 d_Sv_learn_312 rfl rfl ?_
        refine s_getA C L 12 (by decide) rfl d_Sv_learn_313 ?_
        refine j_aload_n C 0 d_Sv_learn_316 rfl rfl ?_
        refine s_getA C L 20 (by decide) rfl d_Sv_learn_317 ?_
        refine j_iload C 6 d_Sv_learn_320 rfl ?_
        refine s_iald C L 20 32 (by decide) rfl rfl (S 20 k) rfl (by omega) (by omega) d_Sv_learn_322 ?_
        refine j_iconst C d_Sv_learn_323 ?_
        refine j_ishr C d_Sv_learn_324 (jI_shr1 (by omega) (by omega)) ?_
        refine s_iald C L 12 16 (by decide) rfl rfl (B 12 (S 20 k / 2)) (by rw [e12]) (by omega) (by omega) d_Sv_learn_325 ?_
        refine j_istore (lv' := [(0, .ref h0), (1, jv f), (2, jv m), (3, jv op), (4, jv x), (7, jv (B 12 (S 20 k / 2))), (8, jv k)]) C d_Sv_learn_326 (by rw [hL]; decide) rfl rfl ?_
        refine j_aload_n C 0 d_Sv_learn_328 rfl rfl ?_
        refine s_getA C L 20 (by decide) rfl d_Sv_learn_329 ?_
        refine j_iload C 6 d_Sv_learn_332 rfl ?_
        refine s_iald C L 20 32 (by decide) rfl rfl (S 20 k) rfl (by omega) (by omega) d_Sv_learn_334 ?_
        refine j_istore (lv' := [(0, .ref h0), (1, jv f), (2, jv m), (3, jv op), (4, jv x), (7, jv (B 12 (S 20 k / 2))), (8, jv k), (9, jv (S 20 k))]) C d_Sv_learn_335 (by rw [hL]; decide) rfl rfl ?_
        refine j_aload_n C 0 d_Sv_learn_337 rfl rfl ?_
        refine s_getA C L 20 (by decide) rfl d_Sv_learn_338 ?_
        refine j_iload C 6 d_Sv_learn_341 rfl ?_
        refine j_aload_n C 0 d_Sv_learn_343 rfl rfl ?_
        refine s_getA C L 20 (by decide) rfl d_Sv_learn_344 ?_
        refine j_iconst C d_Sv_learn_347 ?_
        refine s_iald C L 20 32 (by decide) rfl rfl (S 20 1) rfl (by omega) (by omega) d_Sv_learn_348 ?_
        refine s_iast C L 20 32 (by decide) rfl rfl (by omega) (by omega) d_Sv_learn_349 ?_
        refine j_aload_n C 0 d_Sv_learn_350 rfl rfl ?_
        refine s_getA C L 20 (by decide) rfl d_Sv_learn_351 ?_
        refine j_iconst C d_Sv_learn_354 ?_
        refine j_iload C 7 d_Sv_learn_355 rfl ?_
        refine s_iast C L 20 32 (by decide) rfl rfl (by omega) (by omega) d_Sv_learn_357 ?_
        refine j_iinc (lv' := [(0, .ref h0), (1, jv f), (2, jv m), (3, jv op), (4, jv x), (7, jv (B 12 (S 20 k / 2))), (8, jv (k + 1)), (9, jv (S 20 k))]) C 6 d_Sv_learn_358 rfl (by rw [hL]; decide) rfl rfl ?_
        refine j_goto (tgt := 281) C d_Sv_learn_361 (by decide) ?_
        refine j_sub [0, 1, 2, 3, 4, 5, 6] rfl ?_
        refine ih _ (B 12 (S 20 k / 2)) (k + 1) (show S 21 0 - _ < _ by omega) (by omega) (show _ ≤ S 21 0 by omega) q4 (fun j j20 j21 j22 => by rw [u2_n _ _ _ j20, u2_n _ _ _ j20]; exact hB j j20 j21 j22) ?_ (by omega) (by omega) (fun i i1 i2 => ?_) (fun e => by omega) (fun _ => ?_)
        · have := hd.swp (x := k) (y := 1) ⟨q2, by omega⟩ ⟨by omega, by omega⟩
          exact this
        · show B 12 (swp (S 20) k 1 i / 2) ≤ _
          by_cases e1 : i = 1
          · rw [e1, swp_b]; exact Int.le_refl _
          · by_cases e2 : i = k
            · rw [e2, swp_a]; have := g1 1 (by omega) (by omega); omega
            · rw [swp_o _ e2 e1]; have := g1 i i1 (by omega); omega
        · show B 12 (swp (S 20) k 1 1 / 2) = _
          rw [swp_b]
      · refine j_goto (tgt := 358) C d_Sv_learn_309 (by decide) ?_
        refine j_iinc (lv' := [(0, .ref h0), (1, jv f), (2, jv m), (3, jv op), (4, jv x), (7, jv to), (8, jv (k + 1))]) C 6 d_Sv_learn_358 rfl (by rw [hL]; decide) rfl rfl ?_
        refine j_goto (tgt := 281) C d_Sv_learn_361 (by decide) ?_
        exact ih S to (k + 1) (by omega) (by omega) (by omega) q4 hB hd t0 t1 (fun i i1 i2 => by
          by_cases e : i = k
          · rw [e]; omega
          · exact g1 i i1 (by omega)) (fun e => by omega) (fun _ => by
          by_cases e : k = 1
          · exfalso; have := g2 e; omega
          · exact g3 (by omega))
theorem c_Sv_learn (l : Launch) (D : va_G) (h0 : Nat) (ad : Nat → Nat) (cA : Nat → ClassId) (Mod : (Int → Bool) → Prop) (S : Sv) (f : Int) (h : Iv Mod S (if 0 < S 17 0 then S 15 (S 17 0 - 1) else 0) 0 []) (f0 : 0 ≤ f) (f1 : f < S 6 0) (hf : ∀ l, Inc (S 2) (S 3) f l → vOf (S 11) l < 0) : CI l y_Sv_learn b_Sv_learn 10 (some .boolean) 5 D (sty cA) [.ref h0, jv f] (sw h0 ad cA) S (fun z u => LZ Mod S z u) := by
  refine CI.of (by decide) (Nat.le_of_ble_eq_true rfl) (fun K C hR ht hL hcs Z => ?_)
  have C : Ok K R_Sv b_Sv_learn := C
  have L := Ln_Sv (h0 := h0) (ad := ad) ht
  show J K (sw h0 ad cA S) 0 [(0, .ref h0), (1, jv f)] []
  have rn := h.rng
  have hn := h.n
  have zf := h.cl.at f0 f1
  have hff : ∀ l, Inc (S 2) (S 3) f l → ∃ j, 0 ≤ j ∧ j < S 16 0 ∧ S 14 j = ng l := fun l hl => by
    have hl' := hl
    obtain ⟨p, p1, p2, p3⟩ := hl'
    have lr := h.cl.lit f0 f1 p1 p2
    rw [p3] at lr
    exact (h.a.f lr.1 lr.2).mp (hf l hl)
  refine j_iconst C d_Sv_learn_0 ?_
  refine j_istore_n (lv' := [(0, .ref h0), (1, jv f), (2, jv 0)]) C d_Sv_learn_1 rfl (by rw [hL]; decide) rfl rfl ?_
  refine j_aload_n C 0 d_Sv_learn_2 rfl rfl ?_
  refine s_getA C L 3 (by decide) rfl d_Sv_learn_3 ?_
  refine j_iload_n C 1 d_Sv_learn_6 rfl rfl ?_
  refine s_iald C L 3 618 (by decide) rfl rfl (S 3 f) rfl (by omega) (by omega) d_Sv_learn_7 ?_
  refine j_istore_n (lv' := [(0, .ref h0), (1, jv f), (2, jv 0), (3, jv (S 3 f))]) C d_Sv_learn_8 rfl (by rw [hL]; decide) rfl rfl ?_
  refine lp_lrn1 C hR ht hL hcs Mod S _ f h f0 f1 hff (fun m k m0 m1 hall hex => ?_) (S 3 (f + 1) - S 3 f).toNat.succ 0 (S 3 f) (by omega) (Int.le_refl _) (by omega) (by omega) rn.2.2.2.2.2.2.1 (fun p p1 p2 => by omega) (Or.inl rfl)
  refine j_aload_n C 0 d_Sv_learn_45 rfl rfl ?_
  refine j_iload_n C 2 d_Sv_learn_46 rfl rfl ?_
  refine j_callV (wr := []) (As := [jv m]) (rest := []) (w := sw h0 ad cA) (u0 := S) C (c_Sv_back _ _ h0 ad cA S hn.2 h.a h.l m m0 (by omega)) (by rw [ht]; exact fun _ h => h) lk_Sv_123 rfl (q0 := 0) rfl rfl (by rw [hR]; decide) hcs d_Sv_learn_47 rfl (Nat.le_of_ble_eq_true rfl) (fun B0 hb => ?_)
  have e17 : B0 17 0 = m := by rw [hb.2.1]; split <;> omega
  have h0' : Iv Mod B0 (if 0 < B0 17 0 then B0 15 (B0 17 0 - 1) else 0) 0 [] := by
    have e15 : B0 15 = S 15 := hb.1 15 (by decide) (by decide) (by decide) (by decide)
    refine h.back hb m0 ?_ ?_
    · rw [e15, e17]
      by_cases q : 0 < m
      · rw [if_pos q, if_pos (by omega)]
        exact h.l.beg_le (by omega) (by omega) (by omega)
      · rw [if_neg q]; split
        · exact (h.l.2.1 _ (by omega) (by omega)).1
        · exact Int.le_refl _
    · rw [e15, e17, hb.2.2.1]
      by_cases q : 0 < m
      · rw [if_pos q]
        split
        · have := h.l.2.2.1 (m - 1) m (by omega) (by omega) (by omega); omega
        · have := h.l.2.1 (m - 1) (by omega) (by omega); omega
      · rw [if_neg q]; split
        · exact (h.l.2.1 _ m0 (by omega)).1
        · exact rn.2.2.2.2.1
  have s2 : B0 2 = S 2 := hb.1 2 (by decide) (by decide) (by decide) (by decide)
  have s3 : B0 3 = S 3 := hb.1 3 (by decide) (by decide) (by decide) (by decide)
  have s6 : B0 6 = S 6 := hb.1 6 (by decide) (by decide) (by decide) (by decide)
  have s12 : B0 12 = S 12 := hb.1 12 (by decide) (by decide) (by decide) (by decide)
  have hf0 : ∀ l, Inc (B0 2) (B0 3) f l → ∃ j, 0 ≤ j ∧ j < B0 16 0 ∧ B0 14 j = ng l := fun l hl => by
    rw [s2, s3] at hl
    obtain ⟨j, j1, j2, j3⟩ := hff l hl
    have q := back_fal h hb m0 j1 j2 j3 (hall l hl)
    exact ⟨j, j1, q.1, q.2⟩
  have rn0 := h0'.rng
  refine j_iload_n C 2 d_Sv_learn_50 rfl rfl ?_
  refine j_if_ne (tgt := 56) C d_Sv_learn_51 (by decide) (rgi (by omega) (by omega)) (fun y => ?_) (fun y => ?_)
  · have hl0 : 0 < B0 17 0 := by omega
    rw [if_pos hl0] at h0'
    refine j_aload_n C 0 d_Sv_learn_56 rfl rfl ?_
    refine s_getA C L 22 (by decide) rfl d_Sv_learn_57 ?_
    refine j_iconst C d_Sv_learn_60 ?_
    refine s_fill22 C ht (Or.inl rfl) (by rw [hR]; decide) hcs d_Sv_learn_61 (Nat.le_of_ble_eq_true rfl) ?_
    refine j_aload_n C 0 d_Sv_learn_64 rfl rfl ?_
    refine j_iconst C d_Sv_learn_65 ?_
    refine s_put C L 21 (by decide) rfl rfl rfl d_Sv_learn_66 ?_
    refine j_iconst C d_Sv_learn_69 ?_
    refine j_istore_n (lv' := [(0, .ref h0), (1, jv f), (2, jv m), (3, jv 0)]) C d_Sv_learn_70 rfl (by rw [hL]; decide) rfl rfl ?_
    refine j_aload_n C 0 d_Sv_learn_71 rfl rfl ?_
    refine s_get C L 16 (by decide) rfl (B0 16 0) rfl d_Sv_learn_72 ?_
    refine j_istore (lv' := [(0, .ref h0), (1, jv f), (2, jv m), (3, jv 0), (4, jv (B0 16 0))]) C d_Sv_learn_75 (by rw [hL]; decide) rfl rfl ?_
    refine j_iload_n C 1 d_Sv_learn_77 rfl rfl ?_
    refine j_istore (lv' := [(0, .ref h0), (1, jv f), (2, jv m), (3, jv 0), (4, jv (B0 16 0)), (5, jv f)]) C d_Sv_learn_78 (by rw [hL]; decide) rfl rfl ?_
    refine j_iconst C d_Sv_learn_80 ?_
    refine j_istore (lv' := [(0, .ref h0), (1, jv f), (2, jv m), (3, jv 0), (4, jv (B0 16 0)), (5, jv f), (6, jv (-1))]) C d_Sv_learn_81 (by rw [hL]; decide) rfl rfl ?_
    have mk0 : ∀ v, 0 ≤ v → v < 16 → (u2 (uA B0 22 (flt (B0 22) 16 0)) 21 0 1) 22 v = 0 := fun v a b => by
      show flt (B0 22) 16 0 v = 0
      unfold flt; rw [if_pos ⟨a, b⟩]
    have e21 : (u2 (uA B0 22 (flt (B0 22) 16 0)) 21 0 1) 21 0 = 1 := u2_ss _ _ _ _
    have mkd0 : cnt (mkd B0 ((u2 (uA B0 22 (flt (B0 22) 16 0)) 21 0 1) 22)) (B0 16 0).toNat = 0 := by
      rw [cnt_congr _ (fun _ => 0) _ (fun j a b => ?_)]
      · exact (by intro n; induction n with
          | zero => rfl
          | succ n ih => simp only [cnt]; omega : ∀ n : Nat, cnt (fun _ => 0) n = 0) _
      · have tj := h0'.a.2.1 j a (by omega)
        unfold mkd
        rw [mk0 _ (by omega) (by have := h0'.n; omega), if_neg (fun q => absurd q.1 (by decide))]
    have hA : AN B0 ((u2 (uA B0 22 (flt (B0 22) 16 0)) 21 0 1) 20) ((u2 (uA B0 22 (flt (B0 22) 16 0)) 21 0 1) 21 0) ((u2 (uA B0 22 (flt (B0 22) 16 0)) 21 0 1) 22) 0 (B0 16 0) := by
      rw [e21]
      exact ⟨by omega, ⟨rn0.2.2.2.2.1, Int.le_refl _⟩, fun v a b => Or.inl (mk0 v a b), fun v a b q => (by rw [mk0 v a (by have := h0'.n; omega)] at q; omega), fun k a b => by omega, fun j k a b c => by omega, mkd0.symm⟩
    have hCr : RC B0 f (-1) (B0 16 0) := ⟨f0, by rw [s6]; exact f1, fun l hl _ => hf0 l hl⟩
    have hAS : AS Mod B0 ((u2 (uA B0 22 (flt (B0 22) 16 0)) 21 0 1) 20) ((u2 (uA B0 22 (flt (B0 22) 16 0)) 21 0 1) 21 0) ((u2 (uA B0 22 (flt (B0 22) 16 0)) 21 0 1) 22) (B0 16 0) (rest_ B0 f (-1) (B0 3 f)) := fun μ hm => by
      obtain ⟨l, ⟨p, p1, p2, p3⟩, ls⟩ := h0'.s.1 μ hm f f0 (by rw [s6]; exact f1)
      have lr := h0'.cl.lit f0 (by rw [s6]; exact f1) p1 p2
      exact Or.inr (Or.inr ⟨p, p1, p2, by omega, by rw [p3]; exact ls⟩)
    refine lp_lrnA C hR ht hL hcs Mod B0 _ f m h0' hl0 (fun S2 op x hB hx hlev hld => ?_) (B0 16 0).toNat.succ _ 0 (B0 16 0) f (-1) (by omega) (fun k k20 k21 k22 => ?_) (by omega) hA hCr hAS (Or.inr ?_)
    rotate_left
    · show u2 (uA B0 22 (flt (B0 22) 16 0)) 21 0 1 k = B0 k
      rw [u2_n _ _ _ k21]
      show (if k = 22 then _ else B0 k) = B0 k
      rw [if_neg k22]
    · rcases hex with z | ⟨l, hl, hle⟩
      · omega
      · rw [← s2, ← s3] at hl
        obtain ⟨p, p1, p2, p3⟩ := hl
        have lr := h0'.cl.lit f0 (by rw [s6]; exact f1) p1 p2
        refine ⟨p, p1, p2, by omega, by rw [p3, s12, hle, e17], ?_⟩
        rw [mk0 _ (by omega) (by have := h0'.n; omega)]; decide
    have e14 : S2 14 x = B0 14 x := by rw [hB 14 (by decide) (by decide) (by decide)]
    have htx := h0'.a.2.1 x hx.1 hx.2
    have hn0 := h0'.n
    have m17 : S2 21 0 ≤ 17 := by
      have := pigZ (n := B0 0 0) (m := S2 21 0 - 1) (f := fun i => up (S2 20) 0 (ng (B0 14 x)) (i + 1) / 2) (by omega) (fun i a b => by
        have := hld.2.2.1 (i + 1) (by omega) (by omega)
        show 0 ≤ up (S2 20) 0 (ng (B0 14 x)) (i + 1) / 2 ∧ up (S2 20) 0 (ng (B0 14 x)) (i + 1) / 2 < B0 0 0; omega) (fun i j a b c => hld.2.2.2.1 (i + 1) (j + 1) (by omega) (by omega) (by omega))
      omega
    refine j_aload_n C 0 d_Sv_learn_260 rfl rfl ?_
    refine s_getA C L 20 (by decide) rfl d_Sv_learn_261 ?_
    refine j_iconst C d_Sv_learn_264 ?_
    refine j_aload_n C 0 d_Sv_learn_265 rfl rfl ?_
    refine s_getA C L 14 (by decide) rfl d_Sv_learn_266 ?_
    refine j_iload C 4 d_Sv_learn_269 rfl ?_
    refine s_iald C L 14 16 (by decide) rfl rfl (B0 14 x) e14 (by omega) (by omega) d_Sv_learn_271 ?_
    refine j_iconst C d_Sv_learn_272 ?_
    refine j_ixor C d_Sv_learn_273 (jI_xor1 (by omega)) ?_
    refine s_iast C L 20 32 (by decide) rfl rfl (by omega) (by omega) d_Sv_learn_274 ?_
    refine j_iconst C d_Sv_learn_275 ?_
    refine j_istore (lv' := [(0, .ref h0), (1, jv f), (2, jv m), (3, jv op), (4, jv x), (7, jv 0)]) C d_Sv_learn_276 (by rw [hL]; decide) rfl rfl ?_
    refine j_iconst C d_Sv_learn_278 ?_
    refine j_istore (lv' := [(0, .ref h0), (1, jv f), (2, jv m), (3, jv op), (4, jv x), (7, jv 0), (8, jv 1)]) C d_Sv_learn_279 (by rw [hL]; decide) rfl rfl ?_
    refine lp_lrnD C hR ht hL hcs Mod B0 _ f m op x h0' hl0 (fun S3 to k3 hB3 hd3 t0 t1 g1 g2 g3 => ?_) (S2 21 0).toNat.succ _ 0 1 (show S2 21 0 - 1 < _ by omega) (by omega) (show 1 ≤ S2 21 0 from hld.1) m17 (fun j j20 j21 j22 => by rw [u2_n _ _ _ j20]; exact hB j j20 j21 j22) hld (by omega) hl0 (fun i a b => by omega) (fun _ => rfl) (fun q => by omega)
    have o : ∀ k, k ≠ 20 → k ≠ 21 → k ≠ 22 → S3 k = B0 k := hB3
    have c0 : S3 0 = B0 0 := o 0 (by decide) (by decide) (by decide)
    have c12 : S3 12 = B0 12 := o 12 (by decide) (by decide) (by decide)
    have c14 : S3 14 = B0 14 := o 14 (by decide) (by decide) (by decide)
    have c15 : S3 15 = B0 15 := o 15 (by decide) (by decide) (by decide)
    have c16 : S3 16 = B0 16 := o 16 (by decide) (by decide) (by decide)
    have c17 : S3 17 = B0 17 := o 17 (by decide) (by decide) (by decide)
    have h3 : Iv Mod S3 (S3 15 (S3 17 0 - 1)) 0 [] := by
      unfold Iv at h0' ⊢
      rw [c0, o 1 (by decide) (by decide) (by decide), o 2 (by decide) (by decide) (by decide), o 3 (by decide) (by decide) (by decide), o 4 (by decide) (by decide) (by decide), o 5 (by decide) (by decide) (by decide), o 6 (by decide) (by decide) (by decide), o 7 (by decide) (by decide) (by decide), o 8 (by decide) (by decide) (by decide), o 10 (by decide) (by decide) (by decide), o 11 (by decide) (by decide) (by decide), c12, o 13 (by decide) (by decide) (by decide), c14, c15, c16, c17]
      exact h0'
    have hd4 : Ld Mod S3 (S3 20) (S3 21 0) x := by
      unfold Ld at hd3 ⊢
      rw [c0, c12, c14, c16, c17]; exact hd3
    refine j_aload_n C 0 d_Sv_learn_364 rfl rfl ?_
    refine j_iload C 5 d_Sv_learn_365 rfl ?_
    refine j_callV (wr := []) (As := [jv to]) (rest := []) (w := sw h0 ad cA) (u0 := S3) C (c_Sv_back _ _ h0 ad cA S3 h3.n.2 h3.a h3.l to t0 (by have := h3.rng; have := h3.n; rw [c17] at *; omega)) (by rw [ht]; exact fun _ h => h) lk_Sv_123 rfl (q0 := 0) rfl rfl (by rw [hR]; decide) hcs d_Sv_learn_367 rfl (Nat.le_of_ble_eq_true rfl) (fun u hb3 => ?_)
    have hLB := hd4.back h3 hx.1 (by rw [c16]; exact hx.2) (by rw [c12, c14, c17]; exact hlev) t0 (by rw [c17]; exact t1) (fun i a b => by rw [c12]; exact g1 i a b) g2 (fun q => by rw [c12]; exact g3 q) hb3
    have hBB : S3 0 = S 0 ∧ S3 1 = S 1 ∧ S3 15 = S 15 ∧ S3 19 = S 19 ∧ S3 17 0 ≤ S 17 0 := ⟨by rw [c0]; exact hb.1 0 (by decide) (by decide) (by decide) (by decide), by rw [o 1 (by decide) (by decide) (by decide)]; exact hb.1 1 (by decide) (by decide) (by decide) (by decide), by rw [c15]; exact hb.1 15 (by decide) (by decide) (by decide) (by decide), by rw [o 19 (by decide) (by decide) (by decide)]; exact hb.1 19 (by decide) (by decide) (by decide) (by decide), by rw [c17, e17]; exact m1⟩
    have so := hLB.2.2.2.2.2.2.2.2.2.2
    have hIu := hLB.1
    have nu := hIu.n
    have n3 := h3.n
    have ru := hIu.rng
    have l0 := hLB.2.2.2.2.1
    have u20 : u 20 = S3 20 := so 20 (by decide) (by decide) (by decide) (by decide)
    have u21 : u 21 = S3 21 := so 21 (by decide) (by decide) (by decide) (by decide)
    have u0 : u 0 = S3 0 := so 0 (by decide) (by decide) (by decide) (by decide)
    have e20 : u 20 0 = S3 20 0 := by rw [u20]
    have e21' : u 21 0 = S3 21 0 := by rw [u21]
    have mlo : 1 ≤ S3 21 0 := hd4.1
    have m17' : S3 21 0 ≤ 32 := by
      rcases Int.lt_or_le (S3 21 0) 2 with q | q
      · omega
      · have := (hLB.2.2.2.2.2.2.2.2.1 q).1.2.1; omega
    have hrm := hIu.a.room (by omega) (v := S3 20 0 / 2) (by omega) (by rw [u0]; omega) l0.2.2
    refine j_aload_n C 0 d_Sv_learn_370 rfl rfl ?_
    refine s_get C L 21 (by decide) rfl (S3 21 0) e21' d_Sv_learn_371 ?_
    refine j_iconst C d_Sv_learn_374 ?_
    refine j_icmp_ne (tgt := 392) C d_Sv_learn_375 (by decide) (rgi (by omega) (by omega)) (rgi (by omega) (by omega)) (fun q => ?_) (fun q => ?_)
    · have hMk := hLB.2.2.2.2.2.2.2.2.1 (by omega)
      have hsem := hLB.2.2.2.2.2.2.2.1
      refine j_aload_n C 0 d_Sv_learn_392 rfl rfl ?_
      refine j_aload_n C 0 d_Sv_learn_393 rfl rfl ?_
      refine s_getA C L 20 (by decide) rfl d_Sv_learn_394 ?_
      refine j_iconst C d_Sv_learn_397 ?_
      refine s_iald C L 20 32 (by decide) rfl rfl (S3 20 0) e20 (by omega) (by omega) d_Sv_learn_398 ?_
      refine j_aload_n C 0 d_Sv_learn_399 rfl rfl ?_
      refine j_iconst C d_Sv_learn_400 ?_
      refine j_callI (wr := []) (As := [jv 1]) (rest := [jv (S3 20 0), .ref h0]) (w := sw h0 ad cA) (u0 := u) C (c_Sv_keep _ _ h0 ad cA Mod Mod u (u 16 0) 1 hIu (Or.inr rfl) (fun _ => rfl) (by rw [u0, u20, u21]; exact hMk.1) (fun q => absurd q (by decide)) (fun μ hm => ⟨hm, by rw [u20, u21]; exact hsem μ hm⟩) (fun μ hm _ => hm)) (by rw [ht]; exact fun _ h => h) lk_Sv_98 rfl (q0 := 0) rfl rfl (by rw [hR]; decide) hcs d_Sv_learn_401 rfl (Nat.le_of_ble_eq_true rfl) (fun zc v hz => ?_)
      have v16 : v 16 = u 16 := hz.2.2.2.2.2.2.2 16 (by decide) (by decide) (by decide) (by decide) (by decide) (by decide) (by decide) (by decide) (by decide) (by decide)
      refine j_callV (wr := []) (As := [jv (S3 20 0), jv zc]) (rest := []) (w := sw h0 ad cA) (u0 := v) C (c_Sv_set _ _ h0 ad cA v (S3 20 0) zc l0.1 (by omega) (by rw [v16]; omega) (by rw [v16]; omega)) (by rw [ht]; exact fun _ h => h) lk_Sv_94 rfl (q0 := 0) rfl rfl (by rw [hR]; decide) hcs d_Sv_learn_404 rfl (Nat.le_of_ble_eq_true rfl) (fun v2 hv2 => ?_)
      subst hv2
      refine j_aload_n C 0 d_Sv_learn_407 rfl rfl ?_
      refine j_iconst C d_Sv_learn_408 ?_
      refine s_put C L 21 (by decide) rfl rfl rfl d_Sv_learn_409 ?_
      refine j_iconst C d_Sv_learn_412 ?_
      exact j_ret C Z (by decide) d_Sv_learn_413 (hLB.keep t0 (by rw [c17]; exact t1) (by omega) hBB hz)
    · refine j_aload_n C 0 d_Sv_learn_378 rfl rfl ?_
      refine j_aload_n C 0 d_Sv_learn_379 rfl rfl ?_
      refine s_getA C L 20 (by decide) rfl d_Sv_learn_380 ?_
      refine j_iconst C d_Sv_learn_383 ?_
      refine s_iald C L 20 32 (by decide) rfl rfl (S3 20 0) e20 (by omega) (by omega) d_Sv_learn_384 ?_
      refine j_iconst C d_Sv_learn_385 ?_
      refine j_callV (wr := []) (As := [jv (S3 20 0), jv (-1)]) (rest := []) (w := sw h0 ad cA) (u0 := u) C (c_Sv_set _ _ h0 ad cA u (S3 20 0) (-1) l0.1 (by omega) (by omega) (by omega)) (by rw [ht]; exact fun _ h => h) lk_Sv_94 rfl (q0 := 0) rfl rfl (by rw [hR]; decide) hcs d_Sv_learn_386 rfl (Nat.le_of_ble_eq_true rfl) (fun v2 hv2 => ?_)
      subst hv2
      refine j_goto (tgt := 407) C d_Sv_learn_389 (by decide) ?_
      refine j_aload_n C 0 d_Sv_learn_407 rfl rfl ?_
      refine j_iconst C d_Sv_learn_408 ?_
      refine s_put C L 21 (by decide) rfl rfl rfl d_Sv_learn_409 ?_
      refine j_iconst C d_Sv_learn_412 ?_
      exact j_ret C Z (by decide) d_Sv_learn_413 (hLB.unit (by rw [c17]; exact t1) q hBB)
  · refine j_iconst C d_Sv_learn_54 ?_
    exact j_ret C Z (by decide) d_Sv_learn_55 (Or.inl ⟨rfl, h0'.no_model f0 (by rw [s6]; exact f1) (by omega) hf0, h0'.cl.1.2.1⟩)
end
section
/-! pure: the measure of the search; decisions; the first answer -/
def vl (e : Int → Int) : Nat → Int
  | 0 => e 0
  | k + 1 => 17 * vl e k + e (k + 1 : Nat)
theorem vl_nn {e : Int → Int} (h : ∀ j, 0 ≤ j → 0 ≤ e j) : ∀ k : Nat, 0 ≤ vl e k
  | 0 => h 0 (by omega)
  | k + 1 => by have := vl_nn h k; have := h (k + 1 : Nat) (by omega); simp only [vl]; omega
theorem vl_le {e e' : Int → Int} (h : ∀ j, 0 ≤ j → e j ≤ e' j) : ∀ k : Nat, vl e k ≤ vl e' k
  | 0 => h 0 (by omega)
  | k + 1 => by have := vl_le h k; have := h (k + 1 : Nat) (by omega); simp only [vl]; omega
theorem vl_lt {e e' : Int → Int} {t : Int} (h0 : 0 ≤ t) (h : ∀ j, 0 ≤ j → j < t → e' j = e j) (ht : e t < e' t) (hn : ∀ j, 0 ≤ j → 0 ≤ e' j) (hm : ∀ j, 0 ≤ j → e j ≤ 16) : ∀ k : Nat, (t ≤ k → vl e k < vl e' k) ∧ ((k : Int) < t → vl e k = vl e' k)
  | 0 => ⟨fun q => by have : t = 0 := by omega
                      subst this; exact ht, fun q => (h 0 (by omega) (by omega)).symm⟩
  | k + 1 => by
    have ih := vl_lt h0 h ht hn hm k
    refine ⟨fun q => ?_, fun q => ?_⟩
    · simp only [vl]
      by_cases e1 : t = (k + 1 : Nat)
      · have := ih.2 (by omega)
        rw [e1] at ht
        omega
      · have := ih.1 (by omega)
        have := hn (k + 1 : Nat) (by omega)
        have := hm (k + 1 : Nat) (by omega)
        omega
    · simp only [vl]
      rw [ih.2 (by omega), h (k + 1 : Nat) (by omega) q]
/-- the trail's places by levels -/
def evl (S : Sv) (j : Int) : Int := if j < S 17 0 then S 15 j else if j = S 17 0 then S 16 0 else 0
def ms (S : Sv) : Int := vl (evl S) 16
section
variable {Mod : (Int → Bool) → Prop} {S u : Sv} {D g : Int} {P : List Int}
theorem Iv.ev (h : Iv Mod S D g P) : ∀ j, 0 ≤ j → 0 ≤ evl S j ∧ evl S j ≤ 16 := by
  intro j hj
  have rn := h.rng
  have hn := h.n
  unfold evl
  split
  · have := h.l.2.1 j hj (by assumption); omega
  · split <;> omega
theorem vl_16 (e : Int → Int) (h : ∀ j, 0 ≤ j → e j ≤ 16) : vl e 16 ≤ 827240261886336764176 := by
  have := vl_le (e := e) (e' := fun _ => 16) (fun j hj => h j hj) 16
  exact Int.le_trans this (by decide)
theorem Iv.ms_hi (h : Iv Mod S D g P) : ms S ≤ 827240261886336764176 := vl_16 _ (fun j hj => (h.ev j hj).2)
theorem ms_grow (hb : u 15 = S 15) (hl : u 17 = S 17) (hm : S 16 0 ≤ u 16 0) : ms S ≤ ms u := by
  refine vl_le (fun j hj => ?_) 16
  unfold evl
  rw [hb, hl]
  split
  · exact Int.le_refl _
  · split
    · exact hm
    · exact Int.le_refl _
theorem ms_back (h : Iv Mod S D g P) {D' g' : Int} {P' : List Int} (h' : Iv Mod u D' g' P') (h0 : 0 ≤ u 17 0) (h1 : u 17 0 < S 17 0) (hb : u 15 = S 15) (hm : u 16 0 = S 15 (u 17 0) + 1) : ms S < ms u := by
  have rn := h'.rng
  have hn := h'.n
  refine (vl_lt (t := u 17 0) h0 (fun j a b => ?_) ?_ (fun j a => (h'.ev j a).1) (fun j a => (h.ev j a).2) 16).1 (by omega)
  · unfold evl; rw [if_pos b, if_pos (by omega), hb]
  · unfold evl; rw [if_pos h1, if_neg (by omega), if_pos rfl, hm]; omega
theorem ms_dec (h : Iv Mod S D g P) {D' g' : Int} {P' : List Int} (h' : Iv Mod u D' g' P') (hl : u 17 0 = S 17 0 + 1) (hb : u 15 = up (S 15) (S 17 0) (S 16 0)) (hm : u 16 0 = S 16 0 + 1) : ms S < ms u := by
  have rn := h'.rng
  have hn := h'.n
  have rs := h.rng
  refine (vl_lt (t := S 17 0 + 1) (by omega) (fun j a b => ?_) ?_ (fun j a => (h'.ev j a).1) (fun j a => (h.ev j a).2) 16).1 (by omega)
  · unfold evl
    rw [hl, hb, if_pos b]
    by_cases e : j = S 17 0
    · rw [e, up_s, if_neg (by omega), if_pos rfl]
    · rw [up_n _ _ e, if_pos (by omega)]
  · unfold evl
    rw [hl, if_neg (by omega), if_neg (by omega), if_neg (by omega), if_pos rfl]; omega
/-- ready to go on -/
def Rd (Mod : (Int → Bool) → Prop) (S : Sv) : Prop := Iv Mod S (S 18 0) 0 [] ∧ 0 ≤ S 18 0 ∧ S 18 0 ≤ S 16 0 ∧ (0 < S 17 0 → S 15 (S 17 0 - 1) ≤ S 18 0)
/-- settled: all that follows is on the trail -/
def St (Mod : (Int → Bool) → Prop) (S : Sv) : Prop := Iv Mod S (S 16 0) 0 [] ∧ S 18 0 = S 16 0
theorem Rd.dec (h : St Mod S) {v : Int} (h1 : 0 ≤ v) (h2 : v < S 0 0) (hv : S 11 v = 0) (hu : ∀ x, 0 ≤ x → x < v → S 11 x ≠ 0) {l : Int} (hl : l = 2 * v + if S 1 v = 0 then 1 else 0) : Rd Mod (setS (u2 (u2 S 15 (S 17 0) (S 16 0)) 17 0 (S 17 0 + 1)) l (-1)) ∧ ms S < ms (setS (u2 (u2 S 15 (S 17 0) (S 16 0)) 17 0 (S 17 0 + 1)) l (-1)) := by
  obtain ⟨hI, e18⟩ := h
  have rn := hI.rng
  have hn := hI.n
  have l2 : l / 2 = v := by rw [hl]; split <;> omega
  have lr : 0 ≤ l ∧ l < 2 * S 0 0 := by rw [hl]; split <;> omega
  have vv : S 11 (l / 2) = 0 := by rw [l2]; exact hv
  have f17 : up (S 17) 0 (S 17 0 + 1) 0 = S 17 0 + 1 := up_s _ _ _
  have f16 : up (S 16) 0 (S 16 0 + 1) 0 = S 16 0 + 1 := up_s _ _ _
  have hI' : Iv Mod (setS (u2 (u2 S 15 (S 17 0) (S 16 0)) 17 0 (S 17 0 + 1)) l (-1)) (S 18 0) 0 [] := by
    show (1 ≤ S 0 0 ∧ S 0 0 ≤ 16) ∧ Cl (S 0 0) (S 2) (S 3) (S 6 0) (S 7 0) ∧ TrA (S 0 0) (up (S 11) (l / 2) (sgn l)) (up (S 14) (S 16 0) l) (up (S 16) 0 (S 16 0 + 1) 0) ∧ TrL (up (S 12) (l / 2) (up (S 17) 0 (S 17 0 + 1) 0)) (up (S 14) (S 16 0) l) (up (S 15) (S 17 0) (S 16 0)) (up (S 16) 0 (S 16 0 + 1) 0) (up (S 17) 0 (S 17 0 + 1) 0) ∧ Rs (Inc (S 2) (S 3)) (S 6 0) (up (S 14) (S 16 0) l) (up (S 13) (l / 2) (-1)) (up (S 12) (l / 2) (up (S 17) 0 (S 17 0 + 1) 0)) (up (S 15) (S 17 0) (S 16 0)) (up (S 16) 0 (S 16 0 + 1) 0) ∧ De (S 1) (up (S 14) (S 16 0) l) (up (S 15) (S 17 0) (S 16 0)) (up (S 17) 0 (S 17 0 + 1) 0) ∧ Se Mod (Inc (S 2) (S 3)) (S 6 0) (S 5) (up (S 14) (S 16 0) l) (up (S 12) (l / 2) (up (S 17) 0 (S 17 0 + 1) 0)) (up (S 16) 0 (S 16 0 + 1) 0) ∧ Cn (S 5) (S 6 0) (S 8 0) ∧ Wl (wl (S 2) (S 3)) (S 4) (S 10) (S 6 0) 0 [] ∧ Tw (wl (S 2) (S 3)) (up (S 11) (l / 2) (sgn l)) (up (S 12) (l / 2) (up (S 17) 0 (S 17 0 + 1) 0)) (up (S 14) (S 16 0) l) (S 6 0) (S 18 0) []
    rw [f17, f16]
    refine ⟨hn, hI.cl, hI.a.set lr.1 lr.2 vv, hI.l.dec hI.a vv, hI.r.set hI.a vv (fun i a b q => ?_) (fun i a b => (hI.l.2.2.2 i a b).1) (Or.inl ⟨rfl, Or.inr ?_⟩), hI.d.dec hI.l ?_ (fun x a b => ?_), hI.s.set hI.a vv (fun q => by omega), hI.c, hI.w, (hI.t.le (by omega)).set hI.a (by omega) vv⟩
    · have := (hI.l.2.2.2 i a b).2.1
      rw [up_n _ _ (by omega)]
    · rw [show S 17 0 + 1 - 1 = S 17 0 by omega, up_s]
    · rw [l2]; exact hl
    · rw [l2] at b
      rcases hI.a.2.2.2 x a (by omega) with q | q
      · exact absurd q (hu x a b)
      · exact q
  refine ⟨⟨hI', ?_, ?_, fun _ => ?_⟩, ms_dec hI hI' f17 rfl f16⟩
  · show 0 ≤ S 18 0; omega
  · show S 18 0 ≤ up (S 16) 0 (S 16 0 + 1) 0; rw [f16]; omega
  · show up (S 15) (S 17 0) (S 16 0) (up (S 17) 0 (S 17 0 + 1) 0 - 1) ≤ S 18 0
    rw [f17, show S 17 0 + 1 - 1 = S 17 0 by omega, up_s]; omega
/-- THE FIRST ANSWER in the wished order -/
def First (Mod : (Int → Bool) → Prop) (n : Int) (wish : Int → Int) (M : Int → Bool) : Prop := Mod M ∧ ∀ μ, Mod μ → ∀ v, 0 ≤ v → v < n → (∀ w, 0 ≤ w → w < v → μ w = M w) → μ v ≠ M v → M v = decide (wish v ≠ 0)
theorem St.first (h : St Mod S) (hall : ∀ v, 0 ≤ v → v < S 0 0 → S 11 v ≠ 0) : First Mod (S 0 0) (S 1) (fun v => decide (0 < S 11 v)) := by
  obtain ⟨hI, e18⟩ := h
  have hn := hI.n
  -- a true literal is satisfied
  have tsat : ∀ l, 0 < vOf (S 11) l → sat (fun v => decide (0 < S 11 v)) l := fun l q => by
    unfold sat
    unfold vOf at q
    by_cases e : l % 2 = 0
    · rw [if_pos e] at q; simp [e, q]
    · rw [if_neg e] at q
      have : ¬ 0 < S 11 (l / 2) := by omega
      simp [e, this]
  have trsat : ∀ i, 0 ≤ i → i < S 16 0 → sat (fun v => decide (0 < S 11 v)) (S 14 i) := fun i a b => tsat _ (by have := hI.a.true_of a b; omega)
  constructor
  · refine hI.s.2.2 _ (fun c a b _ => ?_) (fun i a b _ => trsat i a b)
    have z := hI.cl.at a b
    have l0 := hI.cl.wl (w := 2 * c) (by omega) (by omega)
    have l1 := hI.cl.wl (w := 2 * c + 1) (by omega) (by omega)
    have i0 : Inc (S 2) (S 3) c (wl (S 2) (S 3) (2 * c)) := ⟨S 3 c, Int.le_refl _, by omega, by unfold wl; rw [show 2 * c / 2 = c by omega, show 2 * c % 2 = 0 by omega, Int.add_zero]⟩
    have i1 : Inc (S 2) (S 3) c (wl (S 2) (S 3) (2 * c + 1)) := ⟨S 3 c + 1, by omega, by omega, by unfold wl; rw [show (2 * c + 1) / 2 = c by omega, show (2 * c + 1) % 2 = 1 by omega]⟩
    have ne0 : vOf (S 11) (wl (S 2) (S 3) (2 * c)) ≠ 0 := fun q => hall _ (by omega) (by omega) (vOf_0.mp q)
    rcases Int.lt_or_le 0 (vOf (S 11) (wl (S 2) (S 3) (2 * c))) with q | q
    · exact ⟨_, i0, tsat _ q⟩
    · obtain ⟨i, x, y, w⟩ := (hI.a.f l0.1 l0.2).mp (by omega)
      have t := hI.t (2 * c) (by omega) (by omega) i x y (fun q => absurd q List.not_mem_nil) w
      rw [show ng (2 * c) = 2 * c + 1 by unfold ng; omega] at t
      exact ⟨_, i1, tsat _ t.1⟩
  · intro μ hm v v0 v1 hag hne
    -- v was not decided as wished: it follows
    by_cases hw : (decide (0 < S 11 v)) = decide (S 1 v ≠ 0)
    · exact hw
    · exfalso
      obtain ⟨iv, i0, i1, i2⟩ : ∃ i, 0 ≤ i ∧ i < S 16 0 ∧ S 14 i / 2 = v := by
        rcases hI.a.2.2.2 v v0 v1 with q | q
        · exact absurd q (hall v v0 v1)
        · exact q
      have key : ∀ (k : Nat) (i : Int), i < k → 0 ≤ i → i ≤ iv → sat μ (S 14 i) := by
        intro k
        induction k with
        | zero => intro i a b; omega
        | succ k ih =>
          intro i a b c
          rcases hI.r i b (by omega) with ⟨r1, r2⟩ | ⟨r1, r2, r3, r4⟩
          · by_cases z : S 12 (S 14 i / 2) = 0
            · exact hI.s.2.1 μ hm i b (by omega) z
            · have r2 := r2.resolve_left z
              have lv := hI.l.2.2.2 i b (by omega)
              have dd := hI.d (S 12 (S 14 i / 2) - 1) (by omega) (by omega)
              rw [← r2] at dd
              have tr := hI.a.2.1 i b (by omega)
              rcases Int.lt_trichotomy (S 14 i / 2) v with q | q | q
              · have m1 := hag _ (by omega) q
                have t1 := trsat i b (by omega)
                unfold sat at t1 ⊢
                rw [m1]; exact t1
              · exfalso
                apply hw
                have d1 := dd.1
                rw [q] at d1
                have tv := tr.2.2
                rw [q] at tv
                unfold sgn at tv
                by_cases y : S 1 v = 0
                · rw [if_pos y] at d1
                  rw [if_neg (by omega)] at tv
                  have : ¬ 0 < S 11 v := by omega
                  simp [y, this]
                · rw [if_neg y] at d1
                  rw [if_pos (by omega)] at tv
                  have : 0 < S 11 v := by omega
                  simp [y, this]
              · exfalso
                obtain ⟨j, j1, j2, j3⟩ := dd.2 v v0 q
                have := hI.a.inj j1 (by omega) i0 i1 (by rw [j3, i2])
                omega
          · obtain ⟨l, hl, hs⟩ := hI.s.1 μ hm _ r1 r2
            by_cases e : l = S 14 i
            · exact e ▸ hs
            · exfalso
              obtain ⟨j, j1, j2, j3⟩ := r4 l hl e
              have := ih j (by omega) j1 (by omega)
              rw [j3, sat_ng] at this
              exact this hs
      have s1 := key (iv + 1).toNat iv (by omega) i0 (Int.le_refl _)
      have s2 := trsat iv i0 i1
      unfold sat at s1 s2
      rw [i2] at s1 s2
      exact hne (by rw [s1]; exact s2.symm)
end
end
section
/-! settle, solve -/
/-- behind settle -/
def SZ (Mod : (Int → Bool) → Prop) (S : Sv) (z : Int) (u : Sv) : Prop := (z = 0 ∧ (∀ μ, ¬ Mod μ) ∧ u 3 0 = 0) ∨ (z = 1 ∧ St Mod u ∧ ms S ≤ ms u ∧ u 0 = S 0 ∧ u 1 = S 1)
/-- behind solve -/
def VZ (Mod : (Int → Bool) → Prop) (S : Sv) (z : Int) (u : Sv) : Prop := u 3 0 = 0 ∧ ((z = 0 ∧ ∀ μ, ¬ Mod μ) ∨ (z = 1 ∧ First Mod (S 0 0) (S 1) (fun v => decide (0 < u 11 v)) ∧ ∀ v, 0 ≤ v → v < S 0 0 → rg (u 11 v)))
theorem Rd.pa {Mod : (Int → Bool) → Prop} {S : Sv} (h : Rd Mod S) : PA Mod S S := ⟨h.1, h.2.1, h.2.2.1, h.2.2.2, Fx.rf S⟩
theorem Fx.ms {S u : Sv} (h : Fx S u) : ms S ≤ ms u := ms_grow (h.1 15 (by decide) (by decide) (by decide) (by decide) (by decide) (by decide) (by decide) (by decide) (by decide)) (h.1 17 (by decide) (by decide) (by decide) (by decide) (by decide) (by decide) (by decide) (by decide) (by decide)) h.2
theorem Fx.e {S u : Sv} (h : Fx S u) : u 0 = S 0 ∧ u 1 = S 1 := ⟨h.1 0 (by decide) (by decide) (by decide) (by decide) (by decide) (by decide) (by decide) (by decide) (by decide), h.1 1 (by decide) (by decide) (by decide) (by decide) (by decide) (by decide) (by decide) (by decide) (by decide)⟩
theorem lp_settle {K : Cx} {h0 : Nat} {ad : Nat → Nat} {cA : Nat → ClassId} (C : Ok K R_Sv b_Sv_settle) (hR : xR K = rmL 6) (ht : xt K = sty cA) (hL : xL K = 2) (hcs : xn K ≤ (xR K).cells ∧ xk K ≤ (xR K).slots) {post : Int → Sv → Prop} (Z : RI K .boolean (sw h0 ad cA) post) (Mod : (Int → Bool) → Prop) (S0 : Sv) (hp : ∀ z u, SZ Mod S0 z u → post z u) :
    ∀ (n : Nat) (S : Sv) (c : Int), 827240261886336764177 - ms S ≤ n → ms S0 ≤ ms S → S 0 = S0 0 → S 1 = S0 1 → ((c = -1 ∧ Iv Mod S (S 16 0) 0 [] ∧ S 18 0 = S 16 0) ∨ (0 ≤ c ∧ c < S 6 0 ∧ (∀ l, Inc (S 2) (S 3) c l → vOf (S 11) l < 0) ∧ Iv Mod S (if 0 < S 17 0 then S 15 (S 17 0 - 1) else 0) 0 [])) → J K (sw h0 ad cA S) 5 [(0, .ref h0), (1, jv c)] [] := by
  have L := Ln_Sv (h0 := h0) (ad := ad) ht
  intro n
  induction n with
  | zero =>
    intro S c q1 q2 q3 q4 q5
    exfalso
    rcases q5 with ⟨-, h, -⟩ | ⟨-, -, -, h⟩
    · have := h.ms_hi; omega
    · have := h.ms_hi; omega
  | succ n ih =>
    intro S c q1 q2 q3 q4 q5
    have hcr : rg c := by
      rcases q5 with ⟨e, -, -⟩ | ⟨e1, e2, -, h⟩
      · exact rgi (by omega) (by omega)
      · have := h.rng; exact rgi (by omega) (by omega)
    refine j_iload_n C 1 d_Sv_settle_5 rfl rfl ?_
    refine j_if_lt (tgt := 27) C d_Sv_settle_6 (by decide) hcr (fun x => ?_) (fun x => ?_)
    · refine j_iconst C d_Sv_settle_27 ?_
      rcases q5 with ⟨e, h1, h2⟩ | ⟨e1, e2, -, h⟩
      · exact j_ret C Z (by decide) d_Sv_settle_28 (hp _ _ (Or.inr ⟨rfl, ⟨h1, h2⟩, q2, q3, q4⟩))
      · omega
    · rcases q5 with ⟨e, h1, h2⟩ | ⟨e1, e2, e3, h⟩
      · omega
      refine j_aload_n C 0 d_Sv_settle_9 rfl rfl ?_
      refine j_iload_n C 1 d_Sv_settle_10 rfl rfl ?_
      refine j_callI (wr := []) (As := [jv c]) (rest := []) (w := sw h0 ad cA) (u0 := S) C (c_Sv_learn _ _ h0 ad cA Mod S c h e1 e2 e3) (by rw [ht]; exact fun _ h => h) lk_Sv_134 rfl (q0 := 0) rfl rfl (by rw [hR]; decide) hcs d_Sv_settle_11 rfl (Nat.le_of_ble_eq_true rfl) (fun z u hz => ?_)
      have hzr : rg z := by
        rcases hz with ⟨e, -⟩ | ⟨e, -⟩ <;> exact rgi (by omega) (by omega)
      refine j_if_ne (tgt := 19) C d_Sv_settle_14 (by decide) hzr (fun y => ?_) (fun y => ?_)
      · rcases hz with ⟨e, -⟩ | ⟨e, g1, g2, g3, g4, g5, g6, g7, g8, g9, g10, g11, g12⟩
        · omega
        have hms := ms_back h g1 g5 g6 g10 g7
        have hrd : Rd Mod u := ⟨g1, g2, g3, g4⟩
        refine j_aload_n C 0 d_Sv_settle_19 rfl rfl ?_
        refine j_callI (wr := []) (As := []) (rest := []) (w := sw h0 ad cA) (u0 := u) C (c_Sv_propagate _ _ h0 ad cA Mod u hrd.pa) (by rw [ht]; exact fun _ h => h) lk_Sv_130 rfl (q0 := 0) rfl rfl (by rw [hR]; decide) hcs d_Sv_settle_20 rfl (Nat.le_of_ble_eq_true rfl) (fun z2 v hv => ?_)
        refine j_istore_n (lv' := [(0, .ref h0), (1, jv z2)]) C d_Sv_settle_23 rfl (by rw [hL]; decide) rfl rfl ?_
        refine j_goto (tgt := 5) C d_Sv_settle_24 (by decide) ?_
        obtain ⟨fx, hv⟩ := hv
        have m2 := fx.ms
        have fe := fx.e
        exact ih v z2 (by omega) (by omega) (by rw [fe.1, g8, q3]) (by rw [fe.2, g9, q4]) hv
      · rcases hz with ⟨e, g1, g2⟩ | ⟨e, -⟩
        · refine j_iconst C d_Sv_settle_17 ?_
          exact j_ret C Z (by decide) d_Sv_settle_18 (hp _ _ (Or.inl ⟨rfl, g1, g2⟩))
        · omega
theorem c_Sv_settle (l : Launch) (D : va_G) (h0 : Nat) (ad : Nat → Nat) (cA : Nat → ClassId) (Mod : (Int → Bool) → Prop) (S : Sv) (h : Rd Mod S) : CI l y_Sv_settle b_Sv_settle 2 (some .boolean) 6 D (sty cA) [.ref h0] (sw h0 ad cA) S (fun z u => SZ Mod S z u) := by
  refine CI.of (by decide) (Nat.le_of_ble_eq_true rfl) (fun K C hR ht hL hcs Z => ?_)
  have C : Ok K R_Sv b_Sv_settle := C
  have L := Ln_Sv (h0 := h0) (ad := ad) ht
  show J K (sw h0 ad cA S) 0 [(0, .ref h0)] []
  refine j_aload_n C 0 d_Sv_settle_0 rfl rfl ?_
  refine j_callI (wr := []) (As := []) (rest := []) (w := sw h0 ad cA) (u0 := S) C (c_Sv_propagate _ _ h0 ad cA Mod S h.pa) (by rw [ht]; exact fun _ h => h) lk_Sv_130 rfl (q0 := 0) rfl rfl (by rw [hR]; decide) hcs d_Sv_settle_1 rfl (Nat.le_of_ble_eq_true rfl) (fun z v hv => ?_)
  refine j_istore_n (lv' := [(0, .ref h0), (1, jv z)]) C d_Sv_settle_4 rfl (by rw [hL]; decide) rfl rfl ?_
  obtain ⟨fx, hv⟩ := hv
  exact lp_settle C hR ht hL hcs Z Mod S (fun z u q => q) (827240261886336764177 - ms v).toNat v z (by omega) fx.ms fx.e.1 fx.e.2 hv
theorem lp_solve {K : Cx} {h0 : Nat} {ad : Nat → Nat} {cA : Nat → ClassId} (C : Ok K R_Sv b_Sv_solve) (hR : xR K = rmL 7) (ht : xt K = sty cA) (hL : xL K = 2) (hcs : xn K ≤ (xR K).cells ∧ xk K ≤ (xR K).slots) {post : Int → Sv → Prop} (Z : RI K .boolean (sw h0 ad cA) post) (Mod : (Int → Bool) → Prop) (S0 : Sv) (hw : ∀ v, 0 ≤ v → v < S0 0 0 → S0 1 v = 0 ∨ S0 1 v = 1) (hp : ∀ z u, VZ Mod S0 z u → post z u) :
    ∀ (n : Nat) (S : Sv) (v : Int), 827240261886336764177 - ms S ≤ n → S 0 = S0 0 → S 1 = S0 1 → St Mod S → ((v = -1 ∧ ∀ x, 0 ≤ x → x < S 0 0 → S 11 x ≠ 0) ∨ (0 ≤ v ∧ v < S 0 0 ∧ S 11 v = 0 ∧ ∀ x, 0 ≤ x → x < v → S 11 x ≠ 0)) → J K (sw h0 ad cA S) 21 [(0, .ref h0), (1, jv v)] [] := by
  have L := Ln_Sv (h0 := h0) (ad := ad) ht
  intro n
  induction n with
  | zero =>
    intro S v q1 q2 q3 q4 q5
    exfalso
    have := q4.1.ms_hi; omega
  | succ n ih =>
    intro S v q1 q2 q3 q4 q5
    have rn := q4.1.rng
    have hn := q4.1.n
    have hcr : rg v := by
      rcases q5 with ⟨e, -⟩ | ⟨e1, e2, -⟩ <;> exact rgi (by omega) (by omega)
    refine j_iload_n C 1 d_Sv_solve_21 rfl rfl ?_
    refine j_if_lt (tgt := 90) C d_Sv_solve_22 (by decide) hcr (fun x => ?_) (fun x => ?_)
    · refine j_iconst C d_Sv_solve_90 ?_
      rcases q5 with ⟨e, h1⟩ | ⟨e1, e2, -⟩
      · refine j_ret C Z (by decide) d_Sv_solve_91 (hp _ _ ⟨q4.1.cl.1.2.1, Or.inr ⟨rfl, ?_, fun x a b => ?_⟩⟩)
        · rw [← q2, ← q3]; exact q4.first h1
        · rw [← q2] at b
          have r := q4.1.a.rng (l := 2 * x) (by omega) (by omega)
          have e2 : vOf (S 11) (2 * x) = S 11 x := by unfold vOf; rw [if_pos (by omega), show 2 * x / 2 = x by omega]
          rw [e2] at r; exact rgi (by omega) (by omega)
      · omega
    · rcases q5 with ⟨e, h1⟩ | ⟨e1, e2, e3, e4⟩
      · omega
      have hrm := q4.1.a.room (by omega) e1 e2 e3
      have hw1 := hw v e1 (by rw [← q2]; exact e2)
      rw [← q3] at hw1
      have S1e : S 1 v = S0 1 v := by rw [q3]
      refine j_aload_n C 0 d_Sv_solve_25 rfl rfl ?_
      refine s_getA C L 15 (by decide) rfl d_Sv_solve_26 ?_
      refine j_aload_n C 0 d_Sv_solve_29 rfl rfl ?_
      refine s_get C L 17 (by decide) rfl (S 17 0) rfl d_Sv_solve_30 ?_
      refine j_aload_n C 0 d_Sv_solve_33 rfl rfl ?_
      refine s_get C L 16 (by decide) rfl (S 16 0) rfl d_Sv_solve_34 ?_
      refine s_iast C L 15 17 (by decide) rfl rfl (by omega) (by omega) d_Sv_solve_37 ?_
      refine j_aload_n C 0 d_Sv_solve_38 rfl rfl ?_
      refine j_dup C d_Sv_solve_39 rfl ?_
      refine s_get C L 17 (by decide) rfl (S 17 0) rfl d_Sv_solve_40 ?_
      refine j_iconst C d_Sv_solve_43 ?_
      refine j_iadd C d_Sv_solve_44 ?_
      refine s_put C L 17 (by decide) rfl rfl rfl d_Sv_solve_45 ?_
      refine j_aload_n C 0 d_Sv_solve_48 rfl rfl ?_
      refine j_aload_n C 0 d_Sv_solve_49 rfl rfl ?_
      refine s_getA C L 1 (by decide) rfl d_Sv_solve_50 ?_
      refine j_iload_n C 1 d_Sv_solve_53 rfl rfl ?_
      refine s_zald C L 1 16 (by decide) rfl rfl (S 1 v) rfl (by omega) (by omega) d_Sv_solve_54 ?_
      refine j_if_eq (tgt := 65) C d_Sv_solve_55 (by decide) (rgi (by omega) (by omega)) (fun y => ?_) (fun y => ?_)
      · refine j_iload_n C 1 d_Sv_solve_65 rfl rfl ?_
        refine j_callP (As := [jv v]) (rest := [.ref h0]) C (c_Sv_no _ _ v) lk_Sv_148 rfl (by rw [hR]; decide) hcs d_Sv_solve_66 rfl (Nat.le_of_ble_eq_true rfl) (fun l0 hl0 => ?_)
        have hll : l0 = 2 * v + if S 1 v = 0 then 1 else 0 := by rw [hl0, if_pos y]
        have hdec := Rd.dec q4 e1 e2 e3 e4 hll
        refine j_iconst C d_Sv_solve_69 ?_
        refine j_callV (wr := []) (As := [jv l0, jv (-1)]) (rest := []) (w := sw h0 ad cA) (u0 := (u2 (u2 S 15 (S 17 0) (S 16 0)) 17 0 ((S 17 0) + 1))) C (c_Sv_set _ _ h0 ad cA (u2 (u2 S 15 (S 17 0) (S 16 0)) 17 0 (S 17 0 + 1)) l0 (-1) (by omega) (by omega) (show 0 ≤ S 16 0 by omega) (show S 16 0 < 16 by omega)) (by rw [ht]; exact fun _ h => h) lk_Sv_94 rfl (q0 := 0) rfl rfl (by rw [hR]; decide) hcs d_Sv_solve_70 rfl (Nat.le_of_ble_eq_true rfl) (fun u hu => ?_)
        subst hu
        refine j_aload_n C 0 d_Sv_solve_73 rfl rfl ?_
        refine j_callI (wr := []) (As := []) (rest := []) (w := sw h0 ad cA) (u0 := (setS (u2 (u2 S 15 (S 17 0) (S 16 0)) 17 0 (S 17 0 + 1)) l0 (-1))) C (c_Sv_settle _ _ h0 ad cA Mod (setS (u2 (u2 S 15 (S 17 0) (S 16 0)) 17 0 (S 17 0 + 1)) l0 (-1)) hdec.1) (by rw [ht]; exact fun _ h => h) lk_Sv_138 rfl (q0 := 0) rfl rfl (by rw [hR]; decide) hcs d_Sv_solve_74 rfl (Nat.le_of_ble_eq_true rfl) (fun z u hz => ?_)
        have hzr : rg z := by
          rcases hz with ⟨e, -⟩ | ⟨e, -⟩ <;> exact rgi (by omega) (by omega)
        refine j_if_ne (tgt := 82) C d_Sv_solve_77 (by decide) hzr (fun y2 => ?_) (fun y2 => ?_)
        · rcases hz with ⟨e, -⟩ | ⟨e, g1, g2, g3, g4⟩
          · omega
          have gn := g1.1.n
          have g0 : u 0 0 = S 0 0 := by rw [g3]; rfl
          refine j_aload_n C 0 d_Sv_solve_82 rfl rfl ?_
          have hvr : ∀ x, 0 ≤ x → x < u 0 0 → rg (u 11 x) := fun x x1 x2 => by
            have r := g1.1.a.rng (l := 2 * x) (by omega) (by omega)
            have e2 : vOf (u 11) (2 * x) = u 11 x := by unfold vOf; rw [if_pos (by omega), show 2 * x / 2 = x by omega]
            rw [e2] at r; exact rgi (by omega) (by omega)
          refine j_callI (wr := []) (As := []) (rest := []) (w := sw h0 ad cA) (u0 := u) C (c_Sv_open _ _ h0 ad cA u (by omega) (by omega) hvr) (by rw [ht]; exact fun _ h => h) lk_Sv_142 rfl (q0 := 0) rfl rfl (by rw [hR]; decide) hcs d_Sv_solve_83 rfl (Nat.le_of_ble_eq_true rfl) (fun z2 u2_ ho => ?_)
          obtain ⟨rfl, ho⟩ := ho
          refine j_istore_n (lv' := [(0, .ref h0), (1, jv z2)]) C d_Sv_solve_86 rfl (by rw [hL]; decide) rfl rfl ?_
          refine j_goto (tgt := 21) C d_Sv_solve_87 (by decide) ?_
          exact ih u2_ z2 (by omega) (by rw [g3]; exact q2) (by rw [g4]; exact q3) g1 ho
        · rcases hz with ⟨e, g1, g2⟩ | ⟨e, -⟩
          · refine j_iconst C d_Sv_solve_80 ?_
            exact j_ret C Z (by decide) d_Sv_solve_81 (hp _ _ ⟨g2, Or.inl ⟨rfl, g1⟩⟩)
          · omega
      · refine j_iload_n C 1 d_Sv_solve_58 rfl rfl ?_
        refine j_callP (As := [jv v]) (rest := [.ref h0]) C (c_Sv_yes _ _ v) lk_Sv_145 rfl (by rw [hR]; decide) hcs d_Sv_solve_59 rfl (Nat.le_of_ble_eq_true rfl) (fun l0 hl0 => ?_)
        have hll : l0 = 2 * v + if S 1 v = 0 then 1 else 0 := by rw [hl0, if_neg y]; omega
        have hdec := Rd.dec q4 e1 e2 e3 e4 hll
        refine j_goto (tgt := 69) C d_Sv_solve_62 (by decide) ?_
        refine j_iconst C d_Sv_solve_69 ?_
        refine j_callV (wr := []) (As := [jv l0, jv (-1)]) (rest := []) (w := sw h0 ad cA) (u0 := (u2 (u2 S 15 (S 17 0) (S 16 0)) 17 0 ((S 17 0) + 1))) C (c_Sv_set _ _ h0 ad cA (u2 (u2 S 15 (S 17 0) (S 16 0)) 17 0 (S 17 0 + 1)) l0 (-1) (by omega) (by omega) (show 0 ≤ S 16 0 by omega) (show S 16 0 < 16 by omega)) (by rw [ht]; exact fun _ h => h) lk_Sv_94 rfl (q0 := 0) rfl rfl (by rw [hR]; decide) hcs d_Sv_solve_70 rfl (Nat.le_of_ble_eq_true rfl) (fun u hu => ?_)
        subst hu
        refine j_aload_n C 0 d_Sv_solve_73 rfl rfl ?_
        refine j_callI (wr := []) (As := []) (rest := []) (w := sw h0 ad cA) (u0 := (setS (u2 (u2 S 15 (S 17 0) (S 16 0)) 17 0 (S 17 0 + 1)) l0 (-1))) C (c_Sv_settle _ _ h0 ad cA Mod (setS (u2 (u2 S 15 (S 17 0) (S 16 0)) 17 0 (S 17 0 + 1)) l0 (-1)) hdec.1) (by rw [ht]; exact fun _ h => h) lk_Sv_138 rfl (q0 := 0) rfl rfl (by rw [hR]; decide) hcs d_Sv_solve_74 rfl (Nat.le_of_ble_eq_true rfl) (fun z u hz => ?_)
        have hzr : rg z := by
          rcases hz with ⟨e, -⟩ | ⟨e, -⟩ <;> exact rgi (by omega) (by omega)
        refine j_if_ne (tgt := 82) C d_Sv_solve_77 (by decide) hzr (fun y2 => ?_) (fun y2 => ?_)
        · rcases hz with ⟨e, -⟩ | ⟨e, g1, g2, g3, g4⟩
          · omega
          have gn := g1.1.n
          have g0 : u 0 0 = S 0 0 := by rw [g3]; rfl
          refine j_aload_n C 0 d_Sv_solve_82 rfl rfl ?_
          have hvr : ∀ x, 0 ≤ x → x < u 0 0 → rg (u 11 x) := fun x x1 x2 => by
            have r := g1.1.a.rng (l := 2 * x) (by omega) (by omega)
            have e2 : vOf (u 11) (2 * x) = u 11 x := by unfold vOf; rw [if_pos (by omega), show 2 * x / 2 = x by omega]
            rw [e2] at r; exact rgi (by omega) (by omega)
          refine j_callI (wr := []) (As := []) (rest := []) (w := sw h0 ad cA) (u0 := u) C (c_Sv_open _ _ h0 ad cA u (by omega) (by omega) hvr) (by rw [ht]; exact fun _ h => h) lk_Sv_142 rfl (q0 := 0) rfl rfl (by rw [hR]; decide) hcs d_Sv_solve_83 rfl (Nat.le_of_ble_eq_true rfl) (fun z2 u2_ ho => ?_)
          obtain ⟨rfl, ho⟩ := ho
          refine j_istore_n (lv' := [(0, .ref h0), (1, jv z2)]) C d_Sv_solve_86 rfl (by rw [hL]; decide) rfl rfl ?_
          refine j_goto (tgt := 21) C d_Sv_solve_87 (by decide) ?_
          exact ih u2_ z2 (by omega) (by rw [g3]; exact q2) (by rw [g4]; exact q3) g1 ho
        · rcases hz with ⟨e, g1, g2⟩ | ⟨e, -⟩
          · refine j_iconst C d_Sv_solve_80 ?_
            exact j_ret C Z (by decide) d_Sv_solve_81 (hp _ _ ⟨g2, Or.inl ⟨rfl, g1⟩⟩)
          · omega
theorem c_Sv_solve (l : Launch) (D : va_G) (h0 : Nat) (ad : Nat → Nat) (cA : Nat → ClassId) (Mod : (Int → Bool) → Prop) (S : Sv) (h : Rd Mod S) (hw : ∀ v, 0 ≤ v → v < S 0 0 → S 1 v = 0 ∨ S 1 v = 1) (hd : S 19 0 = 0 ∨ S 19 0 = 1) : CI l y_Sv_solve b_Sv_solve 2 (some .boolean) 7 D (sty cA) [.ref h0] (sw h0 ad cA) S (fun z u => u 3 0 = 0 ∧ ((S 19 0 = 1 ∧ z = 0) ∨ (S 19 0 = 0 ∧ VZ Mod S z u))) := by
  refine CI.of (by decide) (Nat.le_of_ble_eq_true rfl) (fun K C hR ht hL hcs Z => ?_)
  have C : Ok K R_Sv b_Sv_solve := C
  have L := Ln_Sv (h0 := h0) (ad := ad) ht
  show J K (sw h0 ad cA S) 0 [(0, .ref h0)] []
  refine j_aload_n C 0 d_Sv_solve_0 rfl rfl ?_
  refine s_get C L 19 (by decide) rfl (S 19 0) rfl d_Sv_solve_1 ?_
  refine j_if_ne (tgt := 14) C d_Sv_solve_4 (by decide) (rgi (by omega) (by omega)) (fun x => ?_) (fun x => ?_)
  · refine j_iconst C d_Sv_solve_14 ?_
    exact j_ret C Z (by decide) d_Sv_solve_15 ⟨h.1.cl.1.2.1, Or.inl ⟨by omega, rfl⟩⟩
  · refine j_aload_n C 0 d_Sv_solve_7 rfl rfl ?_
    refine j_callI (wr := []) (As := []) (rest := []) (w := sw h0 ad cA) (u0 := S) C (c_Sv_settle _ _ h0 ad cA Mod S h) (by rw [ht]; exact fun _ h => h) lk_Sv_138 rfl (q0 := 0) rfl rfl (by rw [hR]; decide) hcs d_Sv_solve_8 rfl (Nat.le_of_ble_eq_true rfl) (fun z u hz => ?_)
    have hzr : rg z := by
      rcases hz with ⟨e, -⟩ | ⟨e, -⟩ <;> exact rgi (by omega) (by omega)
    refine j_if_ne (tgt := 16) C d_Sv_solve_11 (by decide) hzr (fun y2 => ?_) (fun y2 => ?_)
    · rcases hz with ⟨e, -⟩ | ⟨e, g1, g2, g3, g4⟩
      · omega
      have gn := g1.1.n
      have hvr : ∀ x, 0 ≤ x → x < u 0 0 → rg (u 11 x) := fun x x1 x2 => by
        have r := g1.1.a.rng (l := 2 * x) (by omega) (by omega)
        have e2 : vOf (u 11) (2 * x) = u 11 x := by unfold vOf; rw [if_pos (by omega), show 2 * x / 2 = x by omega]
        rw [e2] at r; exact rgi (by omega) (by omega)
      refine j_aload_n C 0 d_Sv_solve_16 rfl rfl ?_
      refine j_callI (wr := []) (As := []) (rest := []) (w := sw h0 ad cA) (u0 := u) C (c_Sv_open _ _ h0 ad cA u (by omega) (by omega) hvr) (by rw [ht]; exact fun _ h => h) lk_Sv_142 rfl (q0 := 0) rfl rfl (by rw [hR]; decide) hcs d_Sv_solve_17 rfl (Nat.le_of_ble_eq_true rfl) (fun z2 u2_ ho => ?_)
      obtain ⟨rfl, ho⟩ := ho
      refine j_istore_n (lv' := [(0, .ref h0), (1, jv z2)]) C d_Sv_solve_20 rfl (by rw [hL]; decide) rfl rfl ?_
      exact lp_solve C hR ht hL hcs Z Mod S hw (fun z u q => ⟨q.1, Or.inr ⟨x, q⟩⟩) (827240261886336764177 - ms u2_).toNat u2_ z2 (by omega) g3 g4 g1 ho
    · rcases hz with ⟨e, g1, g2⟩ | ⟨e, -⟩
      · refine j_iconst C d_Sv_solve_14 ?_
        exact j_ret C Z (by decide) d_Sv_solve_15 ⟨g2, Or.inr ⟨x, g2, Or.inl ⟨rfl, g1⟩⟩⟩
      · omega
end
section
/-! begin, add -/
/-- while clauses are added: the formula so far has the models Mod -/
def AI (Mod : (Int → Bool) → Prop) (S : Sv) (k : Int) : Prop :=
  ∃ M0 : (Int → Bool) → Prop, Iv M0 S 0 0 [] ∧ S 17 0 = 0 ∧ S 18 0 = 0 ∧ S 8 0 = 0 ∧ S 6 0 ≤ k ∧ ((S 19 0 = 0 ∧ ∀ μ, M0 μ ↔ Mod μ) ∨ (S 19 0 = 1 ∧ ∀ μ, ¬ Mod μ))
theorem Iv.begin0 {S : Sv} (h0 : 1 ≤ S 0 0 ∧ S 0 0 ≤ 16) (h3 : S 3 0 = 0) (h6 : S 6 0 = 0) (h7 : S 7 0 = 0) (h8 : S 8 0 = 0) (h16 : S 16 0 = 0) (h17 : S 17 0 = 0) (hw : ∀ l, 0 ≤ l → l < 32 → S 10 l = -1) (hv : ∀ v, 0 ≤ v → v < 16 → S 11 v = 0) : Iv (fun _ => True) S 0 0 [] := by
  unfold Iv
  rw [h6, h7, h8, h16, h17]
  exact ⟨h0, ⟨⟨by omega, h3, h3⟩, fun c a b => by omega, fun p a b => by omega, fun c a b => by omega⟩, ⟨by omega, fun i a b => by omega, fun i j a b c => by omega, fun v a b => Or.inl (hv v a (by omega))⟩, ⟨by omega, fun j a b => by omega, fun j k a b c => by omega, fun i a b => by omega⟩, fun i a b => by omega, fun j a b => by omega, ⟨fun μ _ c a b => by omega, fun μ _ i a b => by omega, fun μ _ _ => trivial⟩, ⟨fun c a b => by omega, rfl, by omega, by omega⟩, Wl.nil 0 hw, Tw.none⟩
/-- a clause of one literal that isn't decided yet -/
theorem Iv.unit1 {M0 M1 : (Int → Bool) → Prop} {S : Sv} (h : Iv M0 S 0 0 []) (h17 : S 17 0 = 0) {l : Int} (l0 : 0 ≤ l) (l1 : l < 2 * S 0 0) (hv : S 11 (l / 2) = 0) (hM : ∀ μ, M1 μ ↔ (M0 μ ∧ sat μ l)) : Iv M1 (setS S l (-1)) 0 0 [] := by
  have f16 : up (S 16) 0 (S 16 0 + 1) 0 = S 16 0 + 1 := up_s _ _ _
  have ne : ∀ i, 0 ≤ i → i < S 16 0 → S 14 i / 2 ≠ l / 2 := fun i a b e => by
    have := (h.a.2.1 i a b).2.2
    rw [e, hv] at this
    have := sgn_or (S 14 i); omega
  show (1 ≤ S 0 0 ∧ S 0 0 ≤ 16) ∧ Cl (S 0 0) (S 2) (S 3) (S 6 0) (S 7 0) ∧ TrA (S 0 0) (up (S 11) (l / 2) (sgn l)) (up (S 14) (S 16 0) l) (up (S 16) 0 (S 16 0 + 1) 0) ∧ TrL (up (S 12) (l / 2) (S 17 0)) (up (S 14) (S 16 0) l) (S 15) (up (S 16) 0 (S 16 0 + 1) 0) (S 17 0) ∧ Rs (Inc (S 2) (S 3)) (S 6 0) (up (S 14) (S 16 0) l) (up (S 13) (l / 2) (-1)) (up (S 12) (l / 2) (S 17 0)) (S 15) (up (S 16) 0 (S 16 0 + 1) 0) ∧ De (S 1) (up (S 14) (S 16 0) l) (S 15) (S 17 0) ∧ Se M1 (Inc (S 2) (S 3)) (S 6 0) (S 5) (up (S 14) (S 16 0) l) (up (S 12) (l / 2) (S 17 0)) (up (S 16) 0 (S 16 0 + 1) 0) ∧ Cn (S 5) (S 6 0) (S 8 0) ∧ Wl (wl (S 2) (S 3)) (S 4) (S 10) (S 6 0) 0 [] ∧ Tw (wl (S 2) (S 3)) (up (S 11) (l / 2) (sgn l)) (up (S 12) (l / 2) (S 17 0)) (up (S 14) (S 16 0) l) (S 6 0) 0 []
  rw [f16]
  refine ⟨h.n, h.cl, h.a.set l0 l1 hv, h.l.set h.a hv, h.r.set h.a hv (fun _ _ _ _ => rfl) (fun i a b => (h.l.2.2.2 i a b).1) (Or.inl ⟨rfl, Or.inl h17⟩), h.d.set h.l, ⟨fun μ hm c a b => h.s.1 μ ((hM μ).mp hm).1 c a b, fun μ hm i a b q => ?_, fun μ q1 q2 => (hM μ).mpr ⟨h.s.2.2 μ q1 (fun i a b q => ?_), ?_⟩⟩, h.c, h.w, Tw.none⟩
  · by_cases e : i = S 16 0
    · rw [e, up_s]; exact ((hM μ).mp hm).2
    · have e1 : up (S 14) (S 16 0) l i = S 14 i := up_n _ _ e
      rw [e1] at q ⊢
      rw [up_n _ _ (ne i a (by omega))] at q
      exact h.s.2.1 μ ((hM μ).mp hm).1 i a (by omega) q
  · have := q2 i a (by omega)
    have e1 : up (S 14) (S 16 0) l i = S 14 i := up_n _ _ (by omega)
    rw [e1, up_n _ _ (ne i a b)] at this
    exact this q
  · have := q2 (S 16 0) h.a.1 (by omega)
    rw [up_s, up_s] at this
    exact this h17
/-- xor of two whole numbers -/
def xr (x y : Int) : Int := ((x.toNat ^^^ y.toNat : Nat) : Int)
theorem jI_xr {x y : Int} (hx : 0 ≤ x) (hy : 0 ≤ y) : jI x ^^^ jI y = jI (xr x y) := by
  rw [jI_nI hx, jI_nI hy, nI_xor]; rfl
theorem xr_1 {x y : Int} (hx : 0 ≤ x) (hy : 0 ≤ y) : xr x y = 1 ↔ x = ng y := by
  obtain ⟨a, rfl⟩ := Int.eq_ofNat_of_zero_le hx
  obtain ⟨b, rfl⟩ := Int.eq_ofNat_of_zero_le hy
  have e : ng (b : Int) = ((b ^^^ 1 : Nat) : Int) := by rw [xor_1]; unfold ng; split <;> omega
  rw [e]
  show (((a ^^^ b : Nat)) : Int) = 1 ↔ (a : Int) = ((b ^^^ 1 : Nat) : Int)
  constructor
  · intro h
    have h : a ^^^ b = 1 := by omega
    have : a = b ^^^ 1 := by rw [← h, Nat.xor_comm a b, ← Nat.xor_assoc, Nat.xor_self, Nat.zero_xor]
    omega
  · intro h
    have h : a = b ^^^ 1 := by omega
    rw [h, Nat.xor_comm b 1, Nat.xor_assoc, Nat.xor_self, Nat.xor_zero]; rfl
theorem xr_rg {x y : Int} (hx : 0 ≤ x) (hx2 : x < 32) (hy : 0 ≤ y) (hy2 : y < 32) : rg (xr x y) := by
  have := Nat.xor_lt_two_pow (x := x.toNat) (y := y.toNat) (n := 5) (by omega) (by omega)
  unfold xr
  exact rgi (by omega) (by omega)
/-- whether two that were made up are opposite: of the pairs before (k, j) -/
def AL (made : Int → Int) (mm k j al : Int) : Prop := (al = 0 ∨ al = 1) ∧ (al = 1 → ∃ i i', 0 ≤ i ∧ i < i' ∧ i' < mm ∧ made i' = ng (made i)) ∧ (al = 0 → ∀ i i', 0 ≤ i → i < i' → (i' < k ∨ (i' = k ∧ i < j)) → made i' ≠ ng (made i))
/-- a clause's models -/
def Clm (made : Int → Int) (mm : Int) (μ : Int → Bool) : Prop := ∃ k, 0 ≤ k ∧ k < mm ∧ sat μ (made k)
theorem c_Sv_begin (l : Launch) (D : va_G) (h0 : Nat) (ad : Nat → Nat) (cA : Nat → ClassId) (S : Sv) (n : Int) (h1 : 1 ≤ n) (h2 : n ≤ 16) (h3 : S 3 0 = 0) : CV l y_Sv_begin b_Sv_begin 2 1 D (sty cA) [.ref h0, jv n] (sw h0 ad cA) S (fun u => AI (fun _ => True) u 0 ∧ u 0 0 = n ∧ u 1 = S 1 ∧ u 21 0 = 0) := by
  refine CV.of (by decide) (Nat.le_of_ble_eq_true rfl) (fun K C hR ht hL hcs Z => ?_)
  have C : Ok K R_Sv b_Sv_begin := C
  have L := Ln_Sv (h0 := h0) (ad := ad) ht
  show J K (sw h0 ad cA S) 0 [(0, .ref h0), (1, jv n)] []
  refine j_aload_n C 0 d_Sv_begin_0 rfl rfl ?_
  refine j_iload_n C 1 d_Sv_begin_1 rfl rfl ?_
  refine s_put C L 0 (by decide) rfl rfl rfl d_Sv_begin_2 ?_
  refine j_aload_n C 0 d_Sv_begin_5 rfl rfl ?_
  refine j_iconst C d_Sv_begin_6 ?_
  refine s_put C L 6 (by decide) rfl rfl rfl d_Sv_begin_7 ?_
  refine j_aload_n C 0 d_Sv_begin_10 rfl rfl ?_
  refine j_iconst C d_Sv_begin_11 ?_
  refine s_put C L 7 (by decide) rfl rfl rfl d_Sv_begin_12 ?_
  refine j_aload_n C 0 d_Sv_begin_15 rfl rfl ?_
  refine j_iconst C d_Sv_begin_16 ?_
  refine s_put C L 8 (by decide) rfl rfl rfl d_Sv_begin_17 ?_
  refine j_aload_n C 0 d_Sv_begin_20 rfl rfl ?_
  refine j_iconst C d_Sv_begin_21 ?_
  refine s_put C L 16 (by decide) rfl rfl rfl d_Sv_begin_22 ?_
  refine j_aload_n C 0 d_Sv_begin_25 rfl rfl ?_
  refine j_iconst C d_Sv_begin_26 ?_
  refine s_put C L 17 (by decide) rfl rfl rfl d_Sv_begin_27 ?_
  refine j_aload_n C 0 d_Sv_begin_30 rfl rfl ?_
  refine j_iconst C d_Sv_begin_31 ?_
  refine s_put C L 18 (by decide) rfl rfl rfl d_Sv_begin_32 ?_
  refine j_aload_n C 0 d_Sv_begin_35 rfl rfl ?_
  refine j_iconst C d_Sv_begin_36 ?_
  refine s_putZ C L 19 (by decide) rfl rfl rfl (by omega) d_Sv_begin_37 ?_
  refine j_aload_n C 0 d_Sv_begin_40 rfl rfl ?_
  refine j_iconst C d_Sv_begin_41 ?_
  refine s_put C L 21 (by decide) rfl rfl rfl d_Sv_begin_42 ?_
  refine j_aload_n C 0 d_Sv_begin_45 rfl rfl ?_
  refine s_getA C L 10 (by decide) rfl d_Sv_begin_46 ?_
  refine j_iconst C d_Sv_begin_49 ?_
  refine s_fill10 C ht (by rw [hR]; decide) hcs d_Sv_begin_50 (Nat.le_of_ble_eq_true rfl) ?_
  refine j_aload_n C 0 d_Sv_begin_53 rfl rfl ?_
  refine s_getA C L 11 (by decide) rfl d_Sv_begin_54 ?_
  refine j_iconst C d_Sv_begin_57 ?_
  refine s_fill11 C ht (by rw [hR]; decide) hcs d_Sv_begin_58 (Nat.le_of_ble_eq_true rfl) ?_
  refine j_aload_n C 0 d_Sv_begin_61 rfl rfl ?_
  refine s_getA C L 15 (by decide) rfl d_Sv_begin_62 ?_
  refine j_iconst C d_Sv_begin_65 ?_
  refine j_iconst C d_Sv_begin_66 ?_
  refine s_iast C L 15 17 (by decide) rfl rfl (by omega) (by omega) d_Sv_begin_67 ?_
  have e0 : (u2 (uA (uA (u2 (u2 (u2 (u2 (u2 (u2 (u2 (u2 (u2 S 0 0 n) 6 0 0) 7 0 0) 8 0 0) 16 0 0) 17 0 0) 18 0 0) 19 0 0) 21 0 0) 10 (flt (S 10) 32 (-1))) 11 (flt (S 11) 16 0)) 15 0 0) 0 0 = n := (show up (S 0) 0 n 0 = n by rw [up_s])
  have z : ∀ f : Int → Int, up f 0 0 0 = 0 := fun f => up_s _ _ _
  have h19 : (u2 (uA (uA (u2 (u2 (u2 (u2 (u2 (u2 (u2 (u2 (u2 S 0 0 n) 6 0 0) 7 0 0) 8 0 0) 16 0 0) 17 0 0) 18 0 0) 19 0 0) 21 0 0) 10 (flt (S 10) 32 (-1))) 11 (flt (S 11) 16 0)) 15 0 0) 19 0 = 0 := (show up (S 19) 0 0 0 = 0 from z _)
  refine j_vret C Z d_Sv_begin_68 ⟨⟨fun _ => True, Iv.begin0 (by show 1 ≤ up (S 0) 0 n 0 ∧ up (S 0) 0 n 0 ≤ 16; rw [up_s]; exact ⟨h1, h2⟩) h3 (show up (S 6) 0 0 0 = 0 from z _) (show up (S 7) 0 0 0 = 0 from z _) (show up (S 8) 0 0 0 = 0 from z _) (show up (S 16) 0 0 0 = 0 from z _) (show up (S 17) 0 0 0 = 0 from z _) (fun l a b => ?_) (fun v a b => ?_), (show up (S 17) 0 0 0 = 0 from z _), (show up (S 18) 0 0 0 = 0 from z _), (show up (S 8) 0 0 0 = 0 from z _), Int.le_of_eq (show up (S 6) 0 0 0 = 0 from z _), Or.inl ⟨h19, fun μ => Iff.rfl⟩⟩, e0, rfl, (show up (S 21) 0 0 0 = 0 from z _)⟩
  · show flt (S 10) 32 (-1) l = -1
    unfold flt; rw [if_pos ⟨a, b⟩]
  · show flt (S 11) 16 0 v = 0
    unfold flt; rw [if_pos ⟨a, b⟩]
theorem lp_add2 {K : Cx} {h0 : Nat} {ad : Nat → Nat} {cA : Nat → ClassId} (C : Ok K R_Sv b_Sv_add) (hR : xR K = rmL 5) (ht : xt K = sty cA) (hL : xL K = 4) (hcs : xn K ≤ (xR K).cells ∧ xk K ≤ (xR K).slots) (S : Sv) (hm : 0 ≤ S 21 0 ∧ S 21 0 ≤ 32) (hmr : ∀ i, 0 ≤ i → i < S 21 0 → 0 ≤ S 20 i ∧ S 20 i < 32) (k : Int) (k0 : 0 ≤ k) (k1 : k < S 21 0) (kk : ∀ al, AL (S 20) (S 21 0) (k + 1) 0 al → J K (sw h0 ad cA S) 50 [(0, .ref h0), (1, jv al), (2, jv k), (3, jv k)] []) :
    ∀ (n : Nat) (al j : Int), k - j < n → 0 ≤ j → j ≤ k → AL (S 20) (S 21 0) k j al → J K (sw h0 ad cA S) 14 [(0, .ref h0), (1, jv al), (2, jv k), (3, jv j)] [] := by
  have L := Ln_Sv (h0 := h0) (ad := ad) ht
  intro n
  induction n with
  | zero => intro al j q1; omega
  | succ n ih =>
    intro al j q1 q2 q3 hA
    obtain ⟨a1, a2, a3⟩ := id hA
    refine j_iload_n C 3 d_Sv_add_14 rfl rfl ?_
    refine j_iload_n C 2 d_Sv_add_15 rfl rfl ?_
    refine j_icmp_ge (tgt := 50) C d_Sv_add_16 (by decide) (rgi (by omega) (by omega)) (rgi (by omega) (by omega)) (fun x => ?_) (fun x => ?_)
    · have e : j = k := by omega
      subst e
      exact kk al ⟨a1, a2, fun q i i' b1 b2 b3 => a3 q i i' b1 b2 (by omega)⟩
    · have lk := hmr k k0 k1
      have lj := hmr j q2 (by omega)
      refine j_iload_n C 1 d_Sv_add_19 rfl rfl ?_
      refine j_aload_n C 0 d_Sv_add_20 rfl rfl ?_
      refine s_getA C L 20 (by decide) rfl d_Sv_add_21 ?_
      refine j_iload_n C 2 d_Sv_add_24 rfl rfl ?_
      refine s_iald C L 20 32 (by decide) rfl rfl (S 20 k) rfl (by omega) (by omega) d_Sv_add_25 ?_
      refine j_aload_n C 0 d_Sv_add_26 rfl rfl ?_
      refine s_getA C L 20 (by decide) rfl d_Sv_add_27 ?_
      refine j_iload_n C 3 d_Sv_add_30 rfl rfl ?_
      refine s_iald C L 20 32 (by decide) rfl rfl (S 20 j) rfl (by omega) (by omega) d_Sv_add_31 ?_
      refine j_ixor C d_Sv_add_32 (z := xr (S 20 k) (S 20 j)) (jI_xr lk.1 lj.1) ?_
      refine j_iconst C d_Sv_add_33 ?_
      refine j_icmp_ne (tgt := 41) C d_Sv_add_34 (by decide) (xr_rg lk.1 lk.2 lj.1 lj.2) (rgi (by omega) (by omega)) (fun y => ?_) (fun y => ?_)
      · refine j_iconst C d_Sv_add_41 ?_
        refine j_ior C d_Sv_add_42 (z := al) (by rcases a1 with e | e <;> subst e <;> decide) ?_
        refine j_istore_n (lv' := [(0, .ref h0), (1, jv al), (2, jv k), (3, jv j)]) C d_Sv_add_43 rfl (by rw [hL]; decide) rfl rfl ?_
        refine j_iinc (lv' := [(0, .ref h0), (1, jv al), (2, jv k), (3, jv (j + 1))]) C 3 d_Sv_add_44 rfl (by rw [hL]; decide) rfl rfl ?_
        refine j_goto (tgt := 14) C d_Sv_add_47 (by decide) ?_
        exact ih al (j + 1) (by omega) (by omega) (by omega) ⟨a1, a2, fun q i i' b1 b2 b3 => by
          by_cases e : i' = k ∧ i = j
          · rw [e.1, e.2]; exact fun z => y ((xr_1 lk.1 lj.1).mpr z)
          · exact a3 q i i' b1 b2 (by omega)⟩
      · refine j_iconst C d_Sv_add_37 ?_
        refine j_goto (tgt := 42) C d_Sv_add_38 (by decide) ?_
        refine j_ior C d_Sv_add_42 (z := 1) (by rcases a1 with e | e <;> subst e <;> decide) ?_
        refine j_istore_n (lv' := [(0, .ref h0), (1, jv 1), (2, jv k), (3, jv j)]) C d_Sv_add_43 rfl (by rw [hL]; decide) rfl rfl ?_
        refine j_iinc (lv' := [(0, .ref h0), (1, jv 1), (2, jv k), (3, jv (j + 1))]) C 3 d_Sv_add_44 rfl (by rw [hL]; decide) rfl rfl ?_
        refine j_goto (tgt := 14) C d_Sv_add_47 (by decide) ?_
        exact ih 1 (j + 1) (by omega) (by omega) (by omega) ⟨Or.inr rfl, fun _ => ⟨j, k, q2, by omega, k1, (xr_1 lk.1 lj.1).mp y⟩, fun q => absurd q (by decide)⟩
theorem lp_add1 {K : Cx} {h0 : Nat} {ad : Nat → Nat} {cA : Nat → ClassId} (C : Ok K R_Sv b_Sv_add) (hR : xR K = rmL 5) (ht : xt K = sty cA) (hL : xL K = 4) (hcs : xn K ≤ (xR K).cells ∧ xk K ≤ (xR K).slots) (S : Sv) (hm : 0 ≤ S 21 0 ∧ S 21 0 ≤ 32) (hmr : ∀ i, 0 ≤ i → i < S 21 0 → 0 ≤ S 20 i ∧ S 20 i < 32) (kk : ∀ al, AL (S 20) (S 21 0) (S 21 0) 0 al → J K (sw h0 ad cA S) 56 [(0, .ref h0), (1, jv al)] []) :
    ∀ (n : Nat) (al k : Int), S 21 0 - k < n → 0 ≤ k → k ≤ S 21 0 → AL (S 20) (S 21 0) k 0 al → J K (sw h0 ad cA S) 4 [(0, .ref h0), (1, jv al), (2, jv k)] [] := by
  have L := Ln_Sv (h0 := h0) (ad := ad) ht
  intro n
  induction n with
  | zero => intro al k q1; omega
  | succ n ih =>
    intro al k q1 q2 q3 hA
    refine j_iload_n C 2 d_Sv_add_4 rfl rfl ?_
    refine j_aload_n C 0 d_Sv_add_5 rfl rfl ?_
    refine s_get C L 21 (by decide) rfl (S 21 0) rfl d_Sv_add_6 ?_
    refine j_icmp_ge (tgt := 56) C d_Sv_add_9 (by decide) (rgi (by omega) (by omega)) (rgi (by omega) (by omega)) (fun x => ?_) (fun x => ?_)
    · have e : k = S 21 0 := by omega
      subst e
      refine j_sub [0, 1] rfl ?_
      exact kk al hA
    · refine j_iconst C d_Sv_add_12 ?_
      refine j_istore_n (lv' := [(0, .ref h0), (1, jv al), (2, jv k), (3, jv 0)]) C d_Sv_add_13 rfl (by rw [hL]; decide) rfl rfl ?_
      refine lp_add2 C hR ht hL hcs S hm hmr k q2 (by omega) (fun al1 h1 => ?_) k.toNat.succ al 0 (by omega) (by omega) (by omega) hA
      refine j_iinc (lv' := [(0, .ref h0), (1, jv al1), (2, jv (k + 1)), (3, jv k)]) C 2 d_Sv_add_50 rfl (by rw [hL]; decide) rfl rfl ?_
      refine j_goto (tgt := 4) C d_Sv_add_53 (by decide) ?_
      refine j_sub [0, 1, 2] rfl ?_
      exact ih al1 (k + 1) (by omega) (by omega) (by omega) h1
/-- what add leaves -/
def AZ (Mod : (Int → Bool) → Prop) (S : Sv) (k : Int) (u : Sv) : Prop := AI (fun μ => Mod μ ∧ Clm (S 20) (S 21 0) μ) u (k + 1) ∧ u 0 = S 0 ∧ u 1 = S 1 ∧ u 21 0 = 0
theorem c_Sv_add (l : Launch) (D : va_G) (h0 : Nat) (ad : Nat → Nat) (cA : Nat → ClassId) (Mod : (Int → Bool) → Prop) (S : Sv) (k : Int) (hk : k < 400) (h : AI Mod S k) (hm : 0 ≤ S 21 0 ∧ S 21 0 ≤ 32) (hmr : ∀ i, 0 ≤ i → i < S 21 0 → 0 ≤ S 20 i ∧ S 20 i < 2 * S 0 0) (hnd : ∀ i j, 0 ≤ i → i < j → j < S 21 0 → S 20 i ≠ S 20 j) : CV l y_Sv_add b_Sv_add 4 5 D (sty cA) [.ref h0] (sw h0 ad cA) S (fun u => AZ Mod S k u) := by
  refine CV.of (by decide) (Nat.le_of_ble_eq_true rfl) (fun K C hR ht hL hcs Z => ?_)
  have C : Ok K R_Sv b_Sv_add := C
  have L := Ln_Sv (h0 := h0) (ad := ad) ht
  show J K (sw h0 ad cA S) 0 [(0, .ref h0)] []
  obtain ⟨M0, hI, h17, h18, h8, h6, hdd⟩ := h
  have hn := hI.n
  have rn := hI.rng
  refine j_iconst C d_Sv_add_0 ?_
  refine j_istore_n (lv' := [(0, .ref h0), (1, jv 0)]) C d_Sv_add_1 rfl (by rw [hL]; decide) rfl rfl ?_
  refine j_iconst C d_Sv_add_2 ?_
  refine j_istore_n (lv' := [(0, .ref h0), (1, jv 0), (2, jv 0)]) C d_Sv_add_3 rfl (by rw [hL]; decide) rfl rfl ?_
  refine lp_add1 C hR ht hL hcs S hm (fun i a b => by have := hmr i a b; omega) (fun al hA => ?_) (S 21 0).toNat.succ 0 0 (by omega) (by omega) hm.1 ⟨Or.inl rfl, fun q => absurd q (by decide), fun _ i i' a b c => by omega⟩
  have a1 := hA.1
  -- nothing changes, and nothing is to be changed
  have same : (∀ μ, Mod μ → Clm (S 20) (S 21 0) μ) → AZ Mod S k (u2 S 21 0 0) := fun hcl => by
    refine ⟨⟨M0, hI, h17, h18, h8, (show S 6 0 ≤ k + 1 by omega), ?_⟩, rfl, rfl, u2_ss _ _ _ _⟩
    rcases hdd with ⟨d1, d2⟩ | ⟨d1, d2⟩
    · exact Or.inl ⟨d1, fun μ => (d2 μ).trans ⟨fun q => ⟨q, hcl μ q⟩, fun q => q.1⟩⟩
    · exact Or.inr ⟨d1, fun μ q => d2 μ q.1⟩
  -- no model is left
  have none_ : (∀ μ, Mod μ → ¬ Clm (S 20) (S 21 0) μ) → AZ Mod S k (u2 (u2 S 19 0 1) 21 0 0) := fun hcl => by
    refine ⟨⟨M0, hI, h17, h18, h8, (show S 6 0 ≤ k + 1 by omega), Or.inr ⟨(show up (S 19) 0 1 0 = 1 by rw [up_s]), fun μ q => hcl μ q.1 q.2⟩⟩, rfl, rfl, u2_ss _ _ _ _⟩
  have d01 : S 19 0 = 0 ∨ S 19 0 = 1 := by rcases hdd with ⟨d1, -⟩ | ⟨d1, -⟩ <;> omega
  refine j_iload_n C 1 d_Sv_add_56 rfl rfl ?_
  refine j_if_ne (tgt := 72) C d_Sv_add_57 (by decide) (rgi (by omega) (by omega)) (fun x => ?_) (fun x => ?_)
  · have al1 : al = 1 := by omega
    obtain ⟨i, i', i0, i1, i2, i3⟩ := hA.2.1 al1
    have hcl : ∀ μ, Mod μ → Clm (S 20) (S 21 0) μ := fun μ _ => by
      by_cases q : sat μ (S 20 i)
      · exact ⟨i, i0, by omega, q⟩
      · exact ⟨i', by omega, i2, by rw [i3, sat_ng]; exact q⟩
    refine j_iload_n C 1 d_Sv_add_72 rfl rfl ?_
    refine j_if_ne (tgt := 132) C d_Sv_add_73 (by decide) (rgi (by omega) (by omega)) (fun x1 => ?_) (fun x1 => ?_)
    · refine j_iload_n C 1 d_Sv_add_132 rfl rfl ?_
      refine j_if_ne (tgt := 150) C d_Sv_add_133 (by decide) (rgi (by omega) (by omega)) (fun x2 => ?_) (fun x2 => ?_)
      · refine j_aload_n C 0 d_Sv_add_150 rfl rfl ?_
        refine j_iconst C d_Sv_add_151 ?_
        refine s_put C L 21 (by decide) rfl rfl rfl d_Sv_add_152 ?_
        exact j_vret C Z d_Sv_add_155 (same hcl)
      · omega
    · omega
  · have al0 : al = 0 := by omega
    refine j_aload_n C 0 d_Sv_add_60 rfl rfl ?_
    refine s_get C L 21 (by decide) rfl (S 21 0) rfl d_Sv_add_61 ?_
    refine j_if_ne (tgt := 72) C d_Sv_add_64 (by decide) (rgi (by omega) (by omega)) (fun y => ?_) (fun y => ?_)
    · refine j_iload_n C 1 d_Sv_add_72 rfl rfl ?_
      refine j_if_ne (tgt := 132) C d_Sv_add_73 (by decide) (rgi (by omega) (by omega)) (fun x1 => ?_) (fun x1 => ?_)
      · omega
      · refine j_aload_n C 0 d_Sv_add_76 rfl rfl ?_
        refine s_get C L 21 (by decide) rfl (S 21 0) rfl d_Sv_add_77 ?_
        refine j_iconst C d_Sv_add_80 ?_
        refine j_icmp_ne (tgt := 132) C d_Sv_add_81 (by decide) (rgi (by omega) (by omega)) (rgi (by omega) (by omega)) (fun y1 => ?_) (fun y1 => ?_)
        · refine j_iload_n C 1 d_Sv_add_132 rfl rfl ?_
          refine j_if_ne (tgt := 150) C d_Sv_add_133 (by decide) (rgi (by omega) (by omega)) (fun x2 => ?_) (fun x2 => ?_)
          · omega
          · refine j_aload_n C 0 d_Sv_add_136 rfl rfl ?_
            refine s_get C L 21 (by decide) rfl (S 21 0) rfl d_Sv_add_137 ?_
            refine j_iconst C d_Sv_add_140 ?_
            refine j_icmp_le (tgt := 150) C d_Sv_add_141 (by decide) (rgi (by omega) (by omega)) (rgi (by omega) (by omega)) (fun y2 => ?_) (fun y2 => ?_)
            · omega
            · have dis : ∀ i j, 0 ≤ i → i < j → j < S 21 0 → S 20 i / 2 ≠ S 20 j / 2 := fun i j q1 q2 q3 e => by
                rcases lit_two e with z | z
                · exact hnd i j q1 q2 q3 z
                · exact hA.2.2 al0 i j q1 q2 (by omega) (by rw [z, ng_ng])
              have mm16 : S 21 0 ≤ S 0 0 := pigZ (f := fun i => S 20 i / 2) (by omega) (fun i q1 q2 => by have := hmr i q1 q2; show 0 ≤ S 20 i / 2 ∧ S 20 i / 2 < S 0 0; omega) dis
              have hMk : Mk (S 0 0) (S 20) (S 21 0) := ⟨by omega, by omega, hmr, dis⟩
              refine j_aload_n C 0 d_Sv_add_144 rfl rfl ?_
              refine j_iconst C d_Sv_add_145 ?_
              refine j_callI (wr := []) (As := [jv 0]) (rest := []) (w := sw h0 ad cA) (u0 := S) C (c_Sv_keep _ _ h0 ad cA M0 (fun μ => M0 μ ∧ Clm (S 20) (S 21 0) μ) S 0 0 hI (Or.inl rfl) (fun q => absurd q (by decide)) hMk (fun _ => by omega) (fun μ q => q) (fun μ q1 q2 => ⟨q1, q2 rfl⟩)) (by rw [ht]; exact fun _ h => h) lk_Sv_98 rfl (q0 := 0) rfl rfl (by rw [hR]; decide) hcs d_Sv_add_146 rfl (Nat.le_of_ble_eq_true rfl) (fun z u hz => ?_)
              refine j_pop C d_Sv_add_149 rfl ?_
              refine j_aload_n C 0 d_Sv_add_150 rfl rfl ?_
              refine j_iconst C d_Sv_add_151 ?_
              refine s_put C L 21 (by decide) rfl rfl rfl d_Sv_add_152 ?_
              obtain ⟨z1, z2, z3, z4, z5, z6, z7, z8⟩ := hz
              have o : ∀ k, k ≠ 2 → k ≠ 3 → k ≠ 4 → k ≠ 5 → k ≠ 6 → k ≠ 7 → k ≠ 8 → k ≠ 9 → k ≠ 10 → k ≠ 13 → u k = S k := z8
              have o17 : u 17 = S 17 := o 17 (by decide) (by decide) (by decide) (by decide) (by decide) (by decide) (by decide) (by decide) (by decide) (by decide)
              have o18 : u 18 = S 18 := o 18 (by decide) (by decide) (by decide) (by decide) (by decide) (by decide) (by decide) (by decide) (by decide) (by decide)
              have o19 : u 19 = S 19 := o 19 (by decide) (by decide) (by decide) (by decide) (by decide) (by decide) (by decide) (by decide) (by decide) (by decide)
              have z7 := z7 rfl
              refine j_vret C Z d_Sv_add_155 ⟨⟨fun μ => M0 μ ∧ Clm (S 20) (S 21 0) μ, z1.iv Tw.none, by show u 17 0 = 0; rw [o17]; exact h17, by show u 18 0 = 0; rw [o18]; exact h18, by show u 8 0 = 0; rw [z7.2]; exact h8, by show u 6 0 ≤ k + 1; omega, ?_⟩, o 0 (by decide) (by decide) (by decide) (by decide) (by decide) (by decide) (by decide) (by decide) (by decide) (by decide), o 1 (by decide) (by decide) (by decide) (by decide) (by decide) (by decide) (by decide) (by decide) (by decide) (by decide), u2_ss _ _ _ _⟩
              show (u 19 0 = 0 ∧ _) ∨ (u 19 0 = 1 ∧ _)
              rw [o19]
              rcases hdd with ⟨d1, d2⟩ | ⟨d1, d2⟩
              · exact Or.inl ⟨d1, fun μ => ⟨fun q => ⟨(d2 μ).mp q.1, q.2⟩, fun q => ⟨(d2 μ).mpr q.1, q.2⟩⟩⟩
              · exact Or.inr ⟨d1, fun μ q => d2 μ q.1⟩
        · have l0 := hmr 0 (by omega) (by omega)
          have vr := hI.a.rng l0.1 l0.2
          have vrg : rg (vOf (S 11) (S 20 0)) := rgi (by omega) (by omega)
          have one : ∀ μ, Clm (S 20) (S 21 0) μ ↔ sat μ (S 20 0) := fun μ => ⟨fun ⟨i, q1, q2, q3⟩ => by rw [show i = 0 by omega] at q3; exact q3, fun q => ⟨0, by omega, by omega, q⟩⟩
          refine j_aload_n C 0 d_Sv_add_84 rfl rfl ?_
          refine j_aload_n C 0 d_Sv_add_85 rfl rfl ?_
          refine s_getA C L 20 (by decide) rfl d_Sv_add_86 ?_
          refine j_iconst C d_Sv_add_89 ?_
          refine s_iald C L 20 32 (by decide) rfl rfl (S 20 0) rfl (by omega) (by omega) d_Sv_add_90 ?_
          refine j_callI (wr := []) (As := [jv (S 20 0)]) (rest := []) (w := sw h0 ad cA) (u0 := S) C (c_Sv_valueOf _ _ h0 ad cA S (S 20 0) l0.1 (by omega)) (by rw [ht]; exact fun _ h => h) lk_Sv_90 rfl (q0 := 0) rfl rfl (by rw [hR]; decide) hcs d_Sv_add_91 rfl (Nat.le_of_ble_eq_true rfl) (fun z u hz => ?_)
          obtain ⟨rfl, rfl⟩ := hz
          refine j_if_ge (tgt := 105) C d_Sv_add_94 (by decide) vrg (fun y2 => ?_) (fun y2 => ?_)
          · refine j_aload_n C 0 d_Sv_add_105 rfl rfl ?_
            refine j_aload_n C 0 d_Sv_add_106 rfl rfl ?_
            refine s_getA C L 20 (by decide) rfl d_Sv_add_107 ?_
            refine j_iconst C d_Sv_add_110 ?_
            refine s_iald C L 20 32 (by decide) rfl rfl (u 20 0) rfl (by omega) (by omega) d_Sv_add_111 ?_
            refine j_callI (wr := []) (As := [jv (u 20 0)]) (rest := []) (w := sw h0 ad cA) (u0 := u) C (c_Sv_valueOf _ _ h0 ad cA u (u 20 0) l0.1 (by omega)) (by rw [ht]; exact fun _ h => h) lk_Sv_90 rfl (q0 := 0) rfl rfl (by rw [hR]; decide) hcs d_Sv_add_112 rfl (Nat.le_of_ble_eq_true rfl) (fun z u5 hz => ?_)
            obtain ⟨rfl, rfl⟩ := hz
            refine j_if_ne (tgt := 150) C d_Sv_add_115 (by decide) vrg (fun y3 => ?_) (fun y3 => ?_)
            · refine j_aload_n C 0 d_Sv_add_150 rfl rfl ?_
              refine j_iconst C d_Sv_add_151 ?_
              refine s_put C L 21 (by decide) rfl rfl rfl d_Sv_add_152 ?_
              refine j_vret C Z d_Sv_add_155 ?_
              rcases hdd with ⟨d1, d2⟩ | ⟨d1, d2⟩
              · refine same (fun μ hm => (one μ).mpr ?_)
                obtain ⟨i, i0, i1, i2⟩ := (hI.a.t l0.1 l0.2).mp (by omega)
                have lv := hI.l.2.2.2 i i0 i1
                rw [← i2]; exact hI.s.2.1 μ ((d2 μ).mpr hm) i i0 i1 (by omega)
              · exact same (fun μ hm => absurd hm (d2 μ))
            · have hrm := hI.a.room (by omega) (v := u5 20 0 / 2) (by omega) (by omega) (vOf_0.mp y3)
              refine j_aload_n C 0 d_Sv_add_118 rfl rfl ?_
              refine j_aload_n C 0 d_Sv_add_119 rfl rfl ?_
              refine s_getA C L 20 (by decide) rfl d_Sv_add_120 ?_
              refine j_iconst C d_Sv_add_123 ?_
              refine s_iald C L 20 32 (by decide) rfl rfl (u5 20 0) rfl (by omega) (by omega) d_Sv_add_124 ?_
              refine j_iconst C d_Sv_add_125 ?_
              refine j_callV (wr := []) (As := [jv (u5 20 0), jv (-1)]) (rest := []) (w := sw h0 ad cA) (u0 := u5) C (c_Sv_set _ _ h0 ad cA u5 (u5 20 0) (-1) l0.1 (by omega) (by omega) (by omega)) (by rw [ht]; exact fun _ h => h) lk_Sv_94 rfl (q0 := 0) rfl rfl (by rw [hR]; decide) hcs d_Sv_add_126 rfl (Nat.le_of_ble_eq_true rfl) (fun u6 hu => ?_)
              subst hu
              refine j_goto (tgt := 150) C d_Sv_add_129 (by decide) ?_
              refine j_aload_n C 0 d_Sv_add_150 rfl rfl ?_
              refine j_iconst C d_Sv_add_151 ?_
              refine s_put C L 21 (by decide) rfl rfl rfl d_Sv_add_152 ?_
              refine j_vret C Z d_Sv_add_155 ⟨⟨fun μ => M0 μ ∧ sat μ (u5 20 0), hI.unit1 h17 l0.1 l0.2 (vOf_0.mp y3) (fun μ => Iff.rfl), h17, h18, h8, (show u5 6 0 ≤ k + 1 by omega), ?_⟩, rfl, rfl, u2_ss _ _ _ _⟩
              rcases hdd with ⟨d1, d2⟩ | ⟨d1, d2⟩
              · exact Or.inl ⟨d1, fun μ => ⟨fun q => ⟨(d2 μ).mp q.1, (one μ).mpr q.2⟩, fun q => ⟨(d2 μ).mpr q.1, (one μ).mp q.2⟩⟩⟩
              · exact Or.inr ⟨d1, fun μ q => d2 μ q.1⟩
          · refine j_aload_n C 0 d_Sv_add_97 rfl rfl ?_
            refine j_iconst C d_Sv_add_98 ?_
            refine s_putZ C L 19 (by decide) rfl rfl rfl (by omega) d_Sv_add_99 ?_
            refine j_goto (tgt := 150) C d_Sv_add_102 (by decide) ?_
            refine j_aload_n C 0 d_Sv_add_150 rfl rfl ?_
            refine j_iconst C d_Sv_add_151 ?_
            refine s_put C L 21 (by decide) rfl rfl rfl d_Sv_add_152 ?_
            refine j_vret C Z d_Sv_add_155 (none_ (fun μ hm hc => ?_))
            rcases hdd with ⟨d1, d2⟩ | ⟨d1, d2⟩
            · obtain ⟨i, i0, i1, i2⟩ := (hI.a.f l0.1 l0.2).mp (by omega)
              have lv := hI.l.2.2.2 i i0 i1
              have := hI.s.2.1 μ ((d2 μ).mpr hm) i i0 i1 (by omega)
              rw [i2, sat_ng] at this
              exact this ((one μ).mp hc)
            · exact d2 μ hm
    · refine j_aload_n C 0 d_Sv_add_67 rfl rfl ?_
      refine j_iconst C d_Sv_add_68 ?_
      refine s_putZ C L 19 (by decide) rfl rfl rfl (by omega) d_Sv_add_69 ?_
      refine j_iload_n C 1 d_Sv_add_72 rfl rfl ?_
      refine j_if_ne (tgt := 132) C d_Sv_add_73 (by decide) (rgi (by omega) (by omega)) (fun x1 => ?_) (fun x1 => ?_)
      · omega
      · refine j_aload_n C 0 d_Sv_add_76 rfl rfl ?_
        refine s_get C L 21 (by decide) rfl (S 21 0) rfl d_Sv_add_77 ?_
        refine j_iconst C d_Sv_add_80 ?_
        refine j_icmp_ne (tgt := 132) C d_Sv_add_81 (by decide) (rgi (by omega) (by omega)) (rgi (by omega) (by omega)) (fun y1 => ?_) (fun y1 => ?_)
        · refine j_iload_n C 1 d_Sv_add_132 rfl rfl ?_
          refine j_if_ne (tgt := 150) C d_Sv_add_133 (by decide) (rgi (by omega) (by omega)) (fun x2 => ?_) (fun x2 => ?_)
          · omega
          · refine j_aload_n C 0 d_Sv_add_136 rfl rfl ?_
            refine s_get C L 21 (by decide) rfl (S 21 0) rfl d_Sv_add_137 ?_
            refine j_iconst C d_Sv_add_140 ?_
            refine j_icmp_le (tgt := 150) C d_Sv_add_141 (by decide) (rgi (by omega) (by omega)) (rgi (by omega) (by omega)) (fun y2 => ?_) (fun y2 => ?_)
            · refine j_aload_n C 0 d_Sv_add_150 rfl rfl ?_
              refine j_iconst C d_Sv_add_151 ?_
              refine s_put C L 21 (by decide) rfl rfl rfl d_Sv_add_152 ?_
              exact j_vret C Z d_Sv_add_155 (none_ (fun μ _ ⟨i, q1, q2, _⟩ => by omega))
            · omega
        · omega
end
section
/-! the outer class, the model: layouts and rows; switches; raw ints -/
def Y_Ou : Lay := (1, 10, (fun k => match k with | 0 => true | 1 => true | 2 => true | 7 => true | _ => false), [1, 2, 7], (fun k => match k with | 7 => 16 | _ => 400), (fun k => match k with | 7 => .boolean | _ => .int))
theorem Y_Ou_ok : LayOk Y_Ou := ⟨by decide, by decide, R_Ou, F_Ou, rfl⟩
theorem Ln_Ou {tys : List (ClassId × FieldType)} {h0 : Nat} {ad : Nat → Nat} {cA : Nat → ClassId} (h : tys = oty Y_Ou cA) : Ln (ow Y_Ou h0 ad cA) tys Y_Ou h0 ad cA := Ln_own Y_Ou_ok (fun q hq => h ▸ hq)
def Y_Mo : Lay := (2, 9, (fun k => match k with | 1 => true | 2 => true | 3 => true | _ => false), [1, 2, 3], (fun k => match k with | 1 => 16 | _ => 400), (fun k => match k with | 1 => .boolean | _ => .int))
theorem Y_Mo_ok : LayOk Y_Mo := ⟨by decide, by decide, R_Mo, F_Mo, rfl⟩
theorem Ln_Mo {tys : List (ClassId × FieldType)} {h0 : Nat} {ad : Nat → Nat} {cA : Nat → ClassId} (h : tys = oty Y_Mo cA) : Ln (ow Y_Mo h0 ad cA) tys Y_Mo h0 ad cA := Ln_own Y_Mo_ok (fun q hq => h ▸ hq)
section ROWS
variable {K : Cx} {cc : ByteArray} {w : Sv → va_W} {S : Sv} {pc : Nat} {lv : List (Nat × Value)} {st : List Value} {h0 : Nat} {ad : Nat → Nat} {cA : Nat → ClassId}
theorem o_get (C : Ok K R_Ou cc) (L : Ln w (xt K) Y_Ou h0 ad cA) (k : Nat) (hk : k < 10) (hr : Y_Ou.2.2.1 k = false) (v : Int) (hv : S k 0 = v) (hd : decode cc pc = .ok (.getfield (ix_Ou k), 3)) (kk : J K (w S) (pc + 3) lv (jv v :: st)) : J K (w S) pc lv (.ref h0 :: st) := j_get C L rfl i_Ou k hk hr (k_Ou k hk) hv hd kk
theorem o_getA (C : Ok K R_Ou cc) (L : Ln w (xt K) Y_Ou h0 ad cA) (k : Nat) (hk : k < 10) (hr : Y_Ou.2.2.1 k = true) (hd : decode cc pc = .ok (.getfield (ix_Ou k), 3)) (kk : J K (w S) (pc + 3) lv (.ref (ad k) :: st)) : J K (w S) pc lv (.ref h0 :: st) := j_getA C L rfl i_Ou k hk hr (k_Ou k hk) hd kk
theorem o_put (C : Ok K R_Ou cc) (L : Ln w (xt K) Y_Ou h0 ad cA) (k : Nat) (hk : k < 10) (hr : Y_Ou.2.2.1 k = false) (hf : (F_Ou k).2.2.2 = false) (ht : t_Ou k = .int) {x : Int} (hd : decode cc pc = .ok (.putfield (ix_Ou k), 3)) (kk : J K (w (u2 S k 0 x)) (pc + 3) lv st) : J K (w S) pc lv (jv x :: .ref h0 :: st) := j_put C L rfl i_Ou t_Ou t_Ou_ok n_Ou k hk hr (k_Ou k hk) hf (by rw [ht]; rfl) (by rw [ht]; rfl) hd kk
theorem o_putZ (C : Ok K R_Ou cc) (L : Ln w (xt K) Y_Ou h0 ad cA) (k : Nat) (hk : k < 10) (hr : Y_Ou.2.2.1 k = false) (hf : (F_Ou k).2.2.2 = false) (ht : t_Ou k = .boolean) {x : Int} (hx : x = 0 ∨ x = 1) (hd : decode cc pc = .ok (.putfield (ix_Ou k), 3)) (kk : J K (w (u2 S k 0 x)) (pc + 3) lv st) : J K (w S) pc lv (jv x :: .ref h0 :: st) := j_put C L rfl i_Ou t_Ou t_Ou_ok n_Ou k hk hr (k_Ou k hk) hf (by rw [ht]; exact (bz hx).1) (by rw [ht]; exact (bz hx).2) hd kk
theorem o_iald (C : Ok K R_Ou cc) (L : Ln w (xt K) Y_Ou h0 ad cA) (k n : Nat) (hk : k ∈ Y_Ou.2.2.2.1) (ht : Y_Ou.2.2.2.2.2 k = .int) (hn : Y_Ou.2.2.2.2.1 k = n) {i : Int} (v : Int) (hv : S k i = v) (h1 : 0 ≤ i) (h2 : i < (n : Int)) (hd : decode cc pc = .ok (.iaload, 1)) (kk : J K (w S) (pc + 1) lv (jv v :: st)) : J K (w S) pc lv (jv i :: .ref (ad k) :: st) := j_iald C L k hk ht h1 (by rw [hn]; exact h2) (Y_Ou_ok.2.1 k hk).2 hv hd kk
theorem o_zald (C : Ok K R_Ou cc) (L : Ln w (xt K) Y_Ou h0 ad cA) (k n : Nat) (hk : k ∈ Y_Ou.2.2.2.1) (ht : Y_Ou.2.2.2.2.2 k = .boolean) (hn : Y_Ou.2.2.2.2.1 k = n) {i : Int} (v : Int) (hv : S k i = v) (h1 : 0 ≤ i) (h2 : i < (n : Int)) (hd : decode cc pc = .ok (.baload, 1)) (kk : J K (w S) (pc + 1) lv (jv v :: st)) : J K (w S) pc lv (jv i :: .ref (ad k) :: st) := j_zald C L k hk ht h1 (by rw [hn]; exact h2) (Y_Ou_ok.2.1 k hk).2 hv hd kk
theorem o_iast (C : Ok K R_Ou cc) (L : Ln w (xt K) Y_Ou h0 ad cA) (k n : Nat) (hk : k ∈ Y_Ou.2.2.2.1) (ht : Y_Ou.2.2.2.2.2 k = .int) (hn : Y_Ou.2.2.2.2.1 k = n) {i x : Int} (h1 : 0 ≤ i) (h2 : i < (n : Int)) (hd : decode cc pc = .ok (.iastore, 1)) (kk : J K (w (u2 S k i x)) (pc + 1) lv st) : J K (w S) pc lv (jv x :: jv i :: .ref (ad k) :: st) := j_iast C L k hk ht h1 (by rw [hn]; exact h2) (Y_Ou_ok.2.1 k hk).2 hd kk
theorem o_zast (C : Ok K R_Ou cc) (L : Ln w (xt K) Y_Ou h0 ad cA) (k n : Nat) (hk : k ∈ Y_Ou.2.2.2.1) (ht : Y_Ou.2.2.2.2.2 k = .boolean) (hn : Y_Ou.2.2.2.2.1 k = n) {i x : Int} (h1 : 0 ≤ i) (h2 : i < (n : Int)) (hx : x = 0 ∨ x = 1) (hd : decode cc pc = .ok (.bastore, 1)) (kk : J K (w (u2 S k i x)) (pc + 1) lv st) : J K (w S) pc lv (jv x :: jv i :: .ref (ad k) :: st) := j_zast C L k hk ht h1 (by rw [hn]; exact h2) (Y_Ou_ok.2.1 k hk).2 hx hd kk
end ROWS
section ROWS
variable {K : Cx} {cc : ByteArray} {w : Sv → va_W} {S : Sv} {pc : Nat} {lv : List (Nat × Value)} {st : List Value} {h0 : Nat} {ad : Nat → Nat} {cA : Nat → ClassId}
theorem m_get (C : Ok K R_Mo cc) (L : Ln w (xt K) Y_Mo h0 ad cA) (k : Nat) (hk : k < 9) (hr : Y_Mo.2.2.1 k = false) (v : Int) (hv : S k 0 = v) (hd : decode cc pc = .ok (.getfield (ix_Mo k), 3)) (kk : J K (w S) (pc + 3) lv (jv v :: st)) : J K (w S) pc lv (.ref h0 :: st) := j_get C L rfl i_Mo k hk hr (k_Mo k hk) hv hd kk
theorem m_getA (C : Ok K R_Mo cc) (L : Ln w (xt K) Y_Mo h0 ad cA) (k : Nat) (hk : k < 9) (hr : Y_Mo.2.2.1 k = true) (hd : decode cc pc = .ok (.getfield (ix_Mo k), 3)) (kk : J K (w S) (pc + 3) lv (.ref (ad k) :: st)) : J K (w S) pc lv (.ref h0 :: st) := j_getA C L rfl i_Mo k hk hr (k_Mo k hk) hd kk
theorem m_put (C : Ok K R_Mo cc) (L : Ln w (xt K) Y_Mo h0 ad cA) (k : Nat) (hk : k < 9) (hr : Y_Mo.2.2.1 k = false) (hf : (F_Mo k).2.2.2 = false) (ht : t_Mo k = .int) {x : Int} (hd : decode cc pc = .ok (.putfield (ix_Mo k), 3)) (kk : J K (w (u2 S k 0 x)) (pc + 3) lv st) : J K (w S) pc lv (jv x :: .ref h0 :: st) := j_put C L rfl i_Mo t_Mo t_Mo_ok n_Mo k hk hr (k_Mo k hk) hf (by rw [ht]; rfl) (by rw [ht]; rfl) hd kk
theorem m_putZ (C : Ok K R_Mo cc) (L : Ln w (xt K) Y_Mo h0 ad cA) (k : Nat) (hk : k < 9) (hr : Y_Mo.2.2.1 k = false) (hf : (F_Mo k).2.2.2 = false) (ht : t_Mo k = .boolean) {x : Int} (hx : x = 0 ∨ x = 1) (hd : decode cc pc = .ok (.putfield (ix_Mo k), 3)) (kk : J K (w (u2 S k 0 x)) (pc + 3) lv st) : J K (w S) pc lv (jv x :: .ref h0 :: st) := j_put C L rfl i_Mo t_Mo t_Mo_ok n_Mo k hk hr (k_Mo k hk) hf (by rw [ht]; exact (bz hx).1) (by rw [ht]; exact (bz hx).2) hd kk
theorem m_iald (C : Ok K R_Mo cc) (L : Ln w (xt K) Y_Mo h0 ad cA) (k n : Nat) (hk : k ∈ Y_Mo.2.2.2.1) (ht : Y_Mo.2.2.2.2.2 k = .int) (hn : Y_Mo.2.2.2.2.1 k = n) {i : Int} (v : Int) (hv : S k i = v) (h1 : 0 ≤ i) (h2 : i < (n : Int)) (hd : decode cc pc = .ok (.iaload, 1)) (kk : J K (w S) (pc + 1) lv (jv v :: st)) : J K (w S) pc lv (jv i :: .ref (ad k) :: st) := j_iald C L k hk ht h1 (by rw [hn]; exact h2) (Y_Mo_ok.2.1 k hk).2 hv hd kk
theorem m_zald (C : Ok K R_Mo cc) (L : Ln w (xt K) Y_Mo h0 ad cA) (k n : Nat) (hk : k ∈ Y_Mo.2.2.2.1) (ht : Y_Mo.2.2.2.2.2 k = .boolean) (hn : Y_Mo.2.2.2.2.1 k = n) {i : Int} (v : Int) (hv : S k i = v) (h1 : 0 ≤ i) (h2 : i < (n : Int)) (hd : decode cc pc = .ok (.baload, 1)) (kk : J K (w S) (pc + 1) lv (jv v :: st)) : J K (w S) pc lv (jv i :: .ref (ad k) :: st) := j_zald C L k hk ht h1 (by rw [hn]; exact h2) (Y_Mo_ok.2.1 k hk).2 hv hd kk
theorem m_iast (C : Ok K R_Mo cc) (L : Ln w (xt K) Y_Mo h0 ad cA) (k n : Nat) (hk : k ∈ Y_Mo.2.2.2.1) (ht : Y_Mo.2.2.2.2.2 k = .int) (hn : Y_Mo.2.2.2.2.1 k = n) {i x : Int} (h1 : 0 ≤ i) (h2 : i < (n : Int)) (hd : decode cc pc = .ok (.iastore, 1)) (kk : J K (w (u2 S k i x)) (pc + 1) lv st) : J K (w S) pc lv (jv x :: jv i :: .ref (ad k) :: st) := j_iast C L k hk ht h1 (by rw [hn]; exact h2) (Y_Mo_ok.2.1 k hk).2 hd kk
theorem m_zast (C : Ok K R_Mo cc) (L : Ln w (xt K) Y_Mo h0 ad cA) (k n : Nat) (hk : k ∈ Y_Mo.2.2.2.1) (ht : Y_Mo.2.2.2.2.2 k = .boolean) (hn : Y_Mo.2.2.2.2.1 k = n) {i x : Int} (h1 : 0 ≤ i) (h2 : i < (n : Int)) (hx : x = 0 ∨ x = 1) (hd : decode cc pc = .ok (.bastore, 1)) (kk : J K (w (u2 S k i x)) (pc + 1) lv st) : J K (w S) pc lv (jv x :: jv i :: .ref (ad k) :: st) := j_zast C L k hk ht h1 (by rw [hn]; exact h2) (Y_Mo_ok.2.1 k hk).2 hx hd kk
end ROWS
section ROWS
variable {K : Cx} {own : String} {cc : ByteArray} {ws : va_W} {pc : Nat} {lv : List (Nat × Value)} {st : List Value}
theorem j_tabIn (C : Ok K own cc) {dflt lo hi : Int} {offs : Array Int} {len : Nat} {x : Int} {off : Int} {tgt : Nat} (hd : decode cc pc = .ok (.tableswitch dflt lo hi offs, len)) (hx : rg x) (h1 : lo ≤ x) (h2 : x ≤ hi) (ho : offs[(x - lo).toNat]? = some off) (ht : (pc : Int) + off = (tgt : Int)) (kk : J K ws tgt lv st) : J K ws pc lv (jv x :: st) := fun H locs ls hP hD hS hl => lv_tableIn C.1 C.2.1 hd (by rw [jI_toInt hx]; omega) (by rw [jI_toInt hx]; omega) (by rw [jI_toInt hx]; exact ho) ht (kk H locs ls hP hD hS hl)
theorem j_tabOut (C : Ok K own cc) {dflt lo hi : Int} {offs : Array Int} {len : Nat} {x : Int} {tgt : Nat} (hd : decode cc pc = .ok (.tableswitch dflt lo hi offs, len)) (hx : rg x) (h1 : x < lo ∨ hi < x) (ht : (pc : Int) + dflt = (tgt : Int)) (kk : J K ws tgt lv st) : J K ws pc lv (jv x :: st) := fun H locs ls hP hD hS hl => lv_tableOut C.1 C.2.1 hd (by rw [jI_toInt hx]; exact h1) ht (kk H locs ls hP hD hS hl)
theorem r_iadd (C : Ok K own cc) {x y : Int32} (hd : decode cc pc = .ok (.iadd, 1)) (kk : J K ws (pc + 1) lv (.int (x + y) :: st)) : J K ws pc lv (.int y :: .int x :: st) := fun H locs ls hP hD hS hl => lv_iadd C.1 C.2.1 hd (kk H locs ls hP hD hS hl)
theorem r_isub (C : Ok K own cc) {x y : Int32} (hd : decode cc pc = .ok (.isub, 1)) (kk : J K ws (pc + 1) lv (.int (x - y) :: st)) : J K ws pc lv (.int y :: .int x :: st) := fun H locs ls hP hD hS hl => lv_isub C.1 C.2.1 hd (kk H locs ls hP hD hS hl)
theorem r_iand (C : Ok K own cc) {x y : Int32} (hd : decode cc pc = .ok (.iand, 1)) (kk : J K ws (pc + 1) lv (.int (x &&& y) :: st)) : J K ws pc lv (.int y :: .int x :: st) := fun H locs ls hP hD hS hl => lv_iand C.1 C.2.1 hd (kk H locs ls hP hD hS hl)
theorem r_iushr (C : Ok K own cc) {x y v : Int32} (hd : decode cc pc = .ok (.iushr, 1)) (hv : (x.toUInt32 >>> (y.toUInt32 &&& Int32.toUInt32 31)).toInt32 = v) (kk : J K ws (pc + 1) lv (.int v :: st)) : J K ws pc lv (.int y :: .int x :: st) := fun H locs ls hP hD hS hl => lv_iushr C.1 C.2.1 hd hv (kk H locs ls hP hD hS hl)
theorem r_ldcw (C : Ok K own cc) {index : Nat} {v : Int32} (hc : Cond.constant own index v ∈ tblG) (hd : decode cc pc = .ok (.ldc_w index, 3)) (kk : J K ws (pc + 3) lv (.int v :: st)) : J K ws pc lv st := fun H locs ls hP hD hS hl => lv_ldcw C.1 C.2.1 C.2.2.2.1 (C.2.2.2.2.1 _ hc) hd (kk H locs ls hP hD hS hl)
end ROWS
/-! bits of masks -/
def p2 (n : Int) : Int := ((2 ^ n.toNat : Nat) : Int)
def bit (x v : Int) : Prop := x / p2 v % 2 = 1
def orI (x y : Int) : Int := ((x.toNat ||| y.toNat : Nat) : Int)
theorem nI_or (a b : Nat) : nI a ||| nI b = nI (a ||| b) := by
  apply Int32.toBitVec_inj.mp
  show BitVec.ofNat 32 a ||| BitVec.ofNat 32 b = BitVec.ofNat 32 (a ||| b)
  exact BitVec.ofNat_or.symm
theorem jI_or {x y : Int} (hx : 0 ≤ x) (hy : 0 ≤ y) : jI x ||| jI y = jI (orI x y) := by
  rw [jI_nI hx, jI_nI hy, nI_or]; rfl
theorem p2_pos (n : Int) : 1 ≤ p2 n := by
  have := Nat.one_le_two_pow (n := n.toNat)
  unfold p2; omega
theorem p2_le {a b : Int} (h : a ≤ b) : p2 a ≤ p2 b := by
  have := Nat.pow_le_pow_right (n := 2) (by decide) (show a.toNat ≤ b.toNat by omega)
  unfold p2; omega
theorem p2_16 {n : Int} (h : n ≤ 16) : p2 n ≤ 65536 := p2_le (b := 16) h
theorem p2_s {n : Int} (h : 0 ≤ n) : p2 (n + 1) = 2 * p2 n := by
  unfold p2
  rw [show (n + 1).toNat = n.toNat + 1 by omega, Nat.pow_succ]; omega
theorem orI_lt {x y n : Int} (hx : 0 ≤ x) (hx2 : x < p2 n) (hy : 0 ≤ y) (hy2 : y < p2 n) : 0 ≤ orI x y ∧ orI x y < p2 n := by
  have := Nat.or_lt_two_pow (x := x.toNat) (y := y.toNat) (n := n.toNat) (by unfold p2 at hx2; omega) (by unfold p2 at hy2; omega)
  unfold orI p2; omega
theorem jI_shl1 : ∀ v : Nat, v < 17 → jI 1 <<< (jI (v : Int) &&& 31) = jI ((2 ^ v : Nat) : Int) := by decide +kernel
theorem jI_shl {v : Int} (h : 0 ≤ v) (h2 : v ≤ 16) : jI 1 <<< (jI v &&& 31) = jI (p2 v) := by
  have := jI_shl1 v.toNat (by omega)
  rw [show ((v.toNat : Nat) : Int) = v by omega] at this
  exact this
/-- a mask of the first n bits -/
theorem jI_mask {n : Int} (h : 0 ≤ n) (h2 : n ≤ 16) (x : Int) : jI x &&& jI (p2 n - 1) = jI (x % p2 n) := by
  have hm : (jI (p2 n - 1)).toBitVec.toNat = 2 ^ n.toNat - 1 := by
    have h1 := p2_pos n
    have h3 := p2_16 h2
    rw [jI_nI (by omega), pk_tn (by omega)]
    unfold p2; omega
  rw [pk_and (jI x) n.toNat hm]
  have e1 : (jI x).toBitVec = BitVec.ofInt 32 x := rfl
  rw [e1, BitVec.toNat_ofInt]
  have h5 : 0 ≤ x % p2 n := Int.emod_nonneg _ (by have := p2_pos n; omega)
  rw [jI_nI h5]
  congr 1
  have d : (2 ^ n.toNat : Nat) ∣ (2 ^ 32 : Nat) := Nat.pow_dvd_pow 2 (by omega)
  have h6 : ((x % ((2 ^ 32 : Nat) : Int)).toNat : Int) = x % ((2 ^ 32 : Nat) : Int) := by
    have := Int.emod_nonneg x (b := ((2 ^ 32 : Nat) : Int)) (by decide)
    omega
  have h7 : ((x % ((2 ^ 32 : Nat) : Int)).toNat % 2 ^ n.toNat : Nat) = (x % p2 n).toNat := by
    have : ((((x % ((2 ^ 32 : Nat) : Int)).toNat % 2 ^ n.toNat : Nat)) : Int) = x % p2 n := by
      rw [Int.natCast_emod, h6]
      exact Int.emod_emod_of_dvd x (Int.natCast_dvd_natCast.mpr d)
    omega
  exact h7
theorem shr_s : ∀ n, n < 32 → ((nI n &&& 31).toBitVec.smod 32).toNat = n := by decide
theorem jI_shr {x v : Int} (hx : 0 ≤ x) (hx2 : x < 2147483648) (h : 0 ≤ v) (h2 : v < 32) : jI x >>> (jI v &&& 31) = jI (x / p2 v) := by
  rw [jI_nI hx, jI_nI h, pk_shrN (by omega) _ v.toNat (shr_s _ (by omega)), jI_nI (Int.ediv_nonneg hx (by have := p2_pos v; omega))]
  congr 1
  have : (((x.toNat / 2 ^ v.toNat : Nat)) : Int) = x / p2 v := by
    rw [Int.natCast_ediv]
    unfold p2
    rw [show ((x.toNat : Nat) : Int) = x by omega]
  rw [← this, Int.toNat_natCast]
theorem jI_and1' {x : Int} (h : 0 ≤ x) (h2 : x < 2147483648) : jI x &&& jI 1 = jI (x % 2) := jI_and1 h h2
/-- how many bits -/
def pcnt (x : Int) : Int := cnt (fun k => x / p2 k % 2) 16
end
section
/-! Integer.bitCount; the model's bits -/
theorem land_split (a b m k : Nat) (hb : b < 256) (hk : k < 256) : (256 * a + b) &&& (256 * m + k) = 256 * (a &&& m) + (b &&& k) := by
  have h1 := Nat.and_div_two_pow (a := 256 * a + b) (b := 256 * m + k) (n := 8)
  have h2 := Nat.and_mod_two_pow (a := 256 * a + b) (b := 256 * m + k) (n := 8)
  rw [show (256 * a + b) / 2 ^ 8 = a by omega, show (256 * m + k) / 2 ^ 8 = m by omega] at h1
  rw [show (256 * a + b) % 2 ^ 8 = b by omega, show (256 * m + k) % 2 ^ 8 = k by omega] at h2
  omega
def s1 (b : Nat) : Nat := b - (b / 2 &&& 85)
def s2 (b : Nat) : Nat := (s1 b &&& 51) + (s1 b / 4 &&& 51)
def p8 (b : Nat) : Nat := b % 2 + b / 2 % 2 + b / 4 % 2 + b / 8 % 2 + b / 16 % 2 + b / 32 % 2 + b / 64 % 2 + b / 128 % 2
theorem f_1 : ∀ b, b < 256 → (b / 2 &&& 85) ≤ b ∧ s1 b < 256 ∧ (b / 2 &&& 5592405) = (b / 2 &&& 85) := by decide +kernel
theorem f_2 : ∀ b, b < 256 → ∀ t, t < 2 → (128 * t + b / 2 &&& 85) = (b / 2 &&& 85) := by decide +kernel
theorem f_3 : ∀ b, b < 256 → (b &&& 3355443) = (b &&& 51) ∧ (b / 4 &&& 3355443) = (b / 4 &&& 51) := by decide +kernel
theorem f_4 : ∀ b, b < 256 → ∀ t, t < 4 → (64 * t + b / 4 &&& 51) = (b / 4 &&& 51) := by decide +kernel
theorem f_5 : ∀ b, b < 256 → s2 b < 69 ∧ s2 b % 16 ≤ 4 ∧ (s2 b + s2 b / 16 &&& 986895) = p8 b ∧ (s2 b + s2 b / 16) % 16 = p8 b ∧ p8 b ≤ 8 := by decide +kernel
def swN (n : Nat) : Nat :=
  let x1 := n - ((n / 2) &&& 1431655765)
  let x2 := (x1 &&& 858993459) + ((x1 / 4) &&& 858993459)
  let x3 := (x2 + x2 / 16) &&& 252645135
  let x4 := x3 + x3 / 256
  let x5 := x4 + x4 / 65536
  x5 &&& 63
theorem sw_1 {a b : Nat} (ha : a < 256) (hb : b < 256) : (256 * a + b) - (((256 * a + b) / 2) &&& 1431655765) = 256 * s1 a + s1 b ∧ (((256 * a + b) / 2) &&& 1431655765) ≤ 256 * a + b := by
  have e : ((256 * a + b) / 2) &&& 1431655765 = 256 * (a / 2 &&& 85) + (b / 2 &&& 85) := by
    rw [show (256 * a + b) / 2 = 256 * (a / 2) + (128 * (a % 2) + b / 2) by omega, show (1431655765 : Nat) = 256 * 5592405 + 85 by rfl, land_split _ _ _ _ (by omega) (by decide), (f_1 a ha).2.2, f_2 b hb _ (by omega)]
  have h1 := (f_1 a ha).1
  have h2 := (f_1 b hb).1
  rw [e]
  unfold s1
  omega
theorem sw_2 {a b : Nat} (ha : a < 256) (hb : b < 256) : ((256 * s1 a + s1 b) &&& 858993459) + (((256 * s1 a + s1 b) / 4) &&& 858993459) = 256 * s2 a + s2 b := by
  have h1 := (f_1 a ha).2.1
  have h2 := (f_1 b hb).2.1
  rw [show (256 * s1 a + s1 b) / 4 = 256 * (s1 a / 4) + (64 * (s1 a % 4) + s1 b / 4) by omega, show (858993459 : Nat) = 256 * 3355443 + 51 by rfl, land_split _ _ _ _ h2 (by decide), land_split _ _ _ _ (by omega) (by decide), (f_3 _ h1).1, (f_3 _ h1).2, f_4 _ h2 _ (by omega)]
  unfold s2; omega
theorem sw_3 {a b : Nat} (ha : a < 256) (hb : b < 256) : ((256 * s2 a + s2 b) + (256 * s2 a + s2 b) / 16) &&& 252645135 = 256 * p8 a + p8 b := by
  have h1 := f_5 a ha
  have h2 := f_5 b hb
  rw [show (256 * s2 a + s2 b) + (256 * s2 a + s2 b) / 16 = 256 * (s2 a + s2 a / 16) + (16 * (s2 a % 16) + (s2 b + s2 b / 16)) by omega, show (252645135 : Nat) = 256 * 986895 + 15 by rfl, land_split _ _ _ _ (by omega) (by decide), h1.2.2.1]
  have e := Nat.and_two_pow_sub_one_eq_mod (16 * (s2 a % 16) + (s2 b + s2 b / 16)) 4
  have e2 : 16 * (s2 a % 16) + (s2 b + s2 b / 16) &&& 15 = (16 * (s2 a % 16) + (s2 b + s2 b / 16)) % 16 := e
  rw [e2]; omega
theorem sw_pc {a b : Nat} (ha : a < 256) (hb : b < 256) : swN (256 * a + b) = p8 a + p8 b := by
  have h1 := f_5 a ha
  have h2 := f_5 b hb
  unfold swN
  simp only [(sw_1 ha hb).1, sw_2 ha hb, sw_3 ha hb]
  rw [show 256 * p8 a + p8 b + (256 * p8 a + p8 b) / 256 = 256 * p8 a + p8 b + p8 a by omega, show (256 * p8 a + p8 b + p8 a) / 65536 = 0 by omega]
  have e := Nat.and_two_pow_sub_one_eq_mod (256 * p8 a + p8 b + p8 a + 0) 6
  have e2 : 256 * p8 a + p8 b + p8 a + 0 &&& 63 = (256 * p8 a + p8 b + p8 a + 0) % 64 := e
  rw [e2]; omega
theorem pcnt_split {n : Nat} (h : n < 65536) : pcnt (n : Int) = ((p8 (n / 256) + p8 (n % 256) : Nat) : Int) := by
  have q : ∀ k : Nat, ((n : Int) / p2 (k : Int)) % 2 = ((n / 2 ^ k % 2 : Nat) : Int) := fun k => by
    unfold p2
    rw [show ((k : Int)).toNat = k by omega, Int.natCast_emod, Int.natCast_ediv]; rfl
  unfold pcnt
  simp only [cnt, q]
  have a0 : n / 1 % 2 = n % 256 % 2 := by omega
  have a1 : n / 2 % 2 = n % 256 / 2 % 2 := by omega
  have a2 : n / 4 % 2 = n % 256 / 4 % 2 := by omega
  have a3 : n / 8 % 2 = n % 256 / 8 % 2 := by omega
  have a4 : n / 16 % 2 = n % 256 / 16 % 2 := by omega
  have a5 : n / 32 % 2 = n % 256 / 32 % 2 := by omega
  have a6 : n / 64 % 2 = n % 256 / 64 % 2 := by omega
  have a7 : n / 128 % 2 = n % 256 / 128 % 2 := by omega
  have a8 : n / 256 % 2 = n / 256 % 2 := by omega
  have a9 : n / 512 % 2 = n / 256 / 2 % 2 := by omega
  have a10 : n / 1024 % 2 = n / 256 / 4 % 2 := by omega
  have a11 : n / 2048 % 2 = n / 256 / 8 % 2 := by omega
  have a12 : n / 4096 % 2 = n / 256 / 16 % 2 := by omega
  have a13 : n / 8192 % 2 = n / 256 / 32 % 2 := by omega
  have a14 : n / 16384 % 2 = n / 256 / 64 % 2 := by omega
  have a15 : n / 32768 % 2 = n / 256 / 128 % 2 := by omega
  simp only [Nat.reducePow]
  rw [a0, a1, a2, a3, a4, a5, a6, a7, a8, a9, a10, a11, a12, a13, a14, a15]
  unfold p8
  generalize n % 256 % 2 = z0
  generalize n % 256 / 2 % 2 = z1
  generalize n % 256 / 4 % 2 = z2
  generalize n % 256 / 8 % 2 = z3
  generalize n % 256 / 16 % 2 = z4
  generalize n % 256 / 32 % 2 = z5
  generalize n % 256 / 64 % 2 = z6
  generalize n % 256 / 128 % 2 = z7
  generalize n / 256 % 2 = y0
  generalize n / 256 / 2 % 2 = y1
  generalize n / 256 / 4 % 2 = y2
  generalize n / 256 / 8 % 2 = y3
  generalize n / 256 / 16 % 2 = y4
  generalize n / 256 / 32 % 2 = y5
  generalize n / 256 / 64 % 2 = y6
  generalize n / 256 / 128 % 2 = y7
  omega
theorem swN_pcnt {n : Nat} (h : n < 65536) : ((swN n : Nat) : Int) = pcnt (n : Int) := by
  have := sw_pc (a := n / 256) (b := n % 256) (by omega) (by omega)
  rw [show 256 * (n / 256) + n % 256 = n by omega] at this
  rw [this, pcnt_split h]
theorem ush_s : ∀ n, n < 32 → (((nI n).toUInt32 &&& Int32.toUInt32 31).toBitVec % 32).toNat = n := by decide
theorem nI_andN {a b : Nat} : nI a &&& nI b = nI (a &&& b) := by
  apply Int32.toBitVec_inj.mp
  show BitVec.ofNat 32 a &&& BitVec.ofNat 32 b = BitVec.ofNat 32 (a &&& b)
  exact BitVec.ofNat_and.symm
set_option maxRecDepth 20000 in
theorem k_In : ∀ q ∈ ([.constant "java/lang/Integer" 265 1431655765, .constant "java/lang/Integer" 266 858993459, .constant "java/lang/Integer" 267 252645135] : List Cond), q ∈ tblG := by decide +kernel
theorem c_In_bitCount (l : Launch) (D : va_G) (a : Int) (h0 : 0 ≤ a) (h1 : a < 65536) : CI l y_In_bitCount b_In_bitCount 1 (some .int) 0 D [] [jv a] (fun _ : Unit => []) () (fun z _ => z = pcnt a) := by
  refine CI.of (by decide) (Nat.le_of_ble_eq_true rfl) (fun K C hR ht hL hcs Z => ?_)
  have C : Ok K "java/lang/Integer" b_In_bitCount := C
  show J K [] 0 [(0, jv a)] []
  obtain ⟨n, rfl⟩ := Int.eq_ofNat_of_zero_le h0
  have hn : n < 65536 := by omega
  have b1 := (sw_1 (a := n / 256) (b := n % 256) (by omega) (by omega))
  rw [show 256 * (n / 256) + n % 256 = n by omega] at b1
  have f1a := (f_1 (n / 256) (by omega)).2.1
  have f1b := (f_1 (n % 256) (by omega)).2.1
  have f5a := f_5 (n / 256) (by omega)
  have f5b := f_5 (n % 256) (by omega)
  have b2 := sw_2 (a := n / 256) (b := n % 256) (by omega) (by omega)
  have b3 := sw_3 (a := n / 256) (b := n % 256) (by omega) (by omega)
  show J K [] 0 [(0, .int (nI n))] []
  refine j_iload_n C 0 d_In_bitCount_0 rfl rfl ?_
  refine j_iload_n C 0 d_In_bitCount_1 rfl rfl ?_
  refine j_iconst C d_In_bitCount_2 ?_
  refine r_iushr C d_In_bitCount_3 (pk_ushrN (n := n) (by omega) (nI 1) 1 (ush_s 1 (by decide))) ?_
  refine r_ldcw (v := 1431655765) C (k_In _ (by simp)) d_In_bitCount_4 ?_
  refine r_iand C d_In_bitCount_7 ?_
  refine r_isub C d_In_bitCount_8 ?_
  rw [show nI n - (nI (n / 2 ^ 1) &&& 1431655765) = nI (256 * s1 (n / 256) + s1 (n % 256)) by rw [show (1431655765 : Int32) = nI 1431655765 from rfl, nI_andN, show n / 2 ^ 1 = n / 2 from rfl, pk_sub b1.2, b1.1]]
  generalize hx1 : 256 * s1 (n / 256) + s1 (n % 256) = x1 at b2 ⊢
  refine j_istore_n (lv' := [(0, .int (nI x1))]) C d_In_bitCount_9 rfl (by rw [hL]; decide) rfl rfl ?_
  refine j_iload_n C 0 d_In_bitCount_10 rfl rfl ?_
  refine r_ldcw (v := 858993459) C (k_In _ (by simp)) d_In_bitCount_11 ?_
  refine r_iand C d_In_bitCount_14 ?_
  refine j_iload_n C 0 d_In_bitCount_15 rfl rfl ?_
  refine j_iconst C d_In_bitCount_16 ?_
  refine r_iushr C d_In_bitCount_17 (pk_ushrN (n := x1) (by omega) (nI 2) 2 (ush_s 2 (by decide))) ?_
  refine r_ldcw (v := 858993459) C (k_In _ (by simp)) d_In_bitCount_18 ?_
  refine r_iand C d_In_bitCount_21 ?_
  refine r_iadd C d_In_bitCount_22 ?_
  rw [show (nI x1 &&& 858993459) + (nI (x1 / 2 ^ 2) &&& 858993459) = nI (256 * s2 (n / 256) + s2 (n % 256)) by rw [show (858993459 : Int32) = nI 858993459 from rfl, nI_andN, nI_andN, nI_add, show x1 / 2 ^ 2 = x1 / 4 from rfl, b2]]
  generalize hx2 : 256 * s2 (n / 256) + s2 (n % 256) = x2 at b3 ⊢
  refine j_istore_n (lv' := [(0, .int (nI x2))]) C d_In_bitCount_23 rfl (by rw [hL]; decide) rfl rfl ?_
  refine j_iload_n C 0 d_In_bitCount_24 rfl rfl ?_
  refine j_iload_n C 0 d_In_bitCount_25 rfl rfl ?_
  refine j_iconst C d_In_bitCount_26 ?_
  refine r_iushr C d_In_bitCount_27 (pk_ushrN (n := x2) (by omega) (nI 4) 4 (ush_s 4 (by decide))) ?_
  refine r_iadd C d_In_bitCount_28 ?_
  refine r_ldcw (v := 252645135) C (k_In _ (by simp)) d_In_bitCount_29 ?_
  refine r_iand C d_In_bitCount_32 ?_
  rw [show (nI x2 + nI (x2 / 2 ^ 4)) &&& 252645135 = nI (256 * p8 (n / 256) + p8 (n % 256)) by rw [show (252645135 : Int32) = nI 252645135 from rfl, nI_add, nI_andN, show x2 / 2 ^ 4 = x2 / 16 from rfl, b3]]
  generalize hx3 : 256 * p8 (n / 256) + p8 (n % 256) = x3 at ⊢
  refine j_istore_n (lv' := [(0, .int (nI x3))]) C d_In_bitCount_33 rfl (by rw [hL]; decide) rfl rfl ?_
  refine j_iload_n C 0 d_In_bitCount_34 rfl rfl ?_
  refine j_iload_n C 0 d_In_bitCount_35 rfl rfl ?_
  refine j_bipush C d_In_bitCount_36 (by decide) ?_
  refine r_iushr C d_In_bitCount_38 (pk_ushrN (n := x3) (by omega) (nI 8) 8 (ush_s 8 (by decide))) ?_
  refine r_iadd C d_In_bitCount_39 ?_
  rw [nI_add]
  generalize hx4 : x3 + x3 / 2 ^ 8 = x4 at ⊢
  refine j_istore_n (lv' := [(0, .int (nI x4))]) C d_In_bitCount_40 rfl (by rw [hL]; decide) rfl rfl ?_
  refine j_iload_n C 0 d_In_bitCount_41 rfl rfl ?_
  refine j_iload_n C 0 d_In_bitCount_42 rfl rfl ?_
  refine j_bipush C d_In_bitCount_43 (by decide) ?_
  refine r_iushr C d_In_bitCount_45 (pk_ushrN (n := x4) (by omega) (nI 16) 16 (ush_s 16 (by decide))) ?_
  refine r_iadd C d_In_bitCount_46 ?_
  rw [nI_add]
  generalize hx5 : x4 + x4 / 2 ^ 16 = x5 at ⊢
  refine j_istore_n (lv' := [(0, .int (nI x5))]) C d_In_bitCount_47 rfl (by rw [hL]; decide) rfl rfl ?_
  refine j_iload_n C 0 d_In_bitCount_48 rfl rfl ?_
  refine j_bipush C d_In_bitCount_49 (by decide) ?_
  refine r_iand C d_In_bitCount_51 ?_
  have hfin : nI x5 &&& jI 63 = jI (pcnt (n : Int)) := by
    rw [show jI 63 = nI 63 from rfl, nI_andN, ← swN_pcnt hn]
    have e2 : x5 &&& 63 = x5 % 64 := Nat.and_two_pow_sub_one_eq_mod x5 6
    have e3 := sw_pc (a := n / 256) (b := n % 256) (by omega) (by omega)
    rw [show 256 * (n / 256) + n % 256 = n by omega] at e3
    rw [e2, e3]
    show nI (x5 % 64) = nI _
    congr 1
    have pa := f5a.2.2.2.2
    have pb := f5b.2.2.2.2
    have y4 : x4 = 257 * p8 (n / 256) + p8 (n % 256) := by
      rw [← hx4, ← hx3, show (256 * p8 (n / 256) + p8 (n % 256)) / 2 ^ 8 = p8 (n / 256) by omega]; omega
    have y5 : x5 = x4 := by rw [← hx5, show x4 / 2 ^ 16 = 0 by rw [y4]; omega]; rfl
    rw [y5, y4]; omega
  rw [hfin]
  exact j_ret (w := fun _ : Unit => []) (u := ()) C Z rfl d_In_bitCount_52 rfl
theorem lp_Mo_bits {K : Cx} {post : Int → Unit → Prop} (C : Ok K R_Mo b_Mo_bits) (hL : xL K = 3) (Z : RI K .int (fun _ : Unit => []) post) (a : Int) (h0 : 0 ≤ a) (h1 : a < 65536) (hp : post (pcnt a) ()) : ∀ (m k : Nat), 16 - k < m → k ≤ 16 → J K [] 4 [(0, jv a), (1, jv (cnt (fun k => a / p2 k % 2) k)), (2, jv (k : Int))] [] := by
  intro m
  induction m with
  | zero => intro k q; omega
  | succ m ih =>
    intro k q1 q2
    refine j_iload_n C 2 d_Mo_bits_4 rfl rfl ?_
    refine j_bipush C d_Mo_bits_5 (by decide) ?_
    refine j_icmp_ge (tgt := 24) C d_Mo_bits_7 (by decide) (rgi (by omega) (by omega)) (rgi (by omega) (by omega)) (fun c => ?_) (fun c => ?_)
    · have e : k = 16 := by omega
      subst e
      refine j_iload_n C 1 d_Mo_bits_24 rfl rfl ?_
      exact j_ret (w := fun _ : Unit => []) (u := ()) C Z rfl d_Mo_bits_25 hp
    · have hd0 : 0 ≤ a / p2 (k : Int) := Int.ediv_nonneg h0 (by have := p2_pos (k : Int); omega)
      have hd1 : a / p2 (k : Int) ≤ a := Int.ediv_le_self _ h0
      refine j_iload_n C 1 d_Mo_bits_10 rfl rfl ?_
      refine j_iload_n C 0 d_Mo_bits_11 rfl rfl ?_
      refine j_iload_n C 2 d_Mo_bits_12 rfl rfl ?_
      refine j_ishr C d_Mo_bits_13 (z := a / p2 (k : Int)) (jI_shr h0 (by omega) (by omega) (by omega)) ?_
      refine j_iconst C d_Mo_bits_14 ?_
      refine j_iand C d_Mo_bits_15 (jI_and1 (by omega) (by omega)) ?_
      refine j_iadd C d_Mo_bits_16 ?_
      refine j_istore_n (lv' := [(0, jv a), (1, jv ((cnt (fun k => a / p2 k % 2) k) + ((a / p2 (k : Int)) % 2))), (2, jv (k : Int))]) C d_Mo_bits_17 rfl (by rw [hL]; decide) rfl rfl ?_
      refine j_iinc (lv' := [(0, jv a), (1, jv ((cnt (fun k => a / p2 k % 2) k) + ((a / p2 (k : Int)) % 2))), (2, jv ((k : Int) + 1))]) C 2 d_Mo_bits_18 rfl (by rw [hL]; decide) rfl rfl ?_
      refine j_goto (tgt := 4) C d_Mo_bits_21 (by decide) ?_
      have e : cnt (fun k => a / p2 k % 2) (k + 1) = cnt (fun k => a / p2 k % 2) k + a / p2 (k : Int) % 2 := rfl
      have := ih (k + 1) (by omega) (by omega)
      rw [e, show ((k + 1 : Nat) : Int) = (k : Int) + 1 by omega] at this
      exact this
theorem c_Mo_bits (l : Launch) (D : va_G) (a : Int) (h0 : 0 ≤ a) (h1 : a < 65536) : CI l y_Mo_bits b_Mo_bits 3 (some .int) 0 D [] [jv a] (fun _ : Unit => []) () (fun z _ => z = pcnt a) := by
  refine CI.of (by decide) (Nat.le_of_ble_eq_true rfl) (fun K C hR ht hL hcs Z => ?_)
  have C : Ok K R_Mo b_Mo_bits := C
  show J K [] 0 [(0, jv a)] []
  refine j_iconst C d_Mo_bits_0 ?_
  refine j_istore_n (lv' := [(0, jv a), (1, jv 0)]) C d_Mo_bits_1 rfl (by rw [hL]; decide) rfl rfl ?_
  refine j_iconst C d_Mo_bits_2 ?_
  refine j_istore_n (lv' := [(0, jv a), (1, jv 0), (2, jv 0)]) C d_Mo_bits_3 rfl (by rw [hL]; decide) rfl rfl ?_
  exact lp_Mo_bits C hL Z a h0 h1 rfl 17 0 (by omega) (by omega)
end
section
/-! the outer class' and the model's simple methods -/
/-- the outer class' picture is sound -/
def OI (S : Sv) : Prop := (1 ≤ S 6 0 ∧ S 6 0 ≤ 16) ∧ (0 ≤ S 3 0 ∧ S 3 0 ≤ 400) ∧ (∀ k, 0 ≤ k → k < S 3 0 → (0 ≤ S 1 k ∧ S 1 k < p2 (S 6 0)) ∧ (0 ≤ S 2 k ∧ S 2 k < p2 (S 6 0))) ∧ (0 ≤ S 4 0 ∧ S 4 0 < p2 (S 6 0)) ∧ (0 ≤ S 5 0 ∧ S 5 0 < p2 (S 6 0)) ∧ (∀ v, 0 ≤ v → v < 16 → S 7 v = 0 ∨ S 7 v = 1) ∧ (S 8 0 = 0 ∨ S 8 0 = 1) ∧ (S 9 0 = 0 ∨ S 9 0 = 1)
/-- the model's -/
def MI (S : Sv) : Prop := (1 ≤ S 0 0 ∧ S 0 0 ≤ 16) ∧ (0 ≤ S 4 0 ∧ S 4 0 ≤ 400) ∧ (∀ k, 0 ≤ k → k < S 4 0 → (0 ≤ S 2 k ∧ S 2 k < p2 (S 0 0)) ∧ (0 ≤ S 3 k ∧ S 3 k < p2 (S 0 0))) ∧ (0 ≤ S 5 0 ∧ S 5 0 < p2 (S 0 0)) ∧ (0 ≤ S 6 0 ∧ S 6 0 < p2 (S 0 0)) ∧ (∀ v, 0 ≤ v → v < 16 → S 1 v = 0 ∨ S 1 v = 1) ∧ (S 8 0 = 0 ∨ S 8 0 = 1)
/-- the steps, on the outer class' picture -/
def oKeep (S : Sv) (y n : Int) : Sv := u2 (u2 (u2 (u2 (u2 (u2 S 1 (S 3 0) y) 2 (S 3 0) n) 3 0 (S 3 0 + 1)) 4 0 0) 5 0 0) 8 0 0
def oSome (S : Sv) (y n : Int) : Sv := u2 (u2 (oKeep S (y % p2 (S 6 0)) (n % p2 (S 6 0))) 4 0 (S 4 0)) 5 0 (S 5 0)
def oDrop (S : Sv) (k : Int) : Sv := u2 (u2 (u2 (u2 S 3 0 (S 3 0 - 1)) 1 k (S 1 (S 3 0 - 1))) 2 k (S 2 (S 3 0 - 1))) 8 0 0
/-- the steps, on the model's picture -/
def mSome (S : Sv) (y n : Int) : Sv := u2 (u2 (u2 (u2 S 2 (S 4 0) (y % p2 (S 0 0))) 3 (S 4 0) (n % p2 (S 0 0))) 4 0 (S 4 0 + 1)) 8 0 0
def mDrop (S : Sv) (k : Int) : Sv := u2 (u2 (u2 (u2 S 4 0 (S 4 0 - 1)) 2 k (S 2 (S 4 0 - 1))) 3 k (S 3 (S 4 0 - 1))) 8 0 0
theorem rgp {x n : Int} (h : 0 ≤ x) (h2 : x < p2 n) (hn : n ≤ 16) : rg x ∧ x < 65536 := by
  have := p2_16 hn
  exact ⟨rgi (by omega) (by omega), by omega⟩
theorem c_Ou_in (l : Launch) (D : va_G) (v a b : Int) (hv : rg v) (ha : rg a) (hb : rg b) : CI l y_Ou_in b_Ou_in 3 (some .boolean) 0 D [] [jv v, jv a, jv b] (fun _ : Unit => []) () (fun z _ => z = if a ≤ v ∧ v ≤ b then 1 else 0) := by
  refine CI.of (by decide) (Nat.le_of_ble_eq_true rfl) (fun K C hR ht hL hcs Z => ?_)
  have C : Ok K R_Ou b_Ou_in := C
  show J K [] 0 [(0, jv v), (1, jv a), (2, jv b)] []
  refine j_iload_n C 0 d_Ou_in_0 rfl rfl ?_
  refine j_iload_n C 1 d_Ou_in_1 rfl rfl ?_
  refine j_icmp_lt (tgt := 14) C d_Ou_in_2 (by decide) hv ha (fun c => ?_) (fun c => ?_)
  · refine j_iconst C d_Ou_in_14 ?_
    exact j_ret (w := fun _ : Unit => []) (u := ()) C Z (by decide) d_Ou_in_15 (by rw [if_neg (by omega)])
  · refine j_iload_n C 0 d_Ou_in_5 rfl rfl ?_
    refine j_iload_n C 2 d_Ou_in_6 rfl rfl ?_
    refine j_icmp_gt (tgt := 14) C d_Ou_in_7 (by decide) hv hb (fun d => ?_) (fun d => ?_)
    · refine j_iconst C d_Ou_in_14 ?_
      exact j_ret (w := fun _ : Unit => []) (u := ()) C Z (by decide) d_Ou_in_15 (by rw [if_neg (by omega)])
    · refine j_iconst C d_Ou_in_10 ?_
      refine j_goto (tgt := 15) C d_Ou_in_11 (by decide) ?_
      exact j_ret (w := fun _ : Unit => []) (u := ()) C Z (by decide) d_Ou_in_15 (by rw [if_pos (by omega)])
theorem c_Ou_wish (l : Launch) (D : va_G) (h0 : Nat) (ad : Nat → Nat) (cA : Nat → ClassId) (S : Sv) (hO : OI S) (v b : Int) (hv : rg v) (hb : b = 0 ∨ b = 1) : CI l y_Ou_wish b_Ou_wish 4 (some .boolean) 1 D (oty Y_Ou cA) [.ref h0, jv v, jv b] (ow Y_Ou h0 ad cA) S (fun z u => (0 ≤ v ∧ v < S 6 0 ∧ z = S 7 v ∧ u = u2 (u2 S 8 0 0) 7 v b) ∨ (¬ (0 ≤ v ∧ v < S 6 0) ∧ z = 0 ∧ u = S)) := by
  refine CI.of (by decide) (Nat.le_of_ble_eq_true rfl) (fun K C hR ht hL hcs Z => ?_)
  have C : Ok K R_Ou b_Ou_wish := C
  have L := Ln_Ou (h0 := h0) (ad := ad) ht
  show J K (ow Y_Ou h0 ad cA S) 0 [(0, .ref h0), (1, jv v), (2, jv b)] []
  obtain ⟨o1, o2, o3, o4, o5, o6, o7, o8⟩ := hO
  have q16 := p2_16 o1.2
  refine j_iload_n C 1 d_Ou_wish_0 rfl rfl ?_
  refine j_iconst C d_Ou_wish_1 ?_
  refine j_aload_n C 0 d_Ou_wish_2 rfl rfl ?_
  refine o_get C L 6 (by decide) rfl (S 6 0) rfl d_Ou_wish_3 ?_
  refine j_iconst C d_Ou_wish_6 ?_
  refine j_isub C d_Ou_wish_7 ?_
  refine j_callP (As := [jv v, jv 0, jv ((S 6 0) - 1)]) (rest := []) C (c_Ou_in _ _ v 0 (S 6 0 - 1) hv rg0 (rgi (by omega) (by omega))) lk_Ou_40 rfl (by rw [hR]; decide) hcs d_Ou_wish_8 rfl (Nat.le_of_ble_eq_true rfl) (fun z hz => ?_)
  have z01 : z = 0 ∨ z = 1 := by rw [hz]; split <;> omega
  refine j_if_ne (tgt := 16) C d_Ou_wish_11 (by decide) (rgi (by omega) (by omega)) (fun c => ?_) (fun c => ?_)
  · have vi : 0 ≤ v ∧ v ≤ S 6 0 - 1 := by
      by_cases q : 0 ≤ v ∧ v ≤ S 6 0 - 1
      · exact q
      · rw [if_neg q] at hz; omega
    have wv := o6 v vi.1 (by omega)
    refine j_aload_n C 0 d_Ou_wish_16 rfl rfl ?_
    refine j_iconst C d_Ou_wish_17 ?_
    refine o_putZ C L 8 (by decide) rfl rfl rfl (by omega) d_Ou_wish_18 ?_
    refine j_aload_n C 0 d_Ou_wish_21 rfl rfl ?_
    refine o_getA C L 7 (by decide) rfl d_Ou_wish_22 ?_
    refine j_iload_n C 1 d_Ou_wish_25 rfl rfl ?_
    refine o_zald C L 7 16 (by decide) rfl rfl (S 7 v) rfl (by omega) (by omega) d_Ou_wish_26 ?_
    refine j_istore_n (lv' := [(0, .ref h0), (1, jv v), (2, jv b), (3, jv (S 7 v))]) C d_Ou_wish_27 rfl (by rw [hL]; decide) rfl rfl ?_
    refine j_aload_n C 0 d_Ou_wish_28 rfl rfl ?_
    refine o_getA C L 7 (by decide) rfl d_Ou_wish_29 ?_
    refine j_iload_n C 1 d_Ou_wish_32 rfl rfl ?_
    refine j_iload_n C 2 d_Ou_wish_33 rfl rfl ?_
    refine o_zast C L 7 16 (by decide) rfl rfl (by omega) (by omega) (by omega) d_Ou_wish_34 ?_
    refine j_iload_n C 3 d_Ou_wish_35 rfl rfl ?_
    exact j_ret C Z (bz wv).1 d_Ou_wish_36 (Or.inl ⟨vi.1, by omega, rfl, rfl⟩)
  · have vi : ¬ (0 ≤ v ∧ v < S 6 0) := fun q => by rw [if_pos (by omega)] at hz; omega
    refine j_iconst C d_Ou_wish_14 ?_
    exact j_ret C Z (by decide) d_Ou_wish_15 (Or.inr ⟨vi, rfl, rfl⟩)
theorem c_Ou_literal (l : Launch) (D : va_G) (h0 : Nat) (ad : Nat → Nat) (cA : Nat → ClassId) (S : Sv) (hO : OI S) (v b : Int) (hv : rg v) (hb : b = 0 ∨ b = 1) : CI l y_Ou_literal b_Ou_literal 3 (some .int) 1 D (oty Y_Ou cA) [.ref h0, jv v, jv b] (ow Y_Ou h0 ad cA) S (fun z u => (0 ≤ v ∧ v < S 6 0 ∧ u = (if b = 0 then u2 S 5 0 (orI (S 5 0) (p2 v)) else u2 S 4 0 (orI (S 4 0) (p2 v))) ∧ z = pcnt (u 4 0) + pcnt (u 5 0)) ∨ (¬ (0 ≤ v ∧ v < S 6 0) ∧ z = -1 ∧ u = S)) := by
  refine CI.of (by decide) (Nat.le_of_ble_eq_true rfl) (fun K C hR ht hL hcs Z => ?_)
  have C : Ok K R_Ou b_Ou_literal := C
  have L := Ln_Ou (h0 := h0) (ad := ad) ht
  show J K (ow Y_Ou h0 ad cA S) 0 [(0, .ref h0), (1, jv v), (2, jv b)] []
  obtain ⟨o1, o2, o3, o4, o5, o6, o7, o8⟩ := hO
  have q16 := p2_16 o1.2
  refine j_iload_n C 1 d_Ou_literal_0 rfl rfl ?_
  refine j_iconst C d_Ou_literal_1 ?_
  refine j_aload_n C 0 d_Ou_literal_2 rfl rfl ?_
  refine o_get C L 6 (by decide) rfl (S 6 0) rfl d_Ou_literal_3 ?_
  refine j_iconst C d_Ou_literal_6 ?_
  refine j_isub C d_Ou_literal_7 ?_
  refine j_callP (As := [jv v, jv 0, jv ((S 6 0) - 1)]) (rest := []) C (c_Ou_in _ _ v 0 (S 6 0 - 1) hv rg0 (rgi (by omega) (by omega))) lk_Ou_40 rfl (by rw [hR]; decide) hcs d_Ou_literal_8 rfl (Nat.le_of_ble_eq_true rfl) (fun z hz => ?_)
  have z01 : z = 0 ∨ z = 1 := by rw [hz]; split <;> omega
  refine j_if_ne (tgt := 16) C d_Ou_literal_11 (by decide) (rgi (by omega) (by omega)) (fun c => ?_) (fun c => ?_)
  · have vi : 0 ≤ v ∧ v < S 6 0 := by
      by_cases q : 0 ≤ v ∧ v < S 6 0
      · exact q
      · exfalso; apply c; rw [hz, if_neg (by omega)]
    have vl : 0 ≤ p2 v ∧ p2 v < p2 (S 6 0) := by
      have h1 := p2_pos v
      have h2 := p2_le (a := v + 1) (b := S 6 0) (by omega)
      rw [p2_s vi.1] at h2
      omega
    have oy := orI_lt o4.1 o4.2 vl.1 vl.2
    have on := orI_lt o5.1 o5.2 vl.1 vl.2
    refine j_iload_n C 2 d_Ou_literal_16 rfl rfl ?_
    refine j_if_eq (tgt := 35) C d_Ou_literal_17 (by decide) (rgi (by omega) (by omega)) (fun d => ?_) (fun d => ?_)
    · refine j_aload_n C 0 d_Ou_literal_35 rfl rfl ?_
      refine j_dup C d_Ou_literal_36 rfl ?_
      refine o_get C L 5 (by decide) rfl (S 5 0) rfl d_Ou_literal_37 ?_
      refine j_iconst C d_Ou_literal_40 ?_
      refine j_iload_n C 1 d_Ou_literal_41 rfl rfl ?_
      refine j_ishl C d_Ou_literal_42 (z := p2 v) (jI_shl vi.1 (by omega)) ?_
      refine j_ior C d_Ou_literal_43 (z := orI (S 5 0) (p2 v)) (jI_or o5.1 vl.1) ?_
      refine o_put C L 5 (by decide) rfl rfl rfl d_Ou_literal_44 ?_
      refine j_aload_n C 0 d_Ou_literal_47 rfl rfl ?_
      refine o_get C L 4 (by decide) rfl (S 4 0) rfl d_Ou_literal_48 ?_
      refine j_callP (As := [jv (S 4 0)]) (rest := []) C (c_In_bitCount _ _ (S 4 0) o4.1 (by omega)) lk_Ou_54 rfl (by rw [hR]; decide) hcs d_Ou_literal_51 rfl (Nat.le_of_ble_eq_true rfl) (fun z1 hz1 => ?_)
      refine j_aload_n C 0 d_Ou_literal_54 rfl rfl ?_
      refine o_get C L 5 (by decide) rfl (orI (S 5 0) (p2 v)) (u2_ss _ _ _ _) d_Ou_literal_55 ?_
      refine j_callP (As := [jv (orI (S 5 0) (p2 v))]) (rest := [jv z1]) C (c_In_bitCount _ _ (orI (S 5 0) (p2 v)) on.1 (by omega)) lk_Ou_54 rfl (by rw [hR]; decide) hcs d_Ou_literal_58 rfl (Nat.le_of_ble_eq_true rfl) (fun z2 hz2 => ?_)
      refine j_iadd C d_Ou_literal_61 ?_
      refine j_ret C Z rfl d_Ou_literal_62 (Or.inl ⟨vi.1, vi.2, by rw [if_pos d], ?_⟩)
      rw [hz1, hz2]
      show _ = pcnt (S 4 0) + pcnt ((u2 S 5 0 (orI (S 5 0) (p2 v))) 5 0); rw [u2_ss]
    · refine j_aload_n C 0 d_Ou_literal_20 rfl rfl ?_
      refine j_dup C d_Ou_literal_21 rfl ?_
      refine o_get C L 4 (by decide) rfl (S 4 0) rfl d_Ou_literal_22 ?_
      refine j_iconst C d_Ou_literal_25 ?_
      refine j_iload_n C 1 d_Ou_literal_26 rfl rfl ?_
      refine j_ishl C d_Ou_literal_27 (z := p2 v) (jI_shl vi.1 (by omega)) ?_
      refine j_ior C d_Ou_literal_28 (z := orI (S 4 0) (p2 v)) (jI_or o4.1 vl.1) ?_
      refine o_put C L 4 (by decide) rfl rfl rfl d_Ou_literal_29 ?_
      refine j_goto (tgt := 47) C d_Ou_literal_32 (by decide) ?_
      refine j_aload_n C 0 d_Ou_literal_47 rfl rfl ?_
      refine o_get C L 4 (by decide) rfl (orI (S 4 0) (p2 v)) (u2_ss _ _ _ _) d_Ou_literal_48 ?_
      refine j_callP (As := [jv (orI (S 4 0) (p2 v))]) (rest := []) C (c_In_bitCount _ _ (orI (S 4 0) (p2 v)) oy.1 (by omega)) lk_Ou_54 rfl (by rw [hR]; decide) hcs d_Ou_literal_51 rfl (Nat.le_of_ble_eq_true rfl) (fun z1 hz1 => ?_)
      refine j_aload_n C 0 d_Ou_literal_54 rfl rfl ?_
      refine o_get C L 5 (by decide) rfl (S 5 0) rfl d_Ou_literal_55 ?_
      refine j_callP (As := [jv (S 5 0)]) (rest := [jv z1]) C (c_In_bitCount _ _ (S 5 0) o5.1 (by omega)) lk_Ou_54 rfl (by rw [hR]; decide) hcs d_Ou_literal_58 rfl (Nat.le_of_ble_eq_true rfl) (fun z2 hz2 => ?_)
      refine j_iadd C d_Ou_literal_61 ?_
      refine j_ret C Z rfl d_Ou_literal_62 (Or.inl ⟨vi.1, vi.2, by rw [if_neg d], ?_⟩)
      rw [hz1, hz2]
      show _ = pcnt ((u2 S 4 0 (orI (S 4 0) (p2 v))) 4 0) + pcnt (S 5 0); rw [u2_ss]
  · have vi : ¬ (0 ≤ v ∧ v < S 6 0) := fun q => by rw [if_pos (by omega)] at hz; omega
    refine j_iconst C d_Ou_literal_14 ?_
    exact j_ret C Z rfl d_Ou_literal_15 (Or.inr ⟨vi, rfl, rfl⟩)
theorem c_Ou_keep (l : Launch) (D : va_G) (h0 : Nat) (ad : Nat → Nat) (cA : Nat → ClassId) (S : Sv) (hO : OI S) (hc : S 3 0 < 400) (y n : Int) : CI l y_Ou_keep b_Ou_keep 3 (some .int) 0 D (oty Y_Ou cA) [.ref h0, jv y, jv n] (ow Y_Ou h0 ad cA) S (fun z u => z = S 3 0 + 1 ∧ u = oKeep S y n) := by
  refine CI.of (by decide) (Nat.le_of_ble_eq_true rfl) (fun K C hR ht hL hcs Z => ?_)
  have C : Ok K R_Ou b_Ou_keep := C
  have L := Ln_Ou (h0 := h0) (ad := ad) ht
  show J K (ow Y_Ou h0 ad cA S) 0 [(0, .ref h0), (1, jv y), (2, jv n)] []
  obtain ⟨o1, o2, o3, o4, o5, o6, o7, o8⟩ := hO
  have q16 := p2_16 o1.2
  refine j_aload_n C 0 d_Ou_keep_0 rfl rfl ?_
  refine o_getA C L 1 (by decide) rfl d_Ou_keep_1 ?_
  refine j_aload_n C 0 d_Ou_keep_4 rfl rfl ?_
  refine o_get C L 3 (by decide) rfl (S 3 0) rfl d_Ou_keep_5 ?_
  refine j_iload_n C 1 d_Ou_keep_8 rfl rfl ?_
  refine o_iast C L 1 400 (by decide) rfl rfl (by omega) (by omega) d_Ou_keep_9 ?_
  refine j_aload_n C 0 d_Ou_keep_10 rfl rfl ?_
  refine o_getA C L 2 (by decide) rfl d_Ou_keep_11 ?_
  refine j_aload_n C 0 d_Ou_keep_14 rfl rfl ?_
  refine o_get C L 3 (by decide) rfl (S 3 0) rfl d_Ou_keep_15 ?_
  refine j_iload_n C 2 d_Ou_keep_18 rfl rfl ?_
  refine o_iast C L 2 400 (by decide) rfl rfl (by omega) (by omega) d_Ou_keep_19 ?_
  refine j_aload_n C 0 d_Ou_keep_20 rfl rfl ?_
  refine j_dup C d_Ou_keep_21 rfl ?_
  refine o_get C L 3 (by decide) rfl (S 3 0) rfl d_Ou_keep_22 ?_
  refine j_iconst C d_Ou_keep_25 ?_
  refine j_iadd C d_Ou_keep_26 ?_
  refine o_put C L 3 (by decide) rfl rfl rfl d_Ou_keep_27 ?_
  refine j_aload_n C 0 d_Ou_keep_30 rfl rfl ?_
  refine j_iconst C d_Ou_keep_31 ?_
  refine o_put C L 4 (by decide) rfl rfl rfl d_Ou_keep_32 ?_
  refine j_aload_n C 0 d_Ou_keep_35 rfl rfl ?_
  refine j_iconst C d_Ou_keep_36 ?_
  refine o_put C L 5 (by decide) rfl rfl rfl d_Ou_keep_37 ?_
  refine j_aload_n C 0 d_Ou_keep_40 rfl rfl ?_
  refine j_iconst C d_Ou_keep_41 ?_
  refine o_putZ C L 8 (by decide) rfl rfl rfl (by omega) d_Ou_keep_42 ?_
  refine j_aload_n C 0 d_Ou_keep_45 rfl rfl ?_
  refine o_get C L 3 (by decide) rfl (S 3 0 + 1) (show up (S 3) 0 (S 3 0 + 1) 0 = _ by rw [up_s]) d_Ou_keep_46 ?_
  exact j_ret C Z rfl d_Ou_keep_49 ⟨rfl, rfl⟩
theorem c_Ou_clause (l : Launch) (D : va_G) (h0 : Nat) (ad : Nat → Nat) (cA : Nat → ClassId) (S : Sv) (hO : OI S) : CI l y_Ou_clause b_Ou_clause 1 (some .int) 1 D (oty Y_Ou cA) [.ref h0] (ow Y_Ou h0 ad cA) S (fun z u => (S 3 0 = 400 ∧ z = -3 ∧ u = S) ∨ (S 3 0 < 400 ∧ z = S 3 0 + 1 ∧ u = oKeep S (S 4 0) (S 5 0))) := by
  refine CI.of (by decide) (Nat.le_of_ble_eq_true rfl) (fun K C hR ht hL hcs Z => ?_)
  have C : Ok K R_Ou b_Ou_clause := C
  have L := Ln_Ou (h0 := h0) (ad := ad) ht
  show J K (ow Y_Ou h0 ad cA S) 0 [(0, .ref h0)] []
  have hO0 := hO
  obtain ⟨o1, o2, o3, o4, o5, o6, o7, o8⟩ := hO
  have q16 := p2_16 o1.2
  refine j_aload_n C 0 d_Ou_clause_0 rfl rfl ?_
  refine o_get C L 3 (by decide) rfl (S 3 0) rfl d_Ou_clause_1 ?_
  refine j_sipush C d_Ou_clause_4 (by decide) ?_
  refine j_icmp_ne (tgt := 13) C d_Ou_clause_7 (by decide) (rgi (by omega) (by omega)) (rgi (by omega) (by omega)) (fun c => ?_) (fun c => ?_)
  · refine j_aload_n C 0 d_Ou_clause_13 rfl rfl ?_
    refine j_aload_n C 0 d_Ou_clause_14 rfl rfl ?_
    refine o_get C L 4 (by decide) rfl (S 4 0) rfl d_Ou_clause_15 ?_
    refine j_aload_n C 0 d_Ou_clause_18 rfl rfl ?_
    refine o_get C L 5 (by decide) rfl (S 5 0) rfl d_Ou_clause_19 ?_
    refine j_callI (wr := []) (As := [jv (S 4 0), jv (S 5 0)]) (rest := []) (w := ow Y_Ou h0 ad cA) (u0 := S) C (c_Ou_keep _ _ h0 ad cA S hO0 (by omega) (S 4 0) (S 5 0)) (by rw [ht]; exact fun _ h => h) lk_Ou_63 rfl (q0 := 0) rfl rfl (by rw [hR]; decide) hcs d_Ou_clause_22 rfl (Nat.le_of_ble_eq_true rfl) (fun z u hz => ?_)
    obtain ⟨rfl, rfl⟩ := hz
    exact j_ret C Z rfl d_Ou_clause_25 (Or.inr ⟨by omega, rfl, rfl⟩)
  · refine j_bipush C d_Ou_clause_10 (by decide) ?_
    exact j_ret C Z rfl d_Ou_clause_12 (Or.inl ⟨c, rfl, rfl⟩)
theorem c_Ou_some (l : Launch) (D : va_G) (h0 : Nat) (ad : Nat → Nat) (cA : Nat → ClassId) (S : Sv) (hO : OI S) (y n : Int) : CI l y_Ou_some b_Ou_some 7 (some .int) 1 D (oty Y_Ou cA) [.ref h0, jv y, jv n] (ow Y_Ou h0 ad cA) S (fun z u => (S 3 0 = 400 ∧ z = -3 ∧ u = S) ∨ (S 3 0 < 400 ∧ z = S 3 0 + 1 ∧ u = oSome S y n)) := by
  refine CI.of (by decide) (Nat.le_of_ble_eq_true rfl) (fun K C hR ht hL hcs Z => ?_)
  have C : Ok K R_Ou b_Ou_some := C
  have L := Ln_Ou (h0 := h0) (ad := ad) ht
  show J K (ow Y_Ou h0 ad cA S) 0 [(0, .ref h0), (1, jv y), (2, jv n)] []
  have hO0 := hO
  obtain ⟨o1, o2, o3, o4, o5, o6, o7, o8⟩ := hO
  have q16 := p2_16 o1.2
  refine j_iconst C d_Ou_some_0 ?_
  refine j_aload_n C 0 d_Ou_some_1 rfl rfl ?_
  refine o_get C L 6 (by decide) rfl (S 6 0) rfl d_Ou_some_2 ?_
  refine j_ishl C d_Ou_some_5 (z := p2 (S 6 0)) (jI_shl (by omega) o1.2) ?_
  refine j_iconst C d_Ou_some_6 ?_
  refine j_isub C d_Ou_some_7 ?_
  refine j_istore_n (lv' := [(0, .ref h0), (1, jv y), (2, jv n), (3, jv ((p2 (S 6 0)) - 1))]) C d_Ou_some_8 rfl (by rw [hL]; decide) rfl rfl ?_
  refine j_aload_n C 0 d_Ou_some_9 rfl rfl ?_
  refine o_get C L 3 (by decide) rfl (S 3 0) rfl d_Ou_some_10 ?_
  refine j_sipush C d_Ou_some_13 (by decide) ?_
  refine j_icmp_ne (tgt := 22) C d_Ou_some_16 (by decide) (rgi (by omega) (by omega)) (rgi (by omega) (by omega)) (fun c => ?_) (fun c => ?_)
  · refine j_aload_n C 0 d_Ou_some_22 rfl rfl ?_
    refine o_get C L 4 (by decide) rfl (S 4 0) rfl d_Ou_some_23 ?_
    refine j_istore (lv' := [(0, .ref h0), (1, jv y), (2, jv n), (3, jv ((p2 (S 6 0)) - 1)), (4, jv (S 4 0))]) C d_Ou_some_26 (by rw [hL]; decide) rfl rfl ?_
    refine j_aload_n C 0 d_Ou_some_28 rfl rfl ?_
    refine o_get C L 5 (by decide) rfl (S 5 0) rfl d_Ou_some_29 ?_
    refine j_istore (lv' := [(0, .ref h0), (1, jv y), (2, jv n), (3, jv ((p2 (S 6 0)) - 1)), (4, jv (S 4 0)), (5, jv (S 5 0))]) C d_Ou_some_32 (by rw [hL]; decide) rfl rfl ?_
    refine j_aload_n C 0 d_Ou_some_34 rfl rfl ?_
    refine j_iload_n C 1 d_Ou_some_35 rfl rfl ?_
    refine j_iload_n C 3 d_Ou_some_36 rfl rfl ?_
    refine j_iand C d_Ou_some_37 (z := y % p2 (S 6 0)) (jI_mask (by omega) o1.2 y) ?_
    refine j_iload_n C 2 d_Ou_some_38 rfl rfl ?_
    refine j_iload_n C 3 d_Ou_some_39 rfl rfl ?_
    refine j_iand C d_Ou_some_40 (z := n % p2 (S 6 0)) (jI_mask (by omega) o1.2 n) ?_
    refine j_callI (wr := []) (As := [jv (y % p2 (S 6 0)), jv (n % p2 (S 6 0))]) (rest := []) (w := ow Y_Ou h0 ad cA) (u0 := S) C (c_Ou_keep _ _ h0 ad cA S hO0 (by omega) (y % p2 (S 6 0)) (n % p2 (S 6 0))) (by rw [ht]; exact fun _ h => h) lk_Ou_63 rfl (q0 := 0) rfl rfl (by rw [hR]; decide) hcs d_Ou_some_41 rfl (Nat.le_of_ble_eq_true rfl) (fun z u hz => ?_)
    obtain ⟨rfl, rfl⟩ := hz
    refine j_istore (lv' := [(0, .ref h0), (1, jv y), (2, jv n), (3, jv ((p2 (S 6 0)) - 1)), (4, jv (S 4 0)), (5, jv (S 5 0)), (6, jv (S 3 0 + 1))]) C d_Ou_some_44 (by rw [hL]; decide) rfl rfl ?_
    refine j_aload_n C 0 d_Ou_some_46 rfl rfl ?_
    refine j_iload C 4 d_Ou_some_47 rfl ?_
    refine o_put C L 4 (by decide) rfl rfl rfl d_Ou_some_49 ?_
    refine j_aload_n C 0 d_Ou_some_52 rfl rfl ?_
    refine j_iload C 5 d_Ou_some_53 rfl ?_
    refine o_put C L 5 (by decide) rfl rfl rfl d_Ou_some_55 ?_
    refine j_iload C 6 d_Ou_some_58 rfl ?_
    exact j_ret C Z rfl d_Ou_some_60 (Or.inr ⟨by omega, rfl, rfl⟩)
  · refine j_bipush C d_Ou_some_19 (by decide) ?_
    exact j_ret C Z rfl d_Ou_some_21 (Or.inl ⟨c, rfl, rfl⟩)
theorem c_Ou_drop (l : Launch) (D : va_G) (h0 : Nat) (ad : Nat → Nat) (cA : Nat → ClassId) (S : Sv) (hO : OI S) (k : Int) (hk : rg k) : CI l y_Ou_drop b_Ou_drop 2 (some .int) 1 D (oty Y_Ou cA) [.ref h0, jv k] (ow Y_Ou h0 ad cA) S (fun z u => (0 ≤ k ∧ k < S 3 0 ∧ z = S 3 0 - 1 ∧ u = oDrop S k) ∨ (¬ (0 ≤ k ∧ k < S 3 0) ∧ z = -2 ∧ u = S)) := by
  refine CI.of (by decide) (Nat.le_of_ble_eq_true rfl) (fun K C hR ht hL hcs Z => ?_)
  have C : Ok K R_Ou b_Ou_drop := C
  have L := Ln_Ou (h0 := h0) (ad := ad) ht
  show J K (ow Y_Ou h0 ad cA S) 0 [(0, .ref h0), (1, jv k)] []
  obtain ⟨o1, o2, o3, o4, o5, o6, o7, o8⟩ := hO
  have q16 := p2_16 o1.2
  refine j_iload_n C 1 d_Ou_drop_0 rfl rfl ?_
  refine j_iconst C d_Ou_drop_1 ?_
  refine j_aload_n C 0 d_Ou_drop_2 rfl rfl ?_
  refine o_get C L 3 (by decide) rfl (S 3 0) rfl d_Ou_drop_3 ?_
  refine j_iconst C d_Ou_drop_6 ?_
  refine j_isub C d_Ou_drop_7 ?_
  refine j_callP (As := [jv k, jv 0, jv ((S 3 0) - 1)]) (rest := []) C (c_Ou_in _ _ k 0 (S 3 0 - 1) hk rg0 (rgi (by omega) (by omega))) lk_Ou_40 rfl (by rw [hR]; decide) hcs d_Ou_drop_8 rfl (Nat.le_of_ble_eq_true rfl) (fun z hz => ?_)
  have z01 : z = 0 ∨ z = 1 := by rw [hz]; split <;> omega
  refine j_if_ne (tgt := 17) C d_Ou_drop_11 (by decide) (rgi (by omega) (by omega)) (fun c => ?_) (fun c => ?_)
  · have vi : 0 ≤ k ∧ k < S 3 0 := by
      by_cases q : 0 ≤ k ∧ k < S 3 0
      · exact q
      · exfalso; apply c; rw [hz, if_neg (by omega)]
    refine j_aload_n C 0 d_Ou_drop_17 rfl rfl ?_
    refine j_dup C d_Ou_drop_18 rfl ?_
    refine o_get C L 3 (by decide) rfl (S 3 0) rfl d_Ou_drop_19 ?_
    refine j_iconst C d_Ou_drop_22 ?_
    refine j_isub C d_Ou_drop_23 ?_
    refine o_put C L 3 (by decide) rfl rfl rfl d_Ou_drop_24 ?_
    refine j_aload_n C 0 d_Ou_drop_27 rfl rfl ?_
    refine o_getA C L 1 (by decide) rfl d_Ou_drop_28 ?_
    refine j_iload_n C 1 d_Ou_drop_31 rfl rfl ?_
    refine j_aload_n C 0 d_Ou_drop_32 rfl rfl ?_
    refine o_getA C L 1 (by decide) rfl d_Ou_drop_33 ?_
    refine j_aload_n C 0 d_Ou_drop_36 rfl rfl ?_
    refine o_get C L 3 (by decide) rfl (S 3 0 - 1) (show up (S 3) 0 (S 3 0 - 1) 0 = _ by rw [up_s]) d_Ou_drop_37 ?_
    refine o_iald C L 1 400 (by decide) rfl rfl (S 1 (S 3 0 - 1)) rfl (by omega) (by omega) d_Ou_drop_40 ?_
    refine o_iast C L 1 400 (by decide) rfl rfl (by omega) (by omega) d_Ou_drop_41 ?_
    refine j_aload_n C 0 d_Ou_drop_42 rfl rfl ?_
    refine o_getA C L 2 (by decide) rfl d_Ou_drop_43 ?_
    refine j_iload_n C 1 d_Ou_drop_46 rfl rfl ?_
    refine j_aload_n C 0 d_Ou_drop_47 rfl rfl ?_
    refine o_getA C L 2 (by decide) rfl d_Ou_drop_48 ?_
    refine j_aload_n C 0 d_Ou_drop_51 rfl rfl ?_
    refine o_get C L 3 (by decide) rfl (S 3 0 - 1) (show up (S 3) 0 (S 3 0 - 1) 0 = _ by rw [up_s]) d_Ou_drop_52 ?_
    refine o_iald C L 2 400 (by decide) rfl rfl (S 2 (S 3 0 - 1)) rfl (by omega) (by omega) d_Ou_drop_55 ?_
    refine o_iast C L 2 400 (by decide) rfl rfl (by omega) (by omega) d_Ou_drop_56 ?_
    refine j_aload_n C 0 d_Ou_drop_57 rfl rfl ?_
    refine j_iconst C d_Ou_drop_58 ?_
    refine o_putZ C L 8 (by decide) rfl rfl rfl (by omega) d_Ou_drop_59 ?_
    refine j_aload_n C 0 d_Ou_drop_62 rfl rfl ?_
    refine o_get C L 3 (by decide) rfl (S 3 0 - 1) (show up (S 3) 0 (S 3 0 - 1) 0 = _ by rw [up_s]) d_Ou_drop_63 ?_
    exact j_ret C Z rfl d_Ou_drop_66 (Or.inl ⟨vi.1, vi.2, rfl, rfl⟩)
  · have vi : ¬ (0 ≤ k ∧ k < S 3 0) := fun q => by rw [if_pos (by omega)] at hz; omega
    refine j_bipush C d_Ou_drop_14 (by decide) ?_
    exact j_ret C Z rfl d_Ou_drop_16 (Or.inr ⟨vi, rfl, rfl⟩)
theorem c_Ou_count (l : Launch) (D : va_G) (h0 : Nat) (ad : Nat → Nat) (cA : Nat → ClassId) (S : Sv) (hO : OI S) (x : Int) (hx : rg x) : CI l y_Ou_count b_Ou_count 2 (some .int) 1 D (oty Y_Ou cA) [.ref h0, jv x] (ow Y_Ou h0 ad cA) S (fun z u => u = S ∧ z = if x = 0 then S 6 0 else if x = 1 then S 3 0 else if x = 2 then pcnt (S 4 0) + pcnt (S 5 0) else -1) := by
  refine CI.of (by decide) (Nat.le_of_ble_eq_true rfl) (fun K C hR ht hL hcs Z => ?_)
  have C : Ok K R_Ou b_Ou_count := C
  have L := Ln_Ou (h0 := h0) (ad := ad) ht
  show J K (ow Y_Ou h0 ad cA S) 0 [(0, .ref h0), (1, jv x)] []
  obtain ⟨o1, o2, o3, o4, o5, o6, o7, o8⟩ := hO
  have q16 := p2_16 o1.2
  refine j_iload_n C 1 d_Ou_count_0 rfl rfl ?_
  by_cases q : 0 ≤ x ∧ x ≤ 2
  · rcases (show x = 0 ∨ x = 1 ∨ x = 2 by omega) with e | e | e
    · subst e
      refine j_tabIn (tgt := 28) (off := 27) C d_Ou_count_1 hx (by decide) (by decide) (by decide) (by decide) ?_
      refine j_aload_n C 0 d_Ou_count_28 rfl rfl ?_
      refine o_get C L 6 (by decide) rfl (S 6 0) rfl d_Ou_count_29 ?_
      exact j_ret C Z rfl d_Ou_count_32 ⟨rfl, by simp⟩
    · subst e
      refine j_tabIn (tgt := 33) (off := 32) C d_Ou_count_1 hx (by decide) (by decide) (by decide) (by decide) ?_
      refine j_aload_n C 0 d_Ou_count_33 rfl rfl ?_
      refine o_get C L 3 (by decide) rfl (S 3 0) rfl d_Ou_count_34 ?_
      exact j_ret C Z rfl d_Ou_count_37 ⟨rfl, by simp⟩
    · subst e
      refine j_tabIn (tgt := 38) (off := 37) C d_Ou_count_1 hx (by decide) (by decide) (by decide) (by decide) ?_
      refine j_aload_n C 0 d_Ou_count_38 rfl rfl ?_
      refine o_get C L 4 (by decide) rfl (S 4 0) rfl d_Ou_count_39 ?_
      refine j_callP (As := [jv (S 4 0)]) (rest := []) C (c_In_bitCount _ _ (S 4 0) o4.1 (by omega)) lk_Ou_54 rfl (by rw [hR]; decide) hcs d_Ou_count_42 rfl (Nat.le_of_ble_eq_true rfl) (fun z1 hz1 => ?_)
      refine j_aload_n C 0 d_Ou_count_45 rfl rfl ?_
      refine o_get C L 5 (by decide) rfl (S 5 0) rfl d_Ou_count_46 ?_
      refine j_callP (As := [jv (S 5 0)]) (rest := [jv z1]) C (c_In_bitCount _ _ (S 5 0) o5.1 (by omega)) lk_Ou_54 rfl (by rw [hR]; decide) hcs d_Ou_count_49 rfl (Nat.le_of_ble_eq_true rfl) (fun z2 hz2 => ?_)
      refine j_iadd C d_Ou_count_52 ?_
      exact j_ret C Z rfl d_Ou_count_53 ⟨rfl, by simp [hz1, hz2]⟩
  · refine j_tabOut (tgt := 54) C d_Ou_count_1 hx (by omega) (by decide) ?_
    refine j_iconst C d_Ou_count_54 ?_
    exact j_ret C Z rfl d_Ou_count_55 ⟨rfl, by rw [if_neg (by omega), if_neg (by omega), if_neg (by omega)]⟩
theorem c_Mo_is (l : Launch) (D : va_G) (h0 : Nat) (ad : Nat → Nat) (cA : Nat → ClassId) (S : Sv) (hO : MI S) (v : Int) (hv : rg v) : CI l y_Mo_is b_Mo_is 2 (some .boolean) 0 D (oty Y_Mo cA) [.ref h0, jv v] (ow Y_Mo h0 ad cA) S (fun z u => u = S ∧ z = if 0 ≤ v ∧ v < S 0 0 then 1 else 0) := by
  refine CI.of (by decide) (Nat.le_of_ble_eq_true rfl) (fun K C hR ht hL hcs Z => ?_)
  have C : Ok K R_Mo b_Mo_is := C
  have L := Ln_Mo (h0 := h0) (ad := ad) ht
  show J K (ow Y_Mo h0 ad cA S) 0 [(0, .ref h0), (1, jv v)] []
  obtain ⟨o1, o2, o3, o4, o5, o6, o7⟩ := hO
  have q16 := p2_16 o1.2
  refine j_iload_n C 1 d_Mo_is_0 rfl rfl ?_
  refine j_if_lt (tgt := 16) C d_Mo_is_1 (by decide) hv (fun c => ?_) (fun c => ?_)
  · refine j_iconst C d_Mo_is_16 ?_
    exact j_ret C Z (by decide) d_Mo_is_17 ⟨rfl, by rw [if_neg (by omega)]⟩
  · refine j_iload_n C 1 d_Mo_is_4 rfl rfl ?_
    refine j_aload_n C 0 d_Mo_is_5 rfl rfl ?_
    refine m_get C L 0 (by decide) rfl (S 0 0) rfl d_Mo_is_6 ?_
    refine j_icmp_ge (tgt := 16) C d_Mo_is_9 (by decide) hv (rgi (by omega) (by omega)) (fun d => ?_) (fun d => ?_)
    · refine j_iconst C d_Mo_is_16 ?_
      exact j_ret C Z (by decide) d_Mo_is_17 ⟨rfl, by rw [if_neg (by omega)]⟩
    · refine j_iconst C d_Mo_is_12 ?_
      refine j_goto (tgt := 17) C d_Mo_is_13 (by decide) ?_
      exact j_ret C Z (by decide) d_Mo_is_17 ⟨rfl, by rw [if_pos (by omega)]⟩
theorem c_Mo_wish (l : Launch) (D : va_G) (h0 : Nat) (ad : Nat → Nat) (cA : Nat → ClassId) (S : Sv) (hO : MI S) (v b : Int) (hv : rg v) (hb : b = 0 ∨ b = 1) : CI l y_Mo_wish b_Mo_wish 4 (some .boolean) 1 D (oty Y_Mo cA) [.ref h0, jv v, jv b] (ow Y_Mo h0 ad cA) S (fun z u => (0 ≤ v ∧ v < S 0 0 ∧ z = S 1 v ∧ u = u2 (u2 S 1 v b) 8 0 0) ∨ (¬ (0 ≤ v ∧ v < S 0 0) ∧ z = 0 ∧ u = S)) := by
  refine CI.of (by decide) (Nat.le_of_ble_eq_true rfl) (fun K C hR ht hL hcs Z => ?_)
  have C : Ok K R_Mo b_Mo_wish := C
  have L := Ln_Mo (h0 := h0) (ad := ad) ht
  show J K (ow Y_Mo h0 ad cA S) 0 [(0, .ref h0), (1, jv v), (2, jv b)] []
  have hO0 := hO
  obtain ⟨o1, o2, o3, o4, o5, o6, o7⟩ := hO
  have q16 := p2_16 o1.2
  refine j_aload_n C 0 d_Mo_wish_0 rfl rfl ?_
  refine j_iload_n C 1 d_Mo_wish_1 rfl rfl ?_
  refine j_callI (wr := []) (As := [jv v]) (rest := []) (w := ow Y_Mo h0 ad cA) (u0 := S) C (c_Mo_is _ _ h0 ad cA S hO0 v hv) (by rw [ht]; exact fun _ h => h) lk_Mo_24 rfl (q0 := 0) rfl rfl (by rw [hR]; decide) hcs d_Mo_wish_2 rfl (Nat.le_of_ble_eq_true rfl) (fun z u hz => ?_)
  obtain ⟨rfl, hz⟩ := hz
  have z01 : z = 0 ∨ z = 1 := by rw [hz]; split <;> omega
  refine j_if_ne (tgt := 10) C d_Mo_wish_5 (by decide) (rgi (by omega) (by omega)) (fun c => ?_) (fun c => ?_)
  · have vi : 0 ≤ v ∧ v < u 0 0 := by
      by_cases q : 0 ≤ v ∧ v < u 0 0
      · exact q
      · rw [if_neg q] at hz; omega
    have wv := o6 v vi.1 (by omega)
    refine j_aload_n C 0 d_Mo_wish_10 rfl rfl ?_
    refine m_getA C L 1 (by decide) rfl d_Mo_wish_11 ?_
    refine j_iload_n C 1 d_Mo_wish_14 rfl rfl ?_
    refine m_zald C L 1 16 (by decide) rfl rfl (u 1 v) rfl (by omega) (by omega) d_Mo_wish_15 ?_
    refine j_istore_n (lv' := [(0, .ref h0), (1, jv v), (2, jv b), (3, jv (u 1 v))]) C d_Mo_wish_16 rfl (by rw [hL]; decide) rfl rfl ?_
    refine j_aload_n C 0 d_Mo_wish_17 rfl rfl ?_
    refine m_getA C L 1 (by decide) rfl d_Mo_wish_18 ?_
    refine j_iload_n C 1 d_Mo_wish_21 rfl rfl ?_
    refine j_iload_n C 2 d_Mo_wish_22 rfl rfl ?_
    refine m_zast C L 1 16 (by decide) rfl rfl (by omega) (by omega) (by omega) d_Mo_wish_23 ?_
    refine j_aload_n C 0 d_Mo_wish_24 rfl rfl ?_
    refine j_iconst C d_Mo_wish_25 ?_
    refine m_putZ C L 8 (by decide) rfl rfl rfl (by omega) d_Mo_wish_26 ?_
    refine j_iload_n C 3 d_Mo_wish_29 rfl rfl ?_
    exact j_ret C Z (bz wv).1 d_Mo_wish_30 (Or.inl ⟨vi.1, by omega, rfl, rfl⟩)
  · have vi : ¬ (0 ≤ v ∧ v < u 0 0) := fun q => by rw [if_pos q] at hz; omega
    refine j_iconst C d_Mo_wish_8 ?_
    exact j_ret C Z (by decide) d_Mo_wish_9 (Or.inr ⟨vi, rfl, rfl⟩)
theorem c_Mo_literal (l : Launch) (D : va_G) (h0 : Nat) (ad : Nat → Nat) (cA : Nat → ClassId) (S : Sv) (hO : MI S) (v b : Int) (hv : rg v) (hb : b = 0 ∨ b = 1) : CI l y_Mo_literal b_Mo_literal 3 (some .int) 1 D (oty Y_Mo cA) [.ref h0, jv v, jv b] (ow Y_Mo h0 ad cA) S (fun z u => (0 ≤ v ∧ v < S 0 0 ∧ u = (if b = 0 then u2 S 6 0 (orI (S 6 0) (p2 v)) else u2 S 5 0 (orI (S 5 0) (p2 v))) ∧ z = pcnt (u 5 0) + pcnt (u 6 0)) ∨ (¬ (0 ≤ v ∧ v < S 0 0) ∧ z = -1 ∧ u = S)) := by
  refine CI.of (by decide) (Nat.le_of_ble_eq_true rfl) (fun K C hR ht hL hcs Z => ?_)
  have C : Ok K R_Mo b_Mo_literal := C
  have L := Ln_Mo (h0 := h0) (ad := ad) ht
  show J K (ow Y_Mo h0 ad cA S) 0 [(0, .ref h0), (1, jv v), (2, jv b)] []
  have hO0 := hO
  obtain ⟨o1, o2, o3, o4, o5, o6, o7⟩ := hO
  have q16 := p2_16 o1.2
  refine j_aload_n C 0 d_Mo_literal_0 rfl rfl ?_
  refine j_iload_n C 1 d_Mo_literal_1 rfl rfl ?_
  refine j_callI (wr := []) (As := [jv v]) (rest := []) (w := ow Y_Mo h0 ad cA) (u0 := S) C (c_Mo_is _ _ h0 ad cA S hO0 v hv) (by rw [ht]; exact fun _ h => h) lk_Mo_24 rfl (q0 := 0) rfl rfl (by rw [hR]; decide) hcs d_Mo_literal_2 rfl (Nat.le_of_ble_eq_true rfl) (fun z u hz => ?_)
  obtain ⟨eu, hz⟩ := hz
  subst u
  have z01 : z = 0 ∨ z = 1 := by rw [hz]; split <;> omega
  refine j_if_ne (tgt := 10) C d_Mo_literal_5 (by decide) (rgi (by omega) (by omega)) (fun c => ?_) (fun c => ?_)
  · have vi : 0 ≤ v ∧ v < S 0 0 := by
      by_cases q : 0 ≤ v ∧ v < S 0 0
      · exact q
      · exfalso; apply c; rw [hz, if_neg (by omega)]
    have vl : 0 ≤ p2 v ∧ p2 v < p2 (S 0 0) := by
      have h1 := p2_pos v
      have h2 := p2_le (a := v + 1) (b := S 0 0) (by omega)
      rw [p2_s vi.1] at h2
      omega
    have oy := orI_lt o4.1 o4.2 vl.1 vl.2
    have on := orI_lt o5.1 o5.2 vl.1 vl.2
    refine j_iload_n C 2 d_Mo_literal_10 rfl rfl ?_
    refine j_if_eq (tgt := 29) C d_Mo_literal_11 (by decide) (rgi (by omega) (by omega)) (fun d => ?_) (fun d => ?_)
    · refine j_aload_n C 0 d_Mo_literal_29 rfl rfl ?_
      refine j_dup C d_Mo_literal_30 rfl ?_
      refine m_get C L 6 (by decide) rfl (S 6 0) rfl d_Mo_literal_31 ?_
      refine j_iconst C d_Mo_literal_34 ?_
      refine j_iload_n C 1 d_Mo_literal_35 rfl rfl ?_
      refine j_ishl C d_Mo_literal_36 (z := p2 v) (jI_shl vi.1 (by omega)) ?_
      refine j_ior C d_Mo_literal_37 (z := orI (S 6 0) (p2 v)) (jI_or o5.1 vl.1) ?_
      refine m_put C L 6 (by decide) rfl rfl rfl d_Mo_literal_38 ?_
      refine j_aload_n C 0 d_Mo_literal_41 rfl rfl ?_
      refine m_get C L 5 (by decide) rfl (S 5 0) rfl d_Mo_literal_42 ?_
      refine j_callP (As := [jv (S 5 0)]) (rest := []) C (c_Mo_bits _ _ (S 5 0) o4.1 (by omega)) lk_Mo_38 rfl (by rw [hR]; decide) hcs d_Mo_literal_45 rfl (Nat.le_of_ble_eq_true rfl) (fun z1 hz1 => ?_)
      refine j_aload_n C 0 d_Mo_literal_48 rfl rfl ?_
      refine m_get C L 6 (by decide) rfl (orI (S 6 0) (p2 v)) (u2_ss _ _ _ _) d_Mo_literal_49 ?_
      refine j_callP (As := [jv (orI (S 6 0) (p2 v))]) (rest := [jv z1]) C (c_Mo_bits _ _ (orI (S 6 0) (p2 v)) on.1 (by omega)) lk_Mo_38 rfl (by rw [hR]; decide) hcs d_Mo_literal_52 rfl (Nat.le_of_ble_eq_true rfl) (fun z2 hz2 => ?_)
      refine j_iadd C d_Mo_literal_55 ?_
      refine j_ret C Z rfl d_Mo_literal_56 (Or.inl ⟨vi.1, vi.2, by rw [if_pos d], ?_⟩)
      rw [hz1, hz2]
      show _ = pcnt (S 5 0) + pcnt ((u2 S 6 0 (orI (S 6 0) (p2 v))) 6 0); rw [u2_ss]
    · refine j_aload_n C 0 d_Mo_literal_14 rfl rfl ?_
      refine j_dup C d_Mo_literal_15 rfl ?_
      refine m_get C L 5 (by decide) rfl (S 5 0) rfl d_Mo_literal_16 ?_
      refine j_iconst C d_Mo_literal_19 ?_
      refine j_iload_n C 1 d_Mo_literal_20 rfl rfl ?_
      refine j_ishl C d_Mo_literal_21 (z := p2 v) (jI_shl vi.1 (by omega)) ?_
      refine j_ior C d_Mo_literal_22 (z := orI (S 5 0) (p2 v)) (jI_or o4.1 vl.1) ?_
      refine m_put C L 5 (by decide) rfl rfl rfl d_Mo_literal_23 ?_
      refine j_goto (tgt := 41) C d_Mo_literal_26 (by decide) ?_
      refine j_aload_n C 0 d_Mo_literal_41 rfl rfl ?_
      refine m_get C L 5 (by decide) rfl (orI (S 5 0) (p2 v)) (u2_ss _ _ _ _) d_Mo_literal_42 ?_
      refine j_callP (As := [jv (orI (S 5 0) (p2 v))]) (rest := []) C (c_Mo_bits _ _ (orI (S 5 0) (p2 v)) oy.1 (by omega)) lk_Mo_38 rfl (by rw [hR]; decide) hcs d_Mo_literal_45 rfl (Nat.le_of_ble_eq_true rfl) (fun z1 hz1 => ?_)
      refine j_aload_n C 0 d_Mo_literal_48 rfl rfl ?_
      refine m_get C L 6 (by decide) rfl (S 6 0) rfl d_Mo_literal_49 ?_
      refine j_callP (As := [jv (S 6 0)]) (rest := [jv z1]) C (c_Mo_bits _ _ (S 6 0) o5.1 (by omega)) lk_Mo_38 rfl (by rw [hR]; decide) hcs d_Mo_literal_52 rfl (Nat.le_of_ble_eq_true rfl) (fun z2 hz2 => ?_)
      refine j_iadd C d_Mo_literal_55 ?_
      refine j_ret C Z rfl d_Mo_literal_56 (Or.inl ⟨vi.1, vi.2, by rw [if_neg d], ?_⟩)
      rw [hz1, hz2]
      show _ = pcnt ((u2 S 5 0 (orI (S 5 0) (p2 v))) 5 0) + pcnt (S 6 0); rw [u2_ss]
  · have vi : ¬ (0 ≤ v ∧ v < S 0 0) := fun q => by rw [if_pos (by omega)] at hz; omega
    refine j_iconst C d_Mo_literal_8 ?_
    exact j_ret C Z rfl d_Mo_literal_9 (Or.inr ⟨vi, rfl, rfl⟩)
theorem c_Mo_some (l : Launch) (D : va_G) (h0 : Nat) (ad : Nat → Nat) (cA : Nat → ClassId) (S : Sv) (hO : MI S) (y n : Int) : CI l y_Mo_some b_Mo_some 3 (some .int) 0 D (oty Y_Mo cA) [.ref h0, jv y, jv n] (ow Y_Mo h0 ad cA) S (fun z u => (S 4 0 = 400 ∧ z = -3 ∧ u = S) ∨ (S 4 0 < 400 ∧ z = S 4 0 + 1 ∧ u = mSome S y n)) := by
  refine CI.of (by decide) (Nat.le_of_ble_eq_true rfl) (fun K C hR ht hL hcs Z => ?_)
  have C : Ok K R_Mo b_Mo_some := C
  have L := Ln_Mo (h0 := h0) (ad := ad) ht
  show J K (ow Y_Mo h0 ad cA S) 0 [(0, .ref h0), (1, jv y), (2, jv n)] []
  obtain ⟨o1, o2, o3, o4, o5, o6, o7⟩ := hO
  have q16 := p2_16 o1.2
  refine j_aload_n C 0 d_Mo_some_0 rfl rfl ?_
  refine m_get C L 4 (by decide) rfl (S 4 0) rfl d_Mo_some_1 ?_
  refine j_sipush C d_Mo_some_4 (by decide) ?_
  refine j_icmp_ne (tgt := 13) C d_Mo_some_7 (by decide) (rgi (by omega) (by omega)) (rgi (by omega) (by omega)) (fun c => ?_) (fun c => ?_)
  · refine j_aload_n C 0 d_Mo_some_13 rfl rfl ?_
    refine m_getA C L 2 (by decide) rfl d_Mo_some_14 ?_
    refine j_aload_n C 0 d_Mo_some_17 rfl rfl ?_
    refine m_get C L 4 (by decide) rfl (S 4 0) rfl d_Mo_some_18 ?_
    refine j_iload_n C 1 d_Mo_some_21 rfl rfl ?_
    refine j_iconst C d_Mo_some_22 ?_
    refine j_aload_n C 0 d_Mo_some_23 rfl rfl ?_
    refine m_get C L 0 (by decide) rfl (S 0 0) rfl d_Mo_some_24 ?_
    refine j_ishl C d_Mo_some_27 (z := p2 (S 0 0)) (jI_shl (by omega) o1.2) ?_
    refine j_iconst C d_Mo_some_28 ?_
    refine j_isub C d_Mo_some_29 ?_
    refine j_iand C d_Mo_some_30 (z := y % p2 (S 0 0)) (jI_mask (by omega) o1.2 y) ?_
    refine m_iast C L 2 400 (by decide) rfl rfl (by omega) (by omega) d_Mo_some_31 ?_
    refine j_aload_n C 0 d_Mo_some_32 rfl rfl ?_
    refine m_getA C L 3 (by decide) rfl d_Mo_some_33 ?_
    refine j_aload_n C 0 d_Mo_some_36 rfl rfl ?_
    refine m_get C L 4 (by decide) rfl (S 4 0) rfl d_Mo_some_37 ?_
    refine j_iload_n C 2 d_Mo_some_40 rfl rfl ?_
    refine j_iconst C d_Mo_some_41 ?_
    refine j_aload_n C 0 d_Mo_some_42 rfl rfl ?_
    refine m_get C L 0 (by decide) rfl (S 0 0) rfl d_Mo_some_43 ?_
    refine j_ishl C d_Mo_some_46 (z := p2 (S 0 0)) (jI_shl (by omega) o1.2) ?_
    refine j_iconst C d_Mo_some_47 ?_
    refine j_isub C d_Mo_some_48 ?_
    refine j_iand C d_Mo_some_49 (z := n % p2 (S 0 0)) (jI_mask (by omega) o1.2 n) ?_
    refine m_iast C L 3 400 (by decide) rfl rfl (by omega) (by omega) d_Mo_some_50 ?_
    refine j_aload_n C 0 d_Mo_some_51 rfl rfl ?_
    refine j_dup C d_Mo_some_52 rfl ?_
    refine m_get C L 4 (by decide) rfl (S 4 0) rfl d_Mo_some_53 ?_
    refine j_iconst C d_Mo_some_56 ?_
    refine j_iadd C d_Mo_some_57 ?_
    refine m_put C L 4 (by decide) rfl rfl rfl d_Mo_some_58 ?_
    refine j_aload_n C 0 d_Mo_some_61 rfl rfl ?_
    refine j_iconst C d_Mo_some_62 ?_
    refine m_putZ C L 8 (by decide) rfl rfl rfl (by omega) d_Mo_some_63 ?_
    refine j_aload_n C 0 d_Mo_some_66 rfl rfl ?_
    refine m_get C L 4 (by decide) rfl (S 4 0 + 1) (show up (S 4) 0 (S 4 0 + 1) 0 = _ by rw [up_s]) d_Mo_some_67 ?_
    exact j_ret C Z rfl d_Mo_some_70 (Or.inr ⟨by omega, rfl, rfl⟩)
  · refine j_bipush C d_Mo_some_10 (by decide) ?_
    exact j_ret C Z rfl d_Mo_some_12 (Or.inl ⟨c, rfl, rfl⟩)
theorem c_Mo_clause (l : Launch) (D : va_G) (h0 : Nat) (ad : Nat → Nat) (cA : Nat → ClassId) (S : Sv) (hO : MI S) : CI l y_Mo_clause b_Mo_clause 1 (some .int) 1 D (oty Y_Mo cA) [.ref h0] (ow Y_Mo h0 ad cA) S (fun z u => (S 4 0 = 400 ∧ z = -3 ∧ u = S) ∨ (S 4 0 < 400 ∧ z = S 4 0 + 1 ∧ u = u2 (u2 (mSome S (S 5 0) (S 6 0)) 5 0 0) 6 0 0)) := by
  refine CI.of (by decide) (Nat.le_of_ble_eq_true rfl) (fun K C hR ht hL hcs Z => ?_)
  have C : Ok K R_Mo b_Mo_clause := C
  have L := Ln_Mo (h0 := h0) (ad := ad) ht
  show J K (ow Y_Mo h0 ad cA S) 0 [(0, .ref h0)] []
  have hO0 := hO
  obtain ⟨o1, o2, o3, o4, o5, o6, o7⟩ := hO
  have q16 := p2_16 o1.2
  refine j_aload_n C 0 d_Mo_clause_0 rfl rfl ?_
  refine m_get C L 4 (by decide) rfl (S 4 0) rfl d_Mo_clause_1 ?_
  refine j_sipush C d_Mo_clause_4 (by decide) ?_
  refine j_icmp_ne (tgt := 13) C d_Mo_clause_7 (by decide) (rgi (by omega) (by omega)) (rgi (by omega) (by omega)) (fun c => ?_) (fun c => ?_)
  · refine j_aload_n C 0 d_Mo_clause_13 rfl rfl ?_
    refine j_aload_n C 0 d_Mo_clause_14 rfl rfl ?_
    refine m_get C L 5 (by decide) rfl (S 5 0) rfl d_Mo_clause_15 ?_
    refine j_aload_n C 0 d_Mo_clause_18 rfl rfl ?_
    refine m_get C L 6 (by decide) rfl (S 6 0) rfl d_Mo_clause_19 ?_
    refine j_callI (wr := []) (As := [jv (S 5 0), jv (S 6 0)]) (rest := []) (w := ow Y_Mo h0 ad cA) (u0 := S) C (c_Mo_some _ _ h0 ad cA S hO0 (S 5 0) (S 6 0)) (by rw [ht]; exact fun _ h => h) lk_Mo_45 rfl (q0 := 0) rfl rfl (by rw [hR]; decide) hcs d_Mo_clause_22 rfl (Nat.le_of_ble_eq_true rfl) (fun z u hz => ?_)
    rcases hz with ⟨e, -⟩ | ⟨-, rfl, rfl⟩
    · exact absurd e c
    refine j_pop C d_Mo_clause_25 rfl ?_
    refine j_aload_n C 0 d_Mo_clause_26 rfl rfl ?_
    refine j_iconst C d_Mo_clause_27 ?_
    refine m_put C L 5 (by decide) rfl rfl rfl d_Mo_clause_28 ?_
    refine j_aload_n C 0 d_Mo_clause_31 rfl rfl ?_
    refine j_iconst C d_Mo_clause_32 ?_
    refine m_put C L 6 (by decide) rfl rfl rfl d_Mo_clause_33 ?_
    refine j_aload_n C 0 d_Mo_clause_36 rfl rfl ?_
    refine m_get C L 4 (by decide) rfl (S 4 0 + 1) (show up (S 4) 0 (S 4 0 + 1) 0 = _ by rw [up_s]) d_Mo_clause_37 ?_
    exact j_ret C Z rfl d_Mo_clause_40 (Or.inr ⟨by omega, rfl, rfl⟩)
  · refine j_bipush C d_Mo_clause_10 (by decide) ?_
    exact j_ret C Z rfl d_Mo_clause_12 (Or.inl ⟨c, rfl, rfl⟩)
theorem c_Mo_drop (l : Launch) (D : va_G) (h0 : Nat) (ad : Nat → Nat) (cA : Nat → ClassId) (S : Sv) (hO : MI S) (k : Int) (hk : rg k) : CI l y_Mo_drop b_Mo_drop 2 (some .int) 0 D (oty Y_Mo cA) [.ref h0, jv k] (ow Y_Mo h0 ad cA) S (fun z u => (0 ≤ k ∧ k < S 4 0 ∧ z = S 4 0 - 1 ∧ u = mDrop S k) ∨ (¬ (0 ≤ k ∧ k < S 4 0) ∧ z = -2 ∧ u = S)) := by
  refine CI.of (by decide) (Nat.le_of_ble_eq_true rfl) (fun K C hR ht hL hcs Z => ?_)
  have C : Ok K R_Mo b_Mo_drop := C
  have L := Ln_Mo (h0 := h0) (ad := ad) ht
  show J K (ow Y_Mo h0 ad cA S) 0 [(0, .ref h0), (1, jv k)] []
  obtain ⟨o1, o2, o3, o4, o5, o6, o7⟩ := hO
  have q16 := p2_16 o1.2
  refine j_iload_n C 1 d_Mo_drop_0 rfl rfl ?_
  refine j_if_lt (tgt := 12) C d_Mo_drop_1 (by decide) hk (fun c => ?_) (fun c => ?_)
  · refine j_bipush C d_Mo_drop_12 (by decide) ?_
    exact j_ret C Z rfl d_Mo_drop_14 (Or.inr ⟨by omega, rfl, rfl⟩)
  · refine j_iload_n C 1 d_Mo_drop_4 rfl rfl ?_
    refine j_aload_n C 0 d_Mo_drop_5 rfl rfl ?_
    refine m_get C L 4 (by decide) rfl (S 4 0) rfl d_Mo_drop_6 ?_
    refine j_icmp_lt (tgt := 15) C d_Mo_drop_9 (by decide) hk (rgi (by omega) (by omega)) (fun d => ?_) (fun d => ?_)
    · refine j_aload_n C 0 d_Mo_drop_15 rfl rfl ?_
      refine j_dup C d_Mo_drop_16 rfl ?_
      refine m_get C L 4 (by decide) rfl (S 4 0) rfl d_Mo_drop_17 ?_
      refine j_iconst C d_Mo_drop_20 ?_
      refine j_isub C d_Mo_drop_21 ?_
      refine m_put C L 4 (by decide) rfl rfl rfl d_Mo_drop_22 ?_
      refine j_aload_n C 0 d_Mo_drop_25 rfl rfl ?_
      refine m_getA C L 2 (by decide) rfl d_Mo_drop_26 ?_
      refine j_iload_n C 1 d_Mo_drop_29 rfl rfl ?_
      refine j_aload_n C 0 d_Mo_drop_30 rfl rfl ?_
      refine m_getA C L 2 (by decide) rfl d_Mo_drop_31 ?_
      refine j_aload_n C 0 d_Mo_drop_34 rfl rfl ?_
      refine m_get C L 4 (by decide) rfl (S 4 0 - 1) (show up (S 4) 0 (S 4 0 - 1) 0 = _ by rw [up_s]) d_Mo_drop_35 ?_
      refine m_iald C L 2 400 (by decide) rfl rfl (S 2 (S 4 0 - 1)) rfl (by omega) (by omega) d_Mo_drop_38 ?_
      refine m_iast C L 2 400 (by decide) rfl rfl (by omega) (by omega) d_Mo_drop_39 ?_
      refine j_aload_n C 0 d_Mo_drop_40 rfl rfl ?_
      refine m_getA C L 3 (by decide) rfl d_Mo_drop_41 ?_
      refine j_iload_n C 1 d_Mo_drop_44 rfl rfl ?_
      refine j_aload_n C 0 d_Mo_drop_45 rfl rfl ?_
      refine m_getA C L 3 (by decide) rfl d_Mo_drop_46 ?_
      refine j_aload_n C 0 d_Mo_drop_49 rfl rfl ?_
      refine m_get C L 4 (by decide) rfl (S 4 0 - 1) (show up (S 4) 0 (S 4 0 - 1) 0 = _ by rw [up_s]) d_Mo_drop_50 ?_
      refine m_iald C L 3 400 (by decide) rfl rfl (S 3 (S 4 0 - 1)) rfl (by omega) (by omega) d_Mo_drop_53 ?_
      refine m_iast C L 3 400 (by decide) rfl rfl (by omega) (by omega) d_Mo_drop_54 ?_
      refine j_aload_n C 0 d_Mo_drop_55 rfl rfl ?_
      refine j_iconst C d_Mo_drop_56 ?_
      refine m_putZ C L 8 (by decide) rfl rfl rfl (by omega) d_Mo_drop_57 ?_
      refine j_aload_n C 0 d_Mo_drop_60 rfl rfl ?_
      refine m_get C L 4 (by decide) rfl (S 4 0 - 1) (show up (S 4) 0 (S 4 0 - 1) 0 = _ by rw [up_s]) d_Mo_drop_61 ?_
      exact j_ret C Z rfl d_Mo_drop_64 (Or.inl ⟨by omega, d, rfl, rfl⟩)
    · refine j_bipush C d_Mo_drop_12 (by decide) ?_
      exact j_ret C Z rfl d_Mo_drop_14 (Or.inr ⟨by omega, rfl, rfl⟩)
theorem c_Mo_count (l : Launch) (D : va_G) (h0 : Nat) (ad : Nat → Nat) (cA : Nat → ClassId) (S : Sv) (hO : MI S) (x : Int) (hx : rg x) : CI l y_Mo_count b_Mo_count 2 (some .int) 1 D (oty Y_Mo cA) [.ref h0, jv x] (ow Y_Mo h0 ad cA) S (fun z u => u = S ∧ z = if x = 0 then S 0 0 else if x = 1 then S 4 0 else if x = 2 then pcnt (S 5 0) + pcnt (S 6 0) else -1) := by
  refine CI.of (by decide) (Nat.le_of_ble_eq_true rfl) (fun K C hR ht hL hcs Z => ?_)
  have C : Ok K R_Mo b_Mo_count := C
  have L := Ln_Mo (h0 := h0) (ad := ad) ht
  show J K (ow Y_Mo h0 ad cA S) 0 [(0, .ref h0), (1, jv x)] []
  obtain ⟨o1, o2, o3, o4, o5, o6, o7⟩ := hO
  have q16 := p2_16 o1.2
  refine j_iload_n C 1 d_Mo_count_0 rfl rfl ?_
  by_cases q : 0 ≤ x ∧ x ≤ 2
  · rcases (show x = 0 ∨ x = 1 ∨ x = 2 by omega) with e | e | e
    · subst e
      refine j_tabIn (tgt := 28) (off := 27) C d_Mo_count_1 hx (by decide) (by decide) (by decide) (by decide) ?_
      refine j_aload_n C 0 d_Mo_count_28 rfl rfl ?_
      refine m_get C L 0 (by decide) rfl (S 0 0) rfl d_Mo_count_29 ?_
      exact j_ret C Z rfl d_Mo_count_32 ⟨rfl, by simp⟩
    · subst e
      refine j_tabIn (tgt := 33) (off := 32) C d_Mo_count_1 hx (by decide) (by decide) (by decide) (by decide) ?_
      refine j_aload_n C 0 d_Mo_count_33 rfl rfl ?_
      refine m_get C L 4 (by decide) rfl (S 4 0) rfl d_Mo_count_34 ?_
      exact j_ret C Z rfl d_Mo_count_37 ⟨rfl, by simp⟩
    · subst e
      refine j_tabIn (tgt := 38) (off := 37) C d_Mo_count_1 hx (by decide) (by decide) (by decide) (by decide) ?_
      refine j_aload_n C 0 d_Mo_count_38 rfl rfl ?_
      refine m_get C L 5 (by decide) rfl (S 5 0) rfl d_Mo_count_39 ?_
      refine j_callP (As := [jv (S 5 0)]) (rest := []) C (c_Mo_bits _ _ (S 5 0) o4.1 (by omega)) lk_Mo_38 rfl (by rw [hR]; decide) hcs d_Mo_count_42 rfl (Nat.le_of_ble_eq_true rfl) (fun z1 hz1 => ?_)
      refine j_aload_n C 0 d_Mo_count_45 rfl rfl ?_
      refine m_get C L 6 (by decide) rfl (S 6 0) rfl d_Mo_count_46 ?_
      refine j_callP (As := [jv (S 6 0)]) (rest := [jv z1]) C (c_Mo_bits _ _ (S 6 0) o5.1 (by omega)) lk_Mo_38 rfl (by rw [hR]; decide) hcs d_Mo_count_49 rfl (Nat.le_of_ble_eq_true rfl) (fun z2 hz2 => ?_)
      refine j_iadd C d_Mo_count_52 ?_
      exact j_ret C Z rfl d_Mo_count_53 ⟨rfl, by simp [hz1, hz2]⟩
  · refine j_tabOut (tgt := 54) C d_Mo_count_1 hx (by omega) (by decide) ?_
    refine j_iconst C d_Mo_count_54 ?_
    exact j_ret C Z rfl d_Mo_count_55 ⟨rfl, by rw [if_neg (by omega), if_neg (by omega), if_neg (by omega)]⟩
end
section
/-! pure: the formula of masks; what the solver is given -/
/-- a clause of two masks -/
def Cm (y n nv : Int) (μ : Int → Bool) : Prop := ∃ v, 0 ≤ v ∧ v < nv ∧ ((bit y v ∧ μ v = true) ∨ (bit n v ∧ μ v = false))
/-- the formula: its first c clauses -/
def Fm (ys ns : Int → Int) (nv c : Int) (μ : Int → Bool) : Prop := ∀ k, 0 ≤ k → k < c → Cm (ys k) (ns k) nv μ
theorem Fm_s (ys ns : Int → Int) (nv c : Int) (h : 0 ≤ c) (μ : Int → Bool) : Fm ys ns nv (c + 1) μ ↔ (Fm ys ns nv c μ ∧ Cm (ys c) (ns c) nv μ) := by
  constructor
  · exact fun q => ⟨fun k a b => q k a (by omega), q c h (by omega)⟩
  · rintro ⟨q1, q2⟩ k a b
    by_cases e : k = c
    · rw [e]; exact q2
    · exact q1 k a (by omega)
/-- the literals that were made up are those of Q -/
def Mq (S : Sv) (Q : Int → Prop) : Prop := 0 ≤ S 21 0 ∧ (∀ i, 0 ≤ i → i < S 21 0 → Q (S 20 i)) ∧ (∀ l, Q l → ∃ i, 0 ≤ i ∧ i < S 21 0 ∧ S 20 i = l) ∧ ∀ i j, 0 ≤ i → i < j → j < S 21 0 → S 20 i ≠ S 20 j
theorem Mq.congr {S : Sv} {Q Q' : Int → Prop} (h : Mq S Q) (e : ∀ l, Q' l ↔ Q l) : Mq S Q' := ⟨h.1, fun i a b => (e _).mpr (h.2.1 i a b), fun l q => h.2.2.1 l ((e l).mp q), h.2.2.2⟩
theorem Mq.nil {S : Sv} (h : S 21 0 = 0) : Mq S (fun _ => False) := ⟨by omega, fun i a b => by omega, fun l q => absurd q id, fun i j a b c => by omega⟩
theorem Mq.le {S : Sv} {Q : Int → Prop} {n : Int} (h : Mq S Q) (hn : 0 ≤ n) (hQ : ∀ l, Q l → 0 ≤ l ∧ l < n) : S 21 0 ≤ n := pigZ (f := S 20) hn (fun i a b => hQ _ (h.2.1 i a b)) h.2.2.2
theorem Mq.lt {S : Sv} {Q : Int → Prop} {n a : Int} (h : Mq S Q) (hn : 0 ≤ n) (hQ : ∀ l, Q l → 0 ≤ l ∧ l < n) (ha : 0 ≤ a ∧ a < n) (hne : ∀ k, 0 ≤ k → k < S 21 0 → S 20 k ≠ a) : S 21 0 < n := by
  have := pigZ (n := n) (m := S 21 0 + 1) (f := up (S 20) (S 21 0) a) hn (fun i x y => by
    by_cases e : i = S 21 0
    · rw [e, up_s]; exact ha
    · rw [up_n _ _ e]; exact hQ _ (h.2.1 i x (by omega))) (fun i j x y z => by
    by_cases e : j = S 21 0
    · rw [e, up_s, up_n _ _ (by omega)]; exact hne i x (by omega)
    · rw [up_n _ _ e, up_n _ _ (by omega)]; exact h.2.2.2 i j x y (by omega))
  omega
/-- one more literal -/
theorem Mq.with {S u : Sv} {Q : Int → Prop} {a : Int} (h : Mq S Q) (hu : ((∃ k, 0 ≤ k ∧ k < S 21 0 ∧ S 20 k = a) ∧ u = S) ∨ ((∀ k, 0 ≤ k → k < S 21 0 → S 20 k ≠ a) ∧ u = u2 (u2 S 20 (S 21 0) a) 21 0 (S 21 0 + 1))) : Mq u (fun l => Q l ∨ l = a) ∧ ∀ k, k ≠ 20 → k ≠ 21 → u k = S k := by
  rcases hu with ⟨⟨k, k1, k2, k3⟩, rfl⟩ | ⟨hne, rfl⟩
  · refine ⟨h.congr (fun l => ⟨fun q => q.elim id (fun e => ?_), Or.inl⟩), fun _ _ _ => rfl⟩
    rw [e, ← k3]; exact h.2.1 k k1 k2
  · have e21 : (u2 (u2 S 20 (S 21 0) a) 21 0 (S 21 0 + 1)) 21 0 = S 21 0 + 1 := u2_ss _ _ _ _
    have h0 := h.1
    refine ⟨?_, fun k k20 k21 => by rw [u2_n _ _ _ k21, u2_n _ _ _ k20]⟩
    unfold Mq
    rw [e21]
    show 0 ≤ S 21 0 + 1 ∧ (∀ i, 0 ≤ i → i < S 21 0 + 1 → Q (up (S 20) (S 21 0) a i) ∨ up (S 20) (S 21 0) a i = a) ∧ (∀ l, Q l ∨ l = a → ∃ i, 0 ≤ i ∧ i < S 21 0 + 1 ∧ up (S 20) (S 21 0) a i = l) ∧ ∀ i j, 0 ≤ i → i < j → j < S 21 0 + 1 → up (S 20) (S 21 0) a i ≠ up (S 20) (S 21 0) a j
    refine ⟨by omega, fun i x y => ?_, fun l q => ?_, fun i j x y z => ?_⟩
    · by_cases e : i = S 21 0
      · rw [e, up_s]; exact Or.inr rfl
      · rw [up_n _ _ e]; exact Or.inl (h.2.1 i x (by omega))
    · rcases q with q | q
      · obtain ⟨i, i1, i2, i3⟩ := h.2.2.1 l q
        exact ⟨i, i1, by omega, by rw [up_n _ _ (by omega)]; exact i3⟩
      · exact ⟨S 21 0, h0, by omega, by rw [up_s, q]⟩
    · by_cases e : j = S 21 0
      · rw [e, up_s, up_n _ _ (by omega)]; exact hne i x (by omega)
      · rw [up_n _ _ e, up_n _ _ (by omega)]; exact h.2.2.2 i j x y (by omega)
/-- the literals of two masks, of the first v variables -/
def Ql (y n v l : Int) : Prop := 0 ≤ l ∧ l / 2 < v ∧ ((l % 2 = 0 ∧ bit y (l / 2)) ∨ (l % 2 = 1 ∧ bit n (l / 2)))
theorem Ql_0 (y n l : Int) : Ql y n 0 l ↔ False := ⟨fun q => by have := q.1; have := q.2.1; omega, fun q => absurd q id⟩
theorem Ql_s (y n v l : Int) (hv : 0 ≤ v) : Ql y n (v + 1) l ↔ ((Ql y n v l ∨ (l = 2 * v ∧ bit y v)) ∨ (l = 2 * v + 1 ∧ bit n v)) := by
  unfold Ql
  constructor
  · rintro ⟨q1, q2, q3⟩
    by_cases e : l / 2 = v
    · rw [e] at q3
      rcases q3 with ⟨a, b⟩ | ⟨a, b⟩
      · exact Or.inl (Or.inr ⟨by omega, b⟩)
      · exact Or.inr ⟨by omega, b⟩
    · exact Or.inl (Or.inl ⟨q1, by omega, q3⟩)
  · rintro ((⟨q1, q2, q3⟩ | ⟨q1, q2⟩) | ⟨q1, q2⟩)
    · exact ⟨q1, by omega, q3⟩
    · exact ⟨by omega, by omega, Or.inl ⟨by omega, by rw [show l / 2 = v by omega]; exact q2⟩⟩
    · exact ⟨by omega, by omega, Or.inr ⟨by omega, by rw [show l / 2 = v by omega]; exact q2⟩⟩
theorem Mq.clm {S : Sv} {y n nv : Int} (h : Mq S (Ql y n nv)) (μ : Int → Bool) : Clm (S 20) (S 21 0) μ ↔ Cm y n nv μ := by
  constructor
  · rintro ⟨i, i1, i2, i3⟩
    have q := h.2.1 i i1 i2
    refine ⟨S 20 i / 2, by have := q.1; omega, q.2.1, ?_⟩
    unfold sat at i3
    rcases q.2.2 with ⟨a, b⟩ | ⟨a, b⟩
    · left; refine ⟨b, ?_⟩; rw [i3]; simp [a]
    · right; refine ⟨b, ?_⟩; rw [i3]; simp [a]
  · rintro ⟨v, v1, v2, q⟩
    rcases q with ⟨a, b⟩ | ⟨a, b⟩
    · obtain ⟨i, i1, i2, i3⟩ := h.2.2.1 (2 * v) ⟨by omega, by omega, Or.inl ⟨by omega, by rw [show 2 * v / 2 = v by omega]; exact a⟩⟩
      refine ⟨i, i1, i2, ?_⟩
      rw [i3]; unfold sat
      rw [show 2 * v / 2 = v by omega, b]; simp
    · obtain ⟨i, i1, i2, i3⟩ := h.2.2.1 (2 * v + 1) ⟨by omega, by omega, Or.inr ⟨by omega, by rw [show (2 * v + 1) / 2 = v by omega]; exact a⟩⟩
      refine ⟨i, i1, i2, ?_⟩
      rw [i3]; unfold sat
      rw [show (2 * v + 1) / 2 = v by omega, b, show (2 * v + 1) % 2 = 1 by omega]; rfl
/-- what isn't of the invariant may change -/
theorem AI.made {Mod : (Int → Bool) → Prop} {S S' : Sv} {k : Int} (h : AI Mod S k) (o : ∀ j, j ≠ 20 → j ≠ 21 → S' j = S j) : AI Mod S' k := by
  obtain ⟨M0, h1, h2, h3, h4, h5, h6⟩ := h
  refine ⟨M0, ?_, ?_⟩
  · unfold Iv at h1 ⊢
    rw [o 0 (by decide) (by decide), o 1 (by decide) (by decide), o 2 (by decide) (by decide), o 3 (by decide) (by decide), o 4 (by decide) (by decide), o 5 (by decide) (by decide), o 6 (by decide) (by decide), o 7 (by decide) (by decide), o 8 (by decide) (by decide), o 10 (by decide) (by decide), o 11 (by decide) (by decide), o 12 (by decide) (by decide), o 13 (by decide) (by decide), o 14 (by decide) (by decide), o 15 (by decide) (by decide), o 16 (by decide) (by decide), o 17 (by decide) (by decide)]
    exact h1
  · rw [o 17 (by decide) (by decide), o 18 (by decide) (by decide), o 8 (by decide) (by decide), o 6 (by decide) (by decide), o 19 (by decide) (by decide)]
    exact ⟨h2, h3, h4, h5, h6⟩
theorem AI.wish {Mod : (Int → Bool) → Prop} {S S' : Sv} {k : Int} (h : AI Mod S k) (o : ∀ j, j ≠ 1 → S' j = S j) : AI Mod S' k := by
  obtain ⟨M0, ⟨a1, a2, a3, a4, a5, a6, a7, a8, a9, a10⟩, h2, h3, h4, h5, h6⟩ := h
  refine ⟨M0, ?_, ?_⟩
  · unfold Iv
    rw [o 0 (by decide), o 2 (by decide), o 3 (by decide), o 4 (by decide), o 5 (by decide), o 6 (by decide), o 7 (by decide), o 8 (by decide), o 10 (by decide), o 11 (by decide), o 12 (by decide), o 13 (by decide), o 14 (by decide), o 15 (by decide), o 16 (by decide), o 17 (by decide)]
    exact ⟨a1, a2, a3, a4, a5, fun j x y => by omega, a7, a8, a9, a10⟩
  · rw [o 17 (by decide), o 18 (by decide), o 8 (by decide), o 6 (by decide), o 19 (by decide)]
    exact ⟨h2, h3, h4, h5, h6⟩
theorem AI.congr {Mod Mod' : (Int → Bool) → Prop} {S : Sv} {k : Int} (h : AI Mod S k) (e : ∀ μ, Mod μ ↔ Mod' μ) : AI Mod' S k := by
  have : Mod = Mod' := funext (fun μ => propext (e μ))
  rw [← this]; exact h
/-- what a solved formula's fields say -/
def KN (S V : Sv) : Prop := (S 9 0 = 0 ∧ ∀ μ, ¬ Fm (S 1) (S 2) (S 6 0) (S 3 0) μ) ∨ (S 9 0 = 1 ∧ First (Fm (S 1) (S 2) (S 6 0) (S 3 0)) (S 6 0) (S 7) (fun v => decide (0 < V 11 v)) ∧ ∀ v, 0 ≤ v → v < S 6 0 → rg (V 11 v))
/-- behind the outer solve -/
def OZ (S : Sv) (z : Int) (u : Sv × Sv) : Prop := u.2 3 0 = 0 ∧ u.1 8 0 = 1 ∧ z = u.1 9 0 ∧ (z = 0 ∨ z = 1) ∧ KN u.1 u.2 ∧ ∀ k, k ≠ 8 → k ≠ 9 → u.1 k = S k
theorem First.wish {Mod : (Int → Bool) → Prop} {n : Int} {w w' : Int → Int} {M : Int → Bool} (h : First Mod n w M) (e : ∀ v, 0 ≤ v → v < n → w' v = w v) : First Mod n w' M := ⟨h.1, fun μ hm v a b c d => by rw [e v a b]; exact h.2 μ hm v a b c d⟩
/-- the sum of the true variables' bits -/
def bs (M : Int → Bool) : Nat → Int
  | 0 => 0
  | k + 1 => bs M k + if M (k : Int) then p2 (k : Int) else 0
theorem bs_lt (M : Int → Bool) : ∀ k : Nat, 0 ≤ bs M k ∧ bs M k < p2 (k : Int)
  | 0 => by simp [bs, p2]
  | k + 1 => by
    have ih := bs_lt M k
    have e := p2_s (n := (k : Int)) (by omega)
    have p := p2_pos (k : Int)
    rw [show ((k + 1 : Nat) : Int) = (k : Int) + 1 by omega, e]
    simp only [bs]
    split <;> omega
theorem bs_congr {M M' : Int → Bool} : ∀ k : Nat, (∀ v, 0 ≤ v → v < (k : Int) → M v = M' v) → bs M k = bs M' k
  | 0, _ => rfl
  | k + 1, h => by
    simp only [bs]
    rw [bs_congr k (fun v a b => h v a (by omega)), h k (by omega) (by omega)]
theorem orI_p2 {a v : Int} (ha : 0 ≤ a) (hv : 0 ≤ v) (h : a < p2 v) : orI a (p2 v) = a + p2 v := by
  unfold orI p2 at *
  have := Nat.two_pow_add_eq_or_of_lt (b := a.toNat) (i := v.toNat) (by omega) 1
  rw [Nat.mul_one] at this
  rw [Nat.or_comm]
  have e : ((2 ^ v.toNat : Nat) : Int).toNat = 2 ^ v.toNat := Int.toNat_natCast _
  rw [e, ← this]; omega
/-- two first answers are one -/
theorem First.one {Mod : (Int → Bool) → Prop} {n : Int} {w : Int → Int} {M M' : Int → Bool} (h : First Mod n w M) (h' : First Mod n w M') : ∀ (k : Nat) (v : Int), v < k → 0 ≤ v → v < n → M v = M' v := by
  intro k
  induction k with
  | zero => intro v a b; omega
  | succ k ih =>
    intro v a b c
    by_cases e : M v = M' v
    · exact e
    · have h1 := h.2 M' h'.1 v b c (fun x x1 x2 => (ih x (by omega) x1 (by omega)).symm) (fun q => e q.symm)
      have h2 := h'.2 M h.1 v b c (fun x x1 x2 => ih x (by omega) x1 (by omega)) e
      rw [h1, h2]
end
section
/-! the outer solve, answer -/
/-- the outer object and its solver -/
def ww (h0 : Nat) (ad : Nat → Nat) (cA : Nat → ClassId) (ad2 : Nat → Nat) (cA2 : Nat → ClassId) (p : Sv × Sv) : va_W := ow Y_Ou h0 ad cA p.1 ++ sw (ad 0) ad2 cA2 p.2
def wty (cA cA2 : Nat → ClassId) : List (ClassId × FieldType) := oty Y_Ou cA ++ sty cA2
theorem Ln_W1 {tys : List (ClassId × FieldType)} {h0 : Nat} {ad : Nat → Nat} {cA : Nat → ClassId} {ad2 : Nat → Nat} {cA2 : Nat → ClassId} (T : Sv) (h : tys = wty cA cA2) : Ln (fun S => ow Y_Ou h0 ad cA S ++ sw (ad 0) ad2 cA2 T) tys Y_Ou h0 ad cA := Ln_mid Y_Ou_ok [] (sw (ad 0) ad2 cA2 T) (fun q hq => by rw [h]; exact List.mem_append_left _ hq)
theorem Ln_W2 {tys : List (ClassId × FieldType)} {h0 : Nat} {ad : Nat → Nat} {cA : Nat → ClassId} {ad2 : Nat → Nat} {cA2 : Nat → ClassId} (S : Sv) (h : tys = wty cA cA2) : Ln (fun T => ow Y_Ou h0 ad cA S ++ sw (ad 0) ad2 cA2 T) tys Y_Sv (ad 0) ad2 cA2 := by
  have q := Ln_mid (h0 := ad 0) (ad := ad2) (cA := cA2) (tys := tys) Y_Sv_ok (ow Y_Ou h0 ad cA S) [] (fun q hq => by rw [h]; exact List.mem_append_right _ hq)
  simp only [List.append_nil] at q
  exact q
set_option maxRecDepth 20000 in
theorem k_73 : Cond.fieldLink R_Ou 73 (F_Sv 1).1 (F_Sv 1).2.1 (F_Sv 1).2.2.1 ∈ tblG := by decide +kernel
theorem lp_os1 {K : Cx} {h0 : Nat} {ad : Nat → Nat} {cA : Nat → ClassId} {ad2 : Nat → Nat} {cA2 : Nat → ClassId} (C : Ok K R_Ou b_Ou_solve) (hR : xR K = rmL 8) (ht : xt K = wty cA cA2) (hL : xL K = 3) (hcs : xn K ≤ (xR K).cells ∧ xk K ≤ (xR K).slots) (S : Sv) (h6 : 1 ≤ S 6 0 ∧ S 6 0 ≤ 16) (hw : ∀ v, 0 ≤ v → v < 16 → S 7 v = 0 ∨ S 7 v = 1) (T0 : Sv) (kk : ∀ T : Sv, (∀ j, j ≠ 1 → T j = T0 j) → (∀ x, 0 ≤ x → x < S 6 0 → T 1 x = S 7 x) → J K (ow Y_Ou h0 ad cA S ++ sw (ad 0) ad2 cA2 T) 59 [(0, .ref h0), (1, jv (S 6 0))] []) :
    ∀ (n : Nat) (T : Sv) (v : Int), S 6 0 - v < n → 0 ≤ v → v ≤ S 6 0 → (∀ j, j ≠ 1 → T j = T0 j) → (∀ x, 0 ≤ x → x < v → T 1 x = S 7 x) → J K (ow Y_Ou h0 ad cA S ++ sw (ad 0) ad2 cA2 T) 30 [(0, .ref h0), (1, jv v)] [] := by
  have L1 := fun T => Ln_W1 (h0 := h0) (ad := ad) (ad2 := ad2) T ht
  have L2 := fun S => Ln_W2 (h0 := h0) (ad := ad) (ad2 := ad2) S ht
  intro n
  induction n with
  | zero => intro T v q1; omega
  | succ n ih =>
    intro T v q1 q2 q3 q4 q5
    have wv := hw v
    refine j_iload_n C 1 d_Ou_solve_30 rfl rfl ?_
    refine j_aload_n C 0 d_Ou_solve_31 rfl rfl ?_
    refine o_get C (L1 _) 6 (by decide) rfl (S 6 0) rfl d_Ou_solve_32 ?_
    refine j_icmp_ge (tgt := 59) C d_Ou_solve_35 (by decide) (rgi (by omega) (by omega)) (rgi (by omega) (by omega)) (fun c => ?_) (fun c => ?_)
    · have e : v = S 6 0 := by omega
      rw [e] at q5 ⊢
      exact kk T q4 q5
    · refine j_aload_n C 0 d_Ou_solve_38 rfl rfl ?_
      refine o_getA C (L1 _) 0 (by decide) rfl d_Ou_solve_39 ?_
      refine j_getA C (L2 _) rfl i_Sv 1 (by decide) rfl k_73 d_Ou_solve_42 ?_
      refine j_iload_n C 1 d_Ou_solve_45 rfl rfl ?_
      refine j_aload_n C 0 d_Ou_solve_46 rfl rfl ?_
      refine o_getA C (L1 _) 7 (by decide) rfl d_Ou_solve_47 ?_
      refine j_iload_n C 1 d_Ou_solve_50 rfl rfl ?_
      refine o_zald C (L1 _) 7 16 (by decide) rfl rfl (S 7 v) rfl (by omega) (by omega) d_Ou_solve_51 ?_
      have wv2 := wv q2 (by omega)
      refine j_zast C (L2 _) 1 (by decide) rfl q2 (show v < ((16 : Nat) : Int) by omega) (by decide) wv2 d_Ou_solve_52 ?_
      refine j_iinc (lv' := [(0, .ref h0), (1, jv (v + 1))]) C 1 d_Ou_solve_53 rfl (by rw [hL]; decide) rfl rfl ?_
      refine j_goto (tgt := 30) C d_Ou_solve_56 (by decide) ?_
      refine ih _ (v + 1) (by omega) (by omega) (by omega) (fun j hj => by rw [u2_n _ _ _ hj]; exact q4 j hj) (fun x a b => ?_)
      show up (T 1) v (S 7 v) x = _
      by_cases e : x = v
      · rw [e, up_s]
      · rw [up_n _ _ e]; exact q5 x a (by omega)
theorem lp_os2 {K : Cx} {h0 : Nat} {ad : Nat → Nat} {cA : Nat → ClassId} {ad2 : Nat → Nat} {cA2 : Nat → ClassId} (C : Ok K R_Ou b_Ou_solve) (hR : xR K = rmL 8) (ht : xt K = wty cA cA2) (hL : xL K = 3) (hcs : xn K ≤ (xR K).cells ∧ xk K ≤ (xR K).slots) (S : Sv) (h6 : 1 ≤ S 6 0 ∧ S 6 0 ≤ 16) (k : Int) (k0 : 0 ≤ k ∧ k < 400) (hy : 0 ≤ S 1 k ∧ S 1 k < 65536) (hn : 0 ≤ S 2 k ∧ S 2 k < 65536) (T0 : Sv) (kk : ∀ T : Sv, (∀ j, j ≠ 20 → j ≠ 21 → T j = T0 j) → Mq T (Ql (S 1 k) (S 2 k) (S 6 0)) → J K (ow Y_Ou h0 ad cA S ++ sw (ad 0) ad2 cA2 T) 135 [(0, .ref h0), (1, jv k), (2, jv (S 6 0))] []) :
    ∀ (n : Nat) (T : Sv) (v : Int), S 6 0 - v < n → 0 ≤ v → v ≤ S 6 0 → (∀ j, j ≠ 20 → j ≠ 21 → T j = T0 j) → Mq T (Ql (S 1 k) (S 2 k) v) → J K (ow Y_Ou h0 ad cA S ++ sw (ad 0) ad2 cA2 T) 71 [(0, .ref h0), (1, jv k), (2, jv v)] [] := by
  have L1 := fun T => Ln_W1 (h0 := h0) (ad := ad) (ad2 := ad2) T ht
  have L2 := fun S => Ln_W2 (h0 := h0) (ad := ad) (ad2 := ad2) S ht
  intro n
  induction n with
  | zero => intro T v q1; omega
  | succ n ih =>
    intro T v q1 q2 q3 q4 q5
    have dy : 0 ≤ S 1 k / p2 v ∧ S 1 k / p2 v ≤ S 1 k := ⟨Int.ediv_nonneg hy.1 (by have := p2_pos v; omega), Int.ediv_le_self _ hy.1⟩
    have dn : 0 ≤ S 2 k / p2 v ∧ S 2 k / p2 v ≤ S 2 k := ⟨Int.ediv_nonneg hn.1 (by have := p2_pos v; omega), Int.ediv_le_self _ hn.1⟩
    refine j_iload_n C 2 d_Ou_solve_71 rfl rfl ?_
    refine j_aload_n C 0 d_Ou_solve_72 rfl rfl ?_
    refine o_get C (L1 _) 6 (by decide) rfl (S 6 0) rfl d_Ou_solve_73 ?_
    refine j_icmp_ge (tgt := 135) C d_Ou_solve_76 (by decide) (rgi (by omega) (by omega)) (rgi (by omega) (by omega)) (fun c => ?_) (fun c => ?_)
    · have e : v = S 6 0 := by omega
      rw [e] at q5 ⊢
      exact kk T q4 q5
    · -- from the second half on
      have half : ∀ T1 : Sv, (∀ j, j ≠ 20 → j ≠ 21 → T1 j = T0 j) → Mq T1 (fun l => Ql (S 1 k) (S 2 k) v l ∨ (l = 2 * v ∧ bit (S 1 k) v)) → J K (ow Y_Ou h0 ad cA S ++ sw (ad 0) ad2 cA2 T1) 104 [(0, .ref h0), (1, jv k), (2, jv v)] [] := by
        intro T1 r1 r2
        refine j_aload_n C 0 d_Ou_solve_104 rfl rfl ?_
        refine o_getA C (L1 _) 2 (by decide) rfl d_Ou_solve_105 ?_
        refine j_iload_n C 1 d_Ou_solve_108 rfl rfl ?_
        refine o_iald C (L1 _) 2 400 (by decide) rfl rfl (S 2 k) rfl (by omega) (by omega) d_Ou_solve_109 ?_
        refine j_iload_n C 2 d_Ou_solve_110 rfl rfl ?_
        refine j_ishr C d_Ou_solve_111 (z := S 2 k / p2 v) (jI_shr hn.1 (by omega) q2 (by omega)) ?_
        refine j_iconst C d_Ou_solve_112 ?_
        refine j_iand C d_Ou_solve_113 (jI_and1 (by omega) (by omega)) ?_
        refine j_iconst C d_Ou_solve_114 ?_
        refine j_icmp_ne (tgt := 129) C d_Ou_solve_115 (by decide) (rgi (by omega) (by omega)) (rgi (by omega) (by omega)) (fun d => ?_) (fun d => ?_)
        · refine j_iinc (lv' := [(0, .ref h0), (1, jv k), (2, jv (v + 1))]) C 2 d_Ou_solve_129 rfl (by rw [hL]; decide) rfl rfl ?_
          refine j_goto (tgt := 71) C d_Ou_solve_132 (by decide) ?_
          exact ih T1 (v + 1) (by omega) (by omega) (by omega) r1 (r2.congr (fun l => (Ql_s _ _ v l q2).trans ⟨fun q => q.elim id (fun z => absurd z.2 d), Or.inl⟩))
        · refine j_aload_n C 0 d_Ou_solve_118 rfl rfl ?_
          refine o_getA C (L1 _) 0 (by decide) rfl d_Ou_solve_119 ?_
          refine j_iload_n C 2 d_Ou_solve_122 rfl rfl ?_
          refine j_callP (As := [jv v]) (rest := [.ref (ad 0)]) C (c_Sv_no _ _ v) lk_Ou_79 rfl (by rw [hR]; decide) hcs d_Ou_solve_123 rfl (Nat.le_of_ble_eq_true rfl) (fun z hz => ?_)
          subst hz
          have hQ : ∀ l, (Ql (S 1 k) (S 2 k) v l ∨ (l = 2 * v ∧ bit (S 1 k) v)) → 0 ≤ l ∧ l < 32 := fun l q => by
            rcases q with q | q
            · have := q.1; have := q.2.1; omega
            · have := q.1; omega
          have mle := r2.le (n := 32) (by omega) hQ
          refine j_callV (wr := ow Y_Ou h0 ad cA S) (As := [jv (2 * v + 1)]) (rest := []) (w := sw (ad 0) ad2 cA2) (u0 := T1) C (c_Sv_with _ _ (ad 0) ad2 cA2 T1 (2 * v + 1) (rgi (by omega) (by omega)) r2.1 mle (fun i a b => by have := hQ _ (r2.2.1 i a b); exact rgi (by omega) (by omega)) (fun hne => r2.lt (n := 32) (by omega) hQ (by omega) hne)) (by rw [ht]; exact fun _ h => List.mem_append_right _ h) lk_Ou_76 rfl (q0 := 0) rfl rfl (by rw [hR]; decide) hcs d_Ou_solve_126 rfl (Nat.le_of_ble_eq_true rfl) (fun T2 hT2 => ?_)
          obtain ⟨m1, m2⟩ := r2.with hT2
          refine j_iinc (lv' := [(0, .ref h0), (1, jv k), (2, jv (v + 1))]) C 2 d_Ou_solve_129 rfl (by rw [hL]; decide) rfl rfl ?_
          refine j_goto (tgt := 71) C d_Ou_solve_132 (by decide) ?_
          exact ih T2 (v + 1) (by omega) (by omega) (by omega) (fun j j20 j21 => by rw [m2 j j20 j21]; exact r1 j j20 j21) (m1.congr (fun l => (Ql_s _ _ v l q2).trans ⟨fun q => q.elim Or.inl (fun z => Or.inr z.1), fun q => q.elim Or.inl (fun z => Or.inr ⟨z, d⟩)⟩))
      refine j_aload_n C 0 d_Ou_solve_79 rfl rfl ?_
      refine o_getA C (L1 _) 1 (by decide) rfl d_Ou_solve_80 ?_
      refine j_iload_n C 1 d_Ou_solve_83 rfl rfl ?_
      refine o_iald C (L1 _) 1 400 (by decide) rfl rfl (S 1 k) rfl (by omega) (by omega) d_Ou_solve_84 ?_
      refine j_iload_n C 2 d_Ou_solve_85 rfl rfl ?_
      refine j_ishr C d_Ou_solve_86 (z := S 1 k / p2 v) (jI_shr hy.1 (by omega) q2 (by omega)) ?_
      refine j_iconst C d_Ou_solve_87 ?_
      refine j_iand C d_Ou_solve_88 (jI_and1 (by omega) (by omega)) ?_
      refine j_iconst C d_Ou_solve_89 ?_
      refine j_icmp_ne (tgt := 104) C d_Ou_solve_90 (by decide) (rgi (by omega) (by omega)) (rgi (by omega) (by omega)) (fun d => ?_) (fun d => ?_)
      · exact half T q4 (q5.congr (fun l => ⟨fun q => q.elim id (fun z => absurd z.2 d), Or.inl⟩))
      · refine j_aload_n C 0 d_Ou_solve_93 rfl rfl ?_
        refine o_getA C (L1 _) 0 (by decide) rfl d_Ou_solve_94 ?_
        refine j_iload_n C 2 d_Ou_solve_97 rfl rfl ?_
        refine j_callP (As := [jv v]) (rest := [.ref (ad 0)]) C (c_Sv_yes _ _ v) lk_Ou_74 rfl (by rw [hR]; decide) hcs d_Ou_solve_98 rfl (Nat.le_of_ble_eq_true rfl) (fun z hz => ?_)
        subst hz
        have hQ : ∀ l, Ql (S 1 k) (S 2 k) v l → 0 ≤ l ∧ l < 32 := fun l q => by
          have := q.1; have := q.2.1; omega
        have mle := q5.le (n := 32) (by omega) hQ
        refine j_callV (wr := ow Y_Ou h0 ad cA S) (As := [jv (2 * v)]) (rest := []) (w := sw (ad 0) ad2 cA2) (u0 := T) C (c_Sv_with _ _ (ad 0) ad2 cA2 T (2 * v) (rgi (by omega) (by omega)) q5.1 mle (fun i a b => by have := hQ _ (q5.2.1 i a b); exact rgi (by omega) (by omega)) (fun hne => q5.lt (n := 32) (by omega) hQ (by omega) hne)) (by rw [ht]; exact fun _ h => List.mem_append_right _ h) lk_Ou_76 rfl (q0 := 0) rfl rfl (by rw [hR]; decide) hcs d_Ou_solve_101 rfl (Nat.le_of_ble_eq_true rfl) (fun T2 hT2 => ?_)
        obtain ⟨m1, m2⟩ := q5.with hT2
        exact half T2 (fun j j20 j21 => by rw [m2 j j20 j21]; exact q4 j j20 j21) (m1.congr (fun l => ⟨fun q => q.elim Or.inl (fun z => Or.inr z.1), fun q => q.elim Or.inl (fun z => Or.inr ⟨z, d⟩)⟩))
theorem lp_os3 {K : Cx} {h0 : Nat} {ad : Nat → Nat} {cA : Nat → ClassId} {ad2 : Nat → Nat} {cA2 : Nat → ClassId} (C : Ok K R_Ou b_Ou_solve) (hR : xR K = rmL 8) (ht : xt K = wty cA cA2) (hL : xL K = 3) (hcs : xn K ≤ (xR K).cells ∧ xk K ≤ (xR K).slots) (S : Sv) (hO : OI S) (kk : ∀ T : Sv, AI (Fm (S 1) (S 2) (S 6 0) (S 3 0)) T (S 3 0) → T 0 0 = S 6 0 → (∀ x, 0 ≤ x → x < S 6 0 → T 1 x = S 7 x) → J K (ow Y_Ou h0 ad cA S ++ sw (ad 0) ad2 cA2 T) 148 [(0, .ref h0), (1, jv (S 3 0))] []) :
    ∀ (n : Nat) (T : Sv) (k : Int), S 3 0 - k < n → 0 ≤ k → k ≤ S 3 0 → AI (Fm (S 1) (S 2) (S 6 0) k) T k → T 0 0 = S 6 0 → (∀ x, 0 ≤ x → x < S 6 0 → T 1 x = S 7 x) → T 21 0 = 0 → J K (ow Y_Ou h0 ad cA S ++ sw (ad 0) ad2 cA2 T) 61 [(0, .ref h0), (1, jv k)] [] := by
  have L1 := fun T => Ln_W1 (h0 := h0) (ad := ad) (ad2 := ad2) T ht
  have L2 := fun S => Ln_W2 (h0 := h0) (ad := ad) (ad2 := ad2) S ht
  have o1 := hO.1
  have o2 := hO.2.1
  have o3 := hO.2.2.1
  have q16 := p2_16 o1.2
  intro n
  induction n with
  | zero => intro T k q1; omega
  | succ n ih =>
    intro T k q1 q2 q3 hA h0n h1w h21
    refine j_iload_n C 1 d_Ou_solve_61 rfl rfl ?_
    refine j_aload_n C 0 d_Ou_solve_62 rfl rfl ?_
    refine o_get C (L1 _) 3 (by decide) rfl (S 3 0) rfl d_Ou_solve_63 ?_
    refine j_icmp_ge (tgt := 148) C d_Ou_solve_66 (by decide) (rgi (by omega) (by omega)) (rgi (by omega) (by omega)) (fun c => ?_) (fun c => ?_)
    · have e : k = S 3 0 := by omega
      rw [e] at hA ⊢
      exact kk T hA h0n h1w
    · have ok := o3 k q2 (by omega)
      refine j_iconst C d_Ou_solve_69 ?_
      refine j_istore_n (lv' := [(0, .ref h0), (1, jv k), (2, jv 0)]) C d_Ou_solve_70 rfl (by rw [hL]; decide) rfl rfl ?_
      refine lp_os2 C hR ht hL hcs S o1 k ⟨q2, by omega⟩ (by omega) (by omega) T (fun T1 r1 r2 => ?_) (S 6 0).toNat.succ T 0 (by omega) (by omega) (by omega) (fun _ _ _ => rfl) ((Mq.nil h21).congr (fun l => Ql_0 _ _ l))
      have hA1 := hA.made r1
      have e0 : T1 0 0 = S 6 0 := by rw [r1 0 (by decide) (by decide)]; exact h0n
      have hQ : ∀ l, Ql (S 1 k) (S 2 k) (S 6 0) l → 0 ≤ l ∧ l < 2 * T1 0 0 := fun l q => by
        have := q.1; have := q.2.1; omega
      have mle := r2.le (n := 2 * T1 0 0) (by omega) hQ
      refine j_aload_n C 0 d_Ou_solve_135 rfl rfl ?_
      refine o_getA C (L1 _) 0 (by decide) rfl d_Ou_solve_136 ?_
      refine j_callV (wr := ow Y_Ou h0 ad cA S) (As := []) (rest := []) (w := sw (ad 0) ad2 cA2) (u0 := T1) C (c_Sv_add _ _ (ad 0) ad2 cA2 (Fm (S 1) (S 2) (S 6 0) k) T1 k (by omega) hA1 ⟨r2.1, by omega⟩ (fun i a b => hQ _ (r2.2.1 i a b)) r2.2.2.2) (by rw [ht]; exact fun _ h => List.mem_append_right _ h) lk_Ou_81 rfl (q0 := 0) rfl rfl (by rw [hR]; decide) hcs d_Ou_solve_139 rfl (Nat.le_of_ble_eq_true rfl) (fun T2 hT2 => ?_)
      refine j_iinc (lv' := [(0, .ref h0), (1, jv (k + 1)), (2, jv (S 6 0))]) C 1 d_Ou_solve_142 rfl (by rw [hL]; decide) rfl rfl ?_
      refine j_goto (tgt := 61) C d_Ou_solve_145 (by decide) ?_
      refine j_sub [0, 1] rfl ?_
      obtain ⟨z1, z2, z3, z4⟩ := hT2
      exact ih T2 (k + 1) (by omega) (by omega) (by omega) (z1.congr (fun μ => (and_congr_right (fun _ => r2.clm μ)).trans (Fm_s _ _ _ k q2 μ).symm)) (by rw [z2]; exact e0) (fun x a b => by rw [z3, r1 1 (by decide) (by decide)]; exact h1w x a b) z4
theorem c_Ou_solve (l : Launch) (D : va_G) (h0 : Nat) (ad : Nat → Nat) (cA : Nat → ClassId) (ad2 : Nat → Nat) (cA2 : Nat → ClassId) (S T : Sv) (hO : OI S) (h3 : T 3 0 = 0) (hK : S 8 0 = 1 → KN S T) : CI l y_Ou_solve b_Ou_solve 3 (some .boolean) 8 D (wty cA cA2) [.ref h0] (ww h0 ad cA ad2 cA2) (S, T) (fun z u => OZ S z u) := by
  refine CI.of (by decide) (Nat.le_of_ble_eq_true rfl) (fun K C hR ht hL hcs Z => ?_)
  have C : Ok K R_Ou b_Ou_solve := C
  have L1 := fun T => Ln_W1 (h0 := h0) (ad := ad) (ad2 := ad2) T ht
  have L2 := fun S => Ln_W2 (h0 := h0) (ad := ad) (ad2 := ad2) S ht
  show J K (ow Y_Ou h0 ad cA S ++ sw (ad 0) ad2 cA2 T) 0 [(0, .ref h0)] []
  have hO0 := hO
  obtain ⟨o1, o2, o3, o4, o5, o6, o7, o8⟩ := hO
  have q16 := p2_16 o1.2
  refine j_aload_n C 0 d_Ou_solve_0 rfl rfl ?_
  refine o_get C (L1 _) 8 (by decide) rfl (S 8 0) rfl d_Ou_solve_1 ?_
  refine j_if_eq (tgt := 12) C d_Ou_solve_4 (by decide) (rgi (by omega) (by omega)) (fun c => ?_) (fun c => ?_)
  · refine j_aload_n C 0 d_Ou_solve_12 rfl rfl ?_
    refine j_iconst C d_Ou_solve_13 ?_
    refine o_putZ C (L1 _) 8 (by decide) rfl rfl rfl (by omega) d_Ou_solve_14 ?_
    refine j_aload_n C 0 d_Ou_solve_17 rfl rfl ?_
    refine o_getA C (L1 _) 0 (by decide) rfl d_Ou_solve_18 ?_
    refine j_aload_n C 0 d_Ou_solve_21 rfl rfl ?_
    refine o_get C (L1 _) 6 (by decide) rfl (S 6 0) rfl d_Ou_solve_22 ?_
    refine j_callV (wr := ow Y_Ou h0 ad cA (u2 S 8 0 1)) (As := [jv (S 6 0)]) (rest := []) (w := sw (ad 0) ad2 cA2) (u0 := T) C (c_Sv_begin _ _ (ad 0) ad2 cA2 T (S 6 0) o1.1 o1.2 h3) (by rw [ht]; exact fun _ h => List.mem_append_right _ h) lk_Ou_69 rfl (q0 := 0) rfl rfl (by rw [hR]; decide) hcs d_Ou_solve_25 rfl (Nat.le_of_ble_eq_true rfl) (fun T1 hT1 => ?_)
    obtain ⟨b1, b2, b3, b4⟩ := hT1
    refine j_iconst C d_Ou_solve_28 ?_
    refine j_istore_n (lv' := [(0, .ref h0), (1, jv 0)]) C d_Ou_solve_29 rfl (by rw [hL]; decide) rfl rfl ?_
    refine lp_os1 C hR ht hL hcs (u2 S 8 0 1) o1 o6 T1 (fun T2 r1 r2 => ?_) (S 6 0).toNat.succ T1 0 (show S 6 0 - 0 < _ by omega) (by omega) (show 0 ≤ S 6 0 by omega) (fun _ _ => rfl) (fun x a b => by omega)
    refine j_iconst C d_Ou_solve_59 ?_
    refine j_istore_n (lv' := [(0, .ref h0), (1, jv 0)]) C d_Ou_solve_60 rfl (by rw [hL]; decide) rfl rfl ?_
    have hO1 : OI (u2 S 8 0 1) := ⟨o1, o2, o3, o4, o5, o6, Or.inr (u2_ss _ _ _ _), o8⟩
    refine lp_os3 C hR ht hL hcs (u2 S 8 0 1) hO1 (fun T3 g1 g2 g3 => ?_) (S 3 0).toNat.succ T2 0 (show S 3 0 - 0 < _ by omega) (by omega) (show 0 ≤ S 3 0 by omega) ((b1.wish r1).congr (fun μ => ⟨fun _ k a b => by omega, fun _ => trivial⟩)) (by rw [r1 0 (by decide)]; exact b2) r2 (by rw [r1 21 (by decide)]; exact b4)
    have g2 : T3 0 0 = S 6 0 := g2
    have g3 : ∀ x, 0 ≤ x → x < S 6 0 → T3 1 x = S 7 x := g3
    have g1 : AI (Fm (S 1) (S 2) (S 6 0) (S 3 0)) T3 (S 3 0) := g1
    obtain ⟨M0, m1, m2, m3, m4, m5, m6⟩ := g1
    have d01 : T3 19 0 = 0 ∨ T3 19 0 = 1 := by rcases m6 with ⟨e, -⟩ | ⟨e, -⟩ <;> omega
    have mr := m1.rng
    refine j_aload_n C 0 d_Ou_solve_148 rfl rfl ?_
    refine j_aload_n C 0 d_Ou_solve_149 rfl rfl ?_
    refine o_getA C (L1 _) 0 (by decide) rfl d_Ou_solve_150 ?_
    refine j_callI (wr := ow Y_Ou h0 ad cA (u2 S 8 0 1)) (As := []) (rest := [.ref h0]) (w := sw (ad 0) ad2 cA2) (u0 := T3) C (c_Sv_solve _ _ (ad 0) ad2 cA2 M0 T3 ⟨by rw [m3]; exact m1, by omega, by omega, fun q => by omega⟩ (fun v a b => by rw [g3 v a (by omega)]; exact o6 v a (by omega)) d01) (by rw [ht]; exact fun _ h => List.mem_append_right _ h) lk_Ou_84 rfl (q0 := 0) rfl rfl (by rw [hR]; decide) hcs d_Ou_solve_153 rfl (Nat.le_of_ble_eq_true rfl) (fun z T4 hz => ?_)
    obtain ⟨z3, hz⟩ := hz
    have z01 : z = 0 ∨ z = 1 := by
      rcases hz with ⟨-, e⟩ | ⟨-, -, ⟨e, -⟩ | ⟨e, -⟩⟩
      · exact Or.inl e
      · exact Or.inl e
      · exact Or.inr e
    refine o_putZ C (L1 _) 9 (by decide) rfl rfl rfl z01 d_Ou_solve_156 ?_
    refine j_aload_n C 0 d_Ou_solve_159 rfl rfl ?_
    refine o_get C (L1 _) 9 (by decide) rfl z (u2_ss _ _ _ _) d_Ou_solve_160 ?_
    refine j_ret (w := ww h0 ad cA ad2 cA2) (u := ((u2 (u2 S 8 0 1) 9 0 z), T4)) C Z (bz z01).1 d_Ou_solve_163 ⟨z3, (show up (S 8) 0 1 0 = 1 by rw [up_s]), (show z = (u2 (u2 S 8 0 1) 9 0 z) 9 0 from (u2_ss _ _ _ _).symm), z01, ?_, fun k k8 k9 => (show (u2 (u2 S 8 0 1) 9 0 z) k = S k by rw [u2_n _ _ _ k9, u2_n _ _ _ k8])⟩
    have e9 : (u2 (u2 S 8 0 1) 9 0 z) 9 0 = z := u2_ss _ _ _ _
    show KN (u2 (u2 S 8 0 1) 9 0 z) T4
    unfold KN
    rw [e9]
    show (z = 0 ∧ ∀ μ, ¬ Fm (S 1) (S 2) (S 6 0) (S 3 0) μ) ∨ (z = 1 ∧ First (Fm (S 1) (S 2) (S 6 0) (S 3 0)) (S 6 0) (S 7) (fun v => decide (0 < T4 11 v)) ∧ ∀ v, 0 ≤ v → v < S 6 0 → rg (T4 11 v))
    rcases m6 with ⟨d0, e0⟩ | ⟨d1, e1⟩
    · have eM : M0 = Fm (S 1) (S 2) (S 6 0) (S 3 0) := funext (fun μ => propext (e0 μ))
      rcases hz with ⟨q, -⟩ | ⟨-, -, ⟨q1, q2⟩ | ⟨q1, q2, q3⟩⟩
      · omega
      · exact Or.inl ⟨q1, fun μ hm => q2 μ ((e0 μ).mpr hm)⟩
      · rw [eM, g2] at q2
        rw [g2] at q3
        exact Or.inr ⟨q1, q2.wish (fun v a b => (g3 v a b).symm), q3⟩
    · rcases hz with ⟨-, q⟩ | ⟨q, -⟩
      · exact Or.inl ⟨q, e1⟩
      · omega
  · have k1 : S 8 0 = 1 := by omega
    refine j_aload_n C 0 d_Ou_solve_7 rfl rfl ?_
    refine o_get C (L1 _) 9 (by decide) rfl (S 9 0) rfl d_Ou_solve_8 ?_
    exact j_ret (w := ww h0 ad cA ad2 cA2) (u := (S, T)) C Z (bz o8).1 d_Ou_solve_11 ⟨h3, k1, rfl, o8, hK k1, fun _ _ _ => rfl⟩
/-- behind the outer answer -/
def OA (S : Sv) (z : Int) (u : Sv × Sv) : Prop := u.2 3 0 = 0 ∧ u.1 8 0 = 1 ∧ KN u.1 u.2 ∧ (∀ k, k ≠ 8 → k ≠ 9 → u.1 k = S k) ∧ ((u.1 9 0 = 0 ∧ z = -2) ∨ (u.1 9 0 = 1 ∧ z = bs (fun v => decide (0 < u.2 11 v)) (S 6 0).toNat))
theorem lp_oa {K : Cx} {h0 : Nat} {ad : Nat → Nat} {cA : Nat → ClassId} {ad2 : Nat → Nat} {cA2 : Nat → ClassId} (C : Ok K R_Ou b_Ou_answer) (hR : xR K = rmL 9) (ht : xt K = wty cA cA2) (hL : xL K = 3) (hcs : xn K ≤ (xR K).cells ∧ xk K ≤ (xR K).slots) {post : Int → Sv × Sv → Prop} (Z : RI K .int (ww h0 ad cA ad2 cA2) post) (S T : Sv) (h6 : 1 ≤ S 6 0 ∧ S 6 0 ≤ 16) (hv : ∀ v, 0 ≤ v → v < S 6 0 → rg (T 11 v)) (hp : post (bs (fun v => decide (0 < T 11 v)) (S 6 0).toNat) (S, T)) :
    ∀ (n k : Nat), S 6 0 - k < n → k ≤ S 6 0 → J K (ow Y_Ou h0 ad cA S ++ sw (ad 0) ad2 cA2 T) 14 [(0, .ref h0), (1, jv (bs (fun v => decide (0 < T 11 v)) k)), (2, jv (k : Int))] [] := by
  have L1 := fun T => Ln_W1 (h0 := h0) (ad := ad) (ad2 := ad2) T ht
  have L2 := fun S => Ln_W2 (h0 := h0) (ad := ad) (ad2 := ad2) S ht
  intro n
  induction n with
  | zero => intro k q1; omega
  | succ n ih =>
    intro k q1 q2
    have bl := bs_lt (fun v => decide (0 < T 11 v)) k
    have nxt := ih (k + 1)
    simp only [bs] at nxt
    rw [show ((k + 1 : Nat) : Int) = (k : Int) + 1 by omega] at nxt
    refine j_iload_n C 2 d_Ou_answer_14 rfl rfl ?_
    refine j_aload_n C 0 d_Ou_answer_15 rfl rfl ?_
    refine o_get C (L1 _) 6 (by decide) rfl (S 6 0) rfl d_Ou_answer_16 ?_
    refine j_icmp_ge (tgt := 45) C d_Ou_answer_19 (by decide) (rgi (by omega) (by omega)) (rgi (by omega) (by omega)) (fun c => ?_) (fun c => ?_)
    · have e : (S 6 0).toNat = k := by omega
      rw [e] at hp
      refine j_iload_n C 1 d_Ou_answer_45 rfl rfl ?_
      exact j_ret (w := ww h0 ad cA ad2 cA2) (u := (S, T)) C Z rfl d_Ou_answer_46 hp
    · refine j_aload_n C 0 d_Ou_answer_22 rfl rfl ?_
      refine o_getA C (L1 _) 0 (by decide) rfl d_Ou_answer_23 ?_
      refine j_iload_n C 2 d_Ou_answer_26 rfl rfl ?_
      refine j_callI (wr := ow Y_Ou h0 ad cA S) (As := [jv (k : Int)]) (rest := []) (w := sw (ad 0) ad2 cA2) (u0 := T) C (c_Sv_isTrue _ _ (ad 0) ad2 cA2 T (k : Int) (by omega) (by omega) (hv _ (by omega) (by omega))) (by rw [ht]; exact fun _ h => List.mem_append_right _ h) lk_Ou_89 rfl (q0 := 0) rfl rfl (by rw [hR]; decide) hcs d_Ou_answer_27 rfl (Nat.le_of_ble_eq_true rfl) (fun z T2 hz => ?_)
      obtain ⟨eT, hz⟩ := hz
      subst T2
      have z01 : z = 0 ∨ z = 1 := by rw [hz]; split <;> omega
      refine j_if_eq (tgt := 39) C d_Ou_answer_30 (by decide) (rgi (by omega) (by omega)) (fun d => ?_) (fun d => ?_)
      · have nt : ¬ 0 < T 11 (k : Int) := fun q => by rw [if_pos q] at hz; omega
        rw [if_neg (by simp [nt])] at nxt
        refine j_iinc (lv' := [(0, .ref h0), (1, jv (bs (fun v => decide (0 < T 11 v)) k)), (2, jv ((k : Int) + 1))]) C 2 d_Ou_answer_39 rfl (by rw [hL]; decide) rfl rfl ?_
        refine j_goto (tgt := 14) C d_Ou_answer_42 (by decide) ?_
        rw [Int.add_zero] at nxt
        exact nxt (by omega) (by omega)
      · have nt : 0 < T 11 (k : Int) := by
          by_cases q : 0 < T 11 (k : Int)
          · exact q
          · rw [if_neg q] at hz; omega
        rw [if_pos (by simp [nt])] at nxt
        refine j_iload_n C 1 d_Ou_answer_33 rfl rfl ?_
        refine j_iconst C d_Ou_answer_34 ?_
        refine j_iload_n C 2 d_Ou_answer_35 rfl rfl ?_
        refine j_ishl C d_Ou_answer_36 (z := p2 (k : Int)) (jI_shl (by omega) (by omega)) ?_
        refine j_ior C d_Ou_answer_37 (z := bs (fun v => decide (0 < T 11 v)) k + p2 (k : Int)) (by rw [jI_or bl.1 (by have := p2_pos (k : Int); omega), orI_p2 bl.1 (by omega) bl.2]) ?_
        refine j_istore_n (lv' := [(0, .ref h0), (1, jv (bs (fun v => decide (0 < T 11 v)) k + p2 (k : Int))), (2, jv (k : Int))]) C d_Ou_answer_38 rfl (by rw [hL]; decide) rfl rfl ?_
        refine j_iinc (lv' := [(0, .ref h0), (1, jv (bs (fun v => decide (0 < T 11 v)) k + p2 (k : Int))), (2, jv ((k : Int) + 1))]) C 2 d_Ou_answer_39 rfl (by rw [hL]; decide) rfl rfl ?_
        refine j_goto (tgt := 14) C d_Ou_answer_42 (by decide) ?_
        exact nxt (by omega) (by omega)
theorem c_Ou_answer (l : Launch) (D : va_G) (h0 : Nat) (ad : Nat → Nat) (cA : Nat → ClassId) (ad2 : Nat → Nat) (cA2 : Nat → ClassId) (S T : Sv) (hO : OI S) (h3 : T 3 0 = 0) (hK : S 8 0 = 1 → KN S T) : CI l y_Ou_answer b_Ou_answer 3 (some .int) 9 D (wty cA cA2) [.ref h0] (ww h0 ad cA ad2 cA2) (S, T) (fun z u => OA S z u) := by
  refine CI.of (by decide) (Nat.le_of_ble_eq_true rfl) (fun K C hR ht hL hcs Z => ?_)
  have C : Ok K R_Ou b_Ou_answer := C
  have L1 := fun T => Ln_W1 (h0 := h0) (ad := ad) (ad2 := ad2) T ht
  have L2 := fun S => Ln_W2 (h0 := h0) (ad := ad) (ad2 := ad2) S ht
  show J K (ow Y_Ou h0 ad cA S ++ sw (ad 0) ad2 cA2 T) 0 [(0, .ref h0)] []
  refine j_aload_n C 0 d_Ou_answer_0 rfl rfl ?_
  refine j_callI (wr := []) (As := []) (rest := []) (w := ww h0 ad cA ad2 cA2) (u0 := (S, T)) C (c_Ou_solve _ _ h0 ad cA ad2 cA2 S T hO h3 hK) (by rw [ht]; exact fun _ h => h) lk_Ou_88 rfl (q0 := 0) rfl rfl (by rw [hR]; decide) hcs d_Ou_answer_1 rfl (Nat.le_of_ble_eq_true rfl) (fun z u hz => ?_)
  obtain ⟨S1, T1⟩ := u
  obtain ⟨z1, z2, z3, z4, z5, z6⟩ := hz
  have z1 : T1 3 0 = 0 := z1
  have z2 : S1 8 0 = 1 := z2
  have z3 : z = S1 9 0 := z3
  have z5 : KN S1 T1 := z5
  have z6 : ∀ k, k ≠ 8 → k ≠ 9 → S1 k = S k := z6
  have e6 : S1 6 = S 6 := z6 6 (by decide) (by decide)
  have o1 := hO.1
  show J K (ow Y_Ou h0 ad cA S1 ++ sw (ad 0) ad2 cA2 T1) 4 [(0, .ref h0)] [jv z]
  refine j_if_ne (tgt := 10) C d_Ou_answer_4 (by decide) (rgi (by omega) (by omega)) (fun c => ?_) (fun c => ?_)
  · have hv : ∀ v, 0 ≤ v → v < S1 6 0 → rg (T1 11 v) := by
      rcases z5 with ⟨q, -⟩ | ⟨-, -, q⟩
      · omega
      · exact q
    refine j_iconst C d_Ou_answer_10 ?_
    refine j_istore_n (lv' := [(0, .ref h0), (1, jv 0)]) C d_Ou_answer_11 rfl (by rw [hL]; decide) rfl rfl ?_
    refine j_iconst C d_Ou_answer_12 ?_
    refine j_istore_n (lv' := [(0, .ref h0), (1, jv 0), (2, jv 0)]) C d_Ou_answer_13 rfl (by rw [hL]; decide) rfl rfl ?_
    exact lp_oa C hR ht hL hcs Z S1 T1 (by rw [e6]; exact o1) hv ⟨z1, z2, z5, z6, Or.inr ⟨by omega, by rw [e6]⟩⟩ (S1 6 0).toNat.succ 0 (by omega) (by rw [e6]; omega)
  · refine j_bipush C d_Ou_answer_7 (by decide) ?_
    exact j_ret (w := ww h0 ad cA ad2 cA2) (u := (S1, T1)) C Z rfl d_Ou_answer_9 ⟨z1, z2, z5, z6, Or.inl ⟨by omega, rfl⟩⟩
end
section
/-! pure: bits of a prefix; the model's search -/
def tb (x v : Int) : Bool := x.toNat.testBit v.toNat
theorem bit_tb {x v : Int} (hx : 0 ≤ x) : bit x v ↔ tb x v = true := by
  unfold bit tb p2
  rw [Nat.testBit_eq_decide_div_mod_eq, decide_eq_true_eq]
  have : x / ((2 ^ v.toNat : Nat) : Int) % 2 = ((x.toNat / 2 ^ v.toNat % 2 : Nat) : Int) := by
    rw [Int.natCast_emod, Int.natCast_ediv, show ((x.toNat : Nat) : Int) = x by omega]; rfl
  rw [this]; omega
theorem tb_lt {x v : Int} (hx : 0 ≤ x) (h : x < p2 v) : ∀ w, v ≤ w → tb x w = false := by
  intro w hw
  unfold tb
  apply Nat.testBit_lt_two_pow
  have h2 := p2_le hw
  unfold p2 at h h2; omega
theorem lt_tb {x v : Int} (hx : 0 ≤ x) (hv : 0 ≤ v) (h : ∀ w, v ≤ w → tb x w = false) : x < p2 v := by
  have := Nat.lt_pow_two_of_testBit (n := v.toNat) x.toNat (fun i hi => by
    have := h (i : Int) (by omega)
    unfold tb at this
    rw [show ((i : Int)).toNat = i by omega] at this
    exact this)
  unfold p2; omega
def andI (x y : Int) : Int := ((x.toNat &&& y.toNat : Nat) : Int)
def andn (a b : Int) : Int := ((b.toNat ^^^ (a.toNat &&& b.toNat) : Nat) : Int)
theorem jI_and {x y : Int} (hx : 0 ≤ x) (hy : 0 ≤ y) : jI x &&& jI y = jI (andI x y) := by
  rw [jI_nI hx, jI_nI hy, nI_andN]; rfl
theorem jI_andn {a b : Int} (ha : 0 ≤ a) (hb : 0 ≤ b) : (jI a ^^^ jI (-1)) &&& jI b = jI (andn a b) := by
  rw [jI_nI ha, jI_nI hb]
  apply Int32.toBitVec_inj.mp
  show (BitVec.ofNat 32 a.toNat ^^^ BitVec.ofInt 32 (-1)) &&& BitVec.ofNat 32 b.toNat = BitVec.ofNat 32 (b.toNat ^^^ (a.toNat &&& b.toNat))
  rw [BitVec.ofNat_xor, BitVec.ofNat_and, show BitVec.ofInt 32 (-1) = BitVec.allOnes 32 by decide]
  apply BitVec.eq_of_getLsbD_eq
  intro i hi
  simp only [BitVec.getLsbD_and, BitVec.getLsbD_xor, BitVec.getLsbD_allOnes, hi, decide_true]
  cases (BitVec.ofNat 32 a.toNat).getLsbD i <;> cases (BitVec.ofNat 32 b.toNat).getLsbD i <;> rfl
theorem andI_0 {x y : Int} : andI x y = 0 ↔ ∀ w, 0 ≤ w → ¬ (tb x w = true ∧ tb y w = true) := by
  unfold andI tb
  constructor
  · intro h w hw q
    have h : x.toNat &&& y.toNat = 0 := by omega
    have := congrArg (fun n => Nat.testBit n w.toNat) h
    simp only [Nat.testBit_and, Nat.zero_testBit, q.1, q.2] at this
    exact absurd this (by decide)
  · intro h
    have : x.toNat &&& y.toNat = 0 := by
      apply Nat.eq_of_testBit_eq
      intro i
      rw [Nat.testBit_and, Nat.zero_testBit]
      have := h (i : Int) (by omega)
      rw [show ((i : Int)).toNat = i by omega] at this
      cases h1 : x.toNat.testBit i <;> cases h2 : y.toNat.testBit i <;> simp_all
    omega
theorem andn_0 {a b : Int} : andn a b = 0 ↔ ∀ w, 0 ≤ w → tb b w = true → tb a w = true := by
  unfold andn tb
  constructor
  · intro h w hw q
    have h : b.toNat ^^^ (a.toNat &&& b.toNat) = 0 := by omega
    have := congrArg (fun n => Nat.testBit n w.toNat) h
    simp only [Nat.testBit_and, Nat.testBit_xor, Nat.zero_testBit, q, Bool.and_true] at this
    cases h1 : a.toNat.testBit w.toNat
    · rw [h1] at this; exact absurd this (by decide)
    · rfl
  · intro h
    have : b.toNat ^^^ (a.toNat &&& b.toNat) = 0 := by
      apply Nat.eq_of_testBit_eq
      intro i
      rw [Nat.testBit_xor, Nat.testBit_and, Nat.zero_testBit]
      have := h (i : Int) (by omega)
      rw [show ((i : Int)).toNat = i by omega] at this
      cases h1 : a.toNat.testBit i <;> cases h2 : b.toNat.testBit i <;> simp_all
    omega
theorem orI_tb (x y w : Int) : tb (orI x y) w = (tb x w || tb y w) := by
  unfold orI tb
  rw [show ((x.toNat ||| y.toNat : Nat) : Int).toNat = x.toNat ||| y.toNat from Int.toNat_natCast _, Nat.testBit_or]
theorem andI_le {x y : Int} (hy : 0 ≤ y) : 0 ≤ andI x y ∧ andI x y ≤ y := by
  have := Nat.and_le_right (n := x.toNat) (m := y.toNat)
  unfold andI; omega
theorem andn_rg {a b : Int} (ha : 0 ≤ a) (ha2 : a < 65536) (hb : 0 ≤ b) (hb2 : b < 65536) : 0 ≤ andn a b ∧ andn a b < 65536 := by
  have h1 := Nat.and_lt_two_pow (x := a.toNat) (y := b.toNat) (n := 16) (by omega)
  have h2 := Nat.xor_lt_two_pow (x := b.toNat) (y := a.toNat &&& b.toNat) (n := 16) (by omega) h1
  unfold andn; omega
theorem orI_p {x y v : Int} (hx : 0 ≤ x) (hy : 0 ≤ y) (hv : 0 ≤ v) : orI x y / p2 v = 0 ↔ (x < p2 v ∧ y < p2 v) := by
  have h0 : 0 ≤ orI x y := by unfold orI; omega
  have hp := p2_pos v
  have key : orI x y / p2 v = 0 ↔ orI x y < p2 v := by
    constructor
    · intro h
      have := Int.lt_ediv_add_one_mul_self (orI x y) (show 0 < p2 v by omega)
      rw [h] at this; omega
    · intro h; exact Int.ediv_eq_zero_of_lt h0 h
  rw [key]
  constructor
  · intro h
    have t := tb_lt h0 h
    exact ⟨lt_tb hx hv (fun w hw => by have := t w hw; rw [orI_tb] at this; cases h1 : tb x w <;> simp_all), lt_tb hy hv (fun w hw => by have := t w hw; rw [orI_tb] at this; cases h1 : tb y w <;> simp_all)⟩
  · rintro ⟨a, b⟩
    exact (orI_lt hx a hy b).2
/-- the bits of a prefix's sum -/
theorem bs_tb (M : Int → Bool) : ∀ (k : Nat) (w : Int), 0 ≤ w → (tb (bs M k) w = true ↔ w < (k : Int) ∧ M w = true)
  | 0, w, h => by
    simp only [bs]
    unfold tb
    constructor
    · intro q; simp at q
    · intro q; omega
  | k + 1, w, h => by
    have ih := bs_tb M k w h
    have bl := bs_lt M k
    simp only [bs]
    by_cases hm : M (k : Int) = true
    · rw [if_pos hm, ← orI_p2 bl.1 (by omega) bl.2, orI_tb, Bool.or_eq_true, ih]
      have e : tb (p2 (k : Int)) w = true ↔ w = (k : Int) := by
        unfold tb p2
        rw [show ((2 ^ (k : Int).toNat : Nat) : Int).toNat = 2 ^ (k : Int).toNat from Int.toNat_natCast _, Nat.testBit_two_pow, decide_eq_true_eq]
        omega
      rw [e]
      constructor
      · rintro (q | q)
        · exact ⟨by omega, q.2⟩
        · exact ⟨by omega, by rw [q]; exact hm⟩
      · rintro ⟨q1, q2⟩
        by_cases z : w = (k : Int)
        · exact Or.inr z
        · exact Or.inl ⟨by omega, q2⟩
    · rw [if_neg hm, Int.add_zero, ih]
      constructor
      · rintro ⟨q1, q2⟩; exact ⟨by omega, q2⟩
      · rintro ⟨q1, q2⟩
        refine ⟨?_, q2⟩
        by_cases z : w = (k : Int)
        · rw [z] at q2; exact absurd q2 hm
        · omega
/-- a clause that fails at a prefix fails for all that go on from it -/
theorem Cm_fail {y n nv : Int} (hy : 0 ≤ y) (hn : 0 ≤ n) (M : Int → Bool) (k : Nat) (h1 : y < p2 k ∧ n < p2 k) (h2 : andI (bs M k) y = 0) (h3 : andn (bs M k) n = 0) : ∀ μ : Int → Bool, (∀ x, 0 ≤ x → x < (k : Int) → μ x = M x) → ¬ Cm y n nv μ := by
  rintro μ hag ⟨v, v0, v1, q⟩
  rcases q with ⟨q1, q2⟩ | ⟨q1, q2⟩
  · have t := (bit_tb hy).mp q1
    have vk : v < (k : Int) := by
      rcases Int.lt_or_le v k with z | z
      · exact z
      · rw [tb_lt hy h1.1 v z] at t; cases t
    have := andI_0.mp h2 v v0
    exact this ⟨(bs_tb M k v v0).mpr ⟨vk, by rw [← hag v v0 vk]; exact q2⟩, t⟩
  · have t := (bit_tb hn).mp q1
    have vk : v < (k : Int) := by
      rcases Int.lt_or_le v k with z | z
      · exact z
      · rw [tb_lt hn h1.2 v z] at t; cases t
    have := (bs_tb M k v v0).mp (andn_0.mp h3 v v0 t)
    rw [hag v v0 vk, this.2] at q2; cases q2
/-- one that doesn't fail holds -/
theorem Cm_hold {y n nv : Int} (hy : 0 ≤ y) (hn : 0 ≤ n) (M : Int → Bool) (k : Nat) (hk : (k : Int) ≤ nv) (h1 : y < p2 k ∧ n < p2 k) (h : ¬ (andI (bs M k) y = 0 ∧ andn (bs M k) n = 0)) : Cm y n nv M := by
  by_cases h2 : andI (bs M k) y = 0
  · have h3 : ¬ andn (bs M k) n = 0 := fun q => h ⟨h2, q⟩
    rw [andn_0] at h3
    have h3 := Classical.not_forall.mp h3
    obtain ⟨w, hw⟩ := h3
    have hw := Classical.not_forall.mp hw
    obtain ⟨w0, hw⟩ := hw
    have hw := Classical.not_forall.mp hw
    obtain ⟨w1, hw⟩ := hw
    have wk : w < (k : Int) := by
      rcases Int.lt_or_le w k with z | z
      · exact z
      · rw [tb_lt hn h1.2 w z] at w1; cases w1
    refine ⟨w, w0, by omega, Or.inr ⟨(bit_tb hn).mpr w1, ?_⟩⟩
    cases hm : M w
    · rfl
    · exact absurd ((bs_tb M k w w0).mpr ⟨wk, hm⟩) hw
  · rw [andI_0] at h2
    have h2 := Classical.not_forall.mp h2
    obtain ⟨w, hw⟩ := h2
    have hw := Classical.not_forall.mp hw
    obtain ⟨w0, hw⟩ := hw
    have hw := Classical.not_not.mp hw
    have m := (bs_tb M k w w0).mp hw.1
    exact ⟨w, w0, by omega, Or.inl ⟨(bit_tb hy).mpr hw.2, m.2⟩⟩
/-- the first answer that goes on from a prefix -/
def FirstP (Mod : (Int → Bool) → Prop) (n : Int) (wish : Int → Int) (M : Int → Bool) (v : Int) (M' : Int → Bool) : Prop :=
  Mod M' ∧ (∀ x, 0 ≤ x → x < v → M' x = M x) ∧ ∀ μ, Mod μ → (∀ x, 0 ≤ x → x < v → μ x = M x) → ∀ x, v ≤ x → x < n → (∀ y, 0 ≤ y → y < x → μ y = M' y) → μ x ≠ M' x → M' x = decide (wish x ≠ 0)
/-- what the search finds from a prefix -/
def SR (Mod : (Int → Bool) → Prop) (n : Int) (wish : Int → Int) (M : Int → Bool) (v z : Int) : Prop :=
  (z = -2 ∧ ∀ μ, Mod μ → ¬ ∀ x, 0 ≤ x → x < v → μ x = M x) ∨ ∃ M', FirstP Mod n wish M v M' ∧ z = bs M' n.toNat
def upB (M : Int → Bool) (v : Int) (b : Bool) : Int → Bool := fun x => if x = v then b else M x
theorem upB_s (M : Int → Bool) (v : Int) (b : Bool) : upB M v b v = b := by simp [upB]
theorem upB_n (M : Int → Bool) {v x : Int} (b : Bool) (h : x ≠ v) : upB M v b x = M x := by simp [upB, h]
theorem bs_upB (M : Int → Bool) (k : Nat) (b : Bool) : bs (upB M k b) (k + 1) = bs M k + if b then p2 (k : Int) else 0 := by
  simp only [bs]
  rw [upB_s, bs_congr k (M' := M) (fun v a c => upB_n M b (by omega))]
section
variable {Mod : (Int → Bool) → Prop} {n : Int} {wish : Int → Int} {M : Int → Bool} {v z : Int}
theorem SR.first (h : SR Mod n wish (upB M v (decide (wish v ≠ 0))) (v + 1) z) (hv : 0 ≤ v) (hz : 0 ≤ z) : SR Mod n wish M v z := by
  rcases h with ⟨e, -⟩ | ⟨M', ⟨f1, f2, f3⟩, e⟩
  · omega
  · refine Or.inr ⟨M', ⟨f1, fun x a b => ?_, fun μ hm hag x a b c d => ?_⟩, e⟩
    · rw [f2 x a (by omega), upB_n _ _ (by omega)]
    · by_cases q : x = v
      · rw [q, f2 v hv (by omega), upB_s]
      · refine f3 μ hm (fun y y1 y2 => ?_) x (by omega) b c d
        rw [c y y1 (by omega)]; exact f2 y y1 y2
theorem SR.second {z2 : Int} (h : SR Mod n wish (upB M v (decide (wish v ≠ 0))) (v + 1) z) (hz : z < 0) (h2 : SR Mod n wish (upB M v (! decide (wish v ≠ 0))) (v + 1) z2) (hv : 0 ≤ v) : SR Mod n wish M v z2 := by
  have none1 : ∀ μ, Mod μ → (∀ x, 0 ≤ x → x < v → μ x = M x) → μ v = ! decide (wish v ≠ 0) := fun μ hm hag => by
    rcases h with ⟨-, q⟩ | ⟨M', -, e⟩
    · by_cases c : μ v = decide (wish v ≠ 0)
      · exfalso
        refine q μ hm (fun x a b => ?_)
        by_cases e : x = v
        · rw [e, upB_s]; exact c
        · rw [upB_n _ _ e]; exact hag x a (by omega)
      · revert c
        cases μ v <;> cases decide (wish v ≠ 0) <;> simp
    · have := (bs_lt M' n.toNat).1; omega
  rcases h2 with ⟨e, q⟩ | ⟨M', ⟨f1, f2, f3⟩, e⟩
  · refine Or.inl ⟨e, fun μ hm hag => q μ hm (fun x a b => ?_)⟩
    by_cases c : x = v
    · rw [c, upB_s]; exact none1 μ hm hag
    · rw [upB_n _ _ c]; exact hag x a (by omega)
  · refine Or.inr ⟨M', ⟨f1, fun x a b => ?_, fun μ hm hag x a b c d => ?_⟩, e⟩
    · rw [f2 x a (by omega), upB_n _ _ (by omega)]
    · by_cases q : x = v
      · exfalso
        rw [q, f2 v hv (by omega), upB_s] at d
        exact d (none1 μ hm hag)
      · refine f3 μ hm (fun y y1 y2 => ?_) x (by omega) b c d
        rw [c y y1 (by omega)]; exact f2 y y1 y2
theorem SR.here (hm : Mod M) (hn : 0 ≤ n) : SR Mod n wish M n (bs M n.toNat) := Or.inr ⟨M, ⟨hm, fun _ _ _ => rfl, fun μ _ _ x a b => by omega⟩, rfl⟩
end
end
section
/-! the model: holds, search, answer, solve -/
theorem r_ixor {K : Cx} {own : String} {cc : ByteArray} {ws : va_W} {pc : Nat} {lv : List (Nat × Value)} {st : List Value} (C : Ok K own cc) {x y : Int32} (hd : decode cc pc = .ok (.ixor, 1)) (kk : J K ws (pc + 1) lv (.int (x ^^^ y) :: st)) : J K ws pc lv (.int y :: .int x :: st) := fun H locs ls hP hD hS hl => lv_ixor C.1 C.2.1 hd (kk H locs ls hP hD hS hl)
/-- the model's formula -/
def mF (S : Sv) : (Int → Bool) → Prop := Fm (S 2) (S 3) (S 0 0) (S 4 0)
/-- what holds says of a prefix -/
def HZ (S : Sv) (M : Int → Bool) (j : Nat) (c z : Int) : Prop := (z = 1 ∧ ∀ k, 0 ≤ k → k < c → S 2 k < p2 j ∧ S 3 k < p2 j → Cm (S 2 k) (S 3 k) (S 0 0) M) ∨ (z = 0 ∧ ∀ μ, mF S μ → ¬ ∀ x, 0 ≤ x → x < (j : Int) → μ x = M x)
theorem lp_holds {K : Cx} {h0 : Nat} {ad : Nat → Nat} {cA : Nat → ClassId} (C : Ok K R_Mo b_Mo_holds) (hR : xR K = rmL 0) (ht : xt K = oty Y_Mo cA) (hL : xL K = 4) (hcs : xn K ≤ (xR K).cells ∧ xk K ≤ (xR K).slots) {post : Int → Sv → Prop} (Z : RI K .boolean (ow Y_Mo h0 ad cA) post) (S : Sv) (hO : MI S) (M : Int → Bool) (j : Nat) (hj : (j : Int) ≤ S 0 0) (hp : ∀ z, HZ S M j (S 4 0) z → post z S) :
    ∀ (n : Nat) (k : Int), S 4 0 - k < n → 0 ≤ k → k ≤ S 4 0 → (∀ i, 0 ≤ i → i < k → S 2 i < p2 j ∧ S 3 i < p2 j → Cm (S 2 i) (S 3 i) (S 0 0) M) → J K (ow Y_Mo h0 ad cA S) 2 [(0, .ref h0), (1, jv (bs M j)), (2, jv (j : Int)), (3, jv k)] [] := by
  have L := Ln_Mo (h0 := h0) (ad := ad) ht
  obtain ⟨o1, o2, o3, o4, o5, o6, o7⟩ := hO
  have q16 := p2_16 o1.2
  have bl := bs_lt M j
  have bj := p2_le hj
  intro n
  induction n with
  | zero => intro k q1; omega
  | succ n ih =>
    intro k q1 q2 q3 q4
    refine j_iload_n C 3 d_Mo_holds_2 rfl rfl ?_
    refine j_aload_n C 0 d_Mo_holds_3 rfl rfl ?_
    refine m_get C L 4 (by decide) rfl (S 4 0) rfl d_Mo_holds_4 ?_
    refine j_icmp_ge (tgt := 60) C d_Mo_holds_7 (by decide) (rgi (by omega) (by omega)) (rgi (by omega) (by omega)) (fun c => ?_) (fun c => ?_)
    · refine j_iconst C d_Mo_holds_60 ?_
      exact j_ret C Z (by decide) d_Mo_holds_61 (hp 1 (Or.inl ⟨rfl, fun i a b => q4 i a (by omega)⟩))
    · have ok := o3 k q2 (by omega)
      have og := orI_lt ok.1.1 ok.1.2 ok.2.1 ok.2.2
      have od : 0 ≤ orI (S 2 k) (S 3 k) / p2 (j : Int) ∧ orI (S 2 k) (S 3 k) / p2 (j : Int) ≤ orI (S 2 k) (S 3 k) := ⟨Int.ediv_nonneg og.1 (by omega), Int.ediv_le_self _ og.1⟩
      have al := andI_le (x := bs M j) ok.1.1
      have an := andn_rg (a := bs M j) (b := S 3 k) bl.1 (by omega) ok.2.1 (by omega)
      have go : (S 2 k < p2 j ∧ S 3 k < p2 j → Cm (S 2 k) (S 3 k) (S 0 0) M) → J K (ow Y_Mo h0 ad cA S) 54 [(0, .ref h0), (1, jv (bs M j)), (2, jv (j : Int)), (3, jv k)] [] := fun hk => by
        refine j_iinc (lv' := [(0, .ref h0), (1, jv (bs M j)), (2, jv (j : Int)), (3, jv (k + 1))]) C 3 d_Mo_holds_54 rfl (by rw [hL]; decide) rfl rfl ?_
        refine j_goto (tgt := 2) C d_Mo_holds_57 (by decide) ?_
        exact ih (k + 1) (by omega) (by omega) (by omega) (fun i a b => by
          by_cases e : i = k
          · rw [e]; exact hk
          · exact q4 i a (by omega))
      refine j_aload_n C 0 d_Mo_holds_10 rfl rfl ?_
      refine m_getA C L 2 (by decide) rfl d_Mo_holds_11 ?_
      refine j_iload_n C 3 d_Mo_holds_14 rfl rfl ?_
      refine m_iald C L 2 400 (by decide) rfl rfl (S 2 k) rfl (by omega) (by omega) d_Mo_holds_15 ?_
      refine j_aload_n C 0 d_Mo_holds_16 rfl rfl ?_
      refine m_getA C L 3 (by decide) rfl d_Mo_holds_17 ?_
      refine j_iload_n C 3 d_Mo_holds_20 rfl rfl ?_
      refine m_iald C L 3 400 (by decide) rfl rfl (S 3 k) rfl (by omega) (by omega) d_Mo_holds_21 ?_
      refine j_ior C d_Mo_holds_22 (z := orI (S 2 k) (S 3 k)) (jI_or ok.1.1 ok.2.1) ?_
      refine j_iload_n C 2 d_Mo_holds_23 rfl rfl ?_
      refine j_ishr C d_Mo_holds_24 (z := orI (S 2 k) (S 3 k) / p2 (j : Int)) (jI_shr og.1 (by omega) (by omega) (by omega)) ?_
      refine j_if_ne (tgt := 54) C d_Mo_holds_25 (by decide) (rgi (by omega) (by omega)) (fun d => ?_) (fun d => ?_)
      · exact go (fun q => absurd ((orI_p ok.1.1 ok.2.1 (by omega)).mpr q) d)
      · have d2 := (orI_p ok.1.1 ok.2.1 (by omega)).mp d
        refine j_iload_n C 1 d_Mo_holds_28 rfl rfl ?_
        refine j_aload_n C 0 d_Mo_holds_29 rfl rfl ?_
        refine m_getA C L 2 (by decide) rfl d_Mo_holds_30 ?_
        refine j_iload_n C 3 d_Mo_holds_33 rfl rfl ?_
        refine m_iald C L 2 400 (by decide) rfl rfl (S 2 k) rfl (by omega) (by omega) d_Mo_holds_34 ?_
        refine j_iand C d_Mo_holds_35 (z := andI (bs M j) (S 2 k)) (jI_and bl.1 ok.1.1) ?_
        refine j_if_ne (tgt := 54) C d_Mo_holds_36 (by decide) (rgi (by omega) (by omega)) (fun e => ?_) (fun e => ?_)
        · exact go (fun q => Cm_hold ok.1.1 ok.2.1 M j hj q (fun z => e z.1))
        · refine j_iload_n C 1 d_Mo_holds_39 rfl rfl ?_
          refine j_iconst C d_Mo_holds_40 ?_
          refine r_ixor C d_Mo_holds_41 ?_
          refine j_aload_n C 0 d_Mo_holds_42 rfl rfl ?_
          refine m_getA C L 3 (by decide) rfl d_Mo_holds_43 ?_
          refine j_iload_n C 3 d_Mo_holds_46 rfl rfl ?_
          refine m_iald C L 3 400 (by decide) rfl rfl (S 3 k) rfl (by omega) (by omega) d_Mo_holds_47 ?_
          refine r_iand C d_Mo_holds_48 ?_
          rw [jI_andn bl.1 ok.2.1]
          refine j_if_ne (tgt := 54) C d_Mo_holds_49 (by decide) (rgi (by omega) (by omega)) (fun g => ?_) (fun g => ?_)
          · exact go (fun q => Cm_hold ok.1.1 ok.2.1 M j hj q (fun z => g z.2))
          · refine j_iconst C d_Mo_holds_52 ?_
            exact j_ret C Z (by decide) d_Mo_holds_53 (hp 0 (Or.inr ⟨rfl, fun μ hm hag => Cm_fail ok.1.1 ok.2.1 M j d2 e g μ hag (hm k q2 (by omega))⟩))
theorem c_Mo_holds (l : Launch) (D : va_G) (h0 : Nat) (ad : Nat → Nat) (cA : Nat → ClassId) (S : Sv) (hO : MI S) (M : Int → Bool) (j : Nat) (hj : (j : Int) ≤ S 0 0) : CI l y_Mo_holds b_Mo_holds 4 (some .boolean) 0 D (oty Y_Mo cA) [.ref h0, jv (bs M j), jv (j : Int)] (ow Y_Mo h0 ad cA) S (fun z u => u = S ∧ HZ S M j (S 4 0) z) := by
  refine CI.of (by decide) (Nat.le_of_ble_eq_true rfl) (fun K C hR ht hL hcs Z => ?_)
  have C : Ok K R_Mo b_Mo_holds := C
  have L := Ln_Mo (h0 := h0) (ad := ad) ht
  show J K (ow Y_Mo h0 ad cA S) 0 [(0, .ref h0), (1, jv (bs M j)), (2, jv (j : Int))] []
  have o2 := hO.2.1
  refine j_iconst C d_Mo_holds_0 ?_
  refine j_istore_n (lv' := [(0, .ref h0), (1, jv (bs M j)), (2, jv (j : Int)), (3, jv 0)]) C d_Mo_holds_1 rfl (by rw [hL]; decide) rfl rfl ?_
  exact lp_holds C hR ht hL hcs Z S hO M j hj (fun z h => ⟨rfl, h⟩) (S 4 0).toNat.succ 0 (by omega) (by omega) o2.1 (fun i a b => by omega)
theorem c_Mo_search : ∀ (r : Nat) (l : Launch) (D : va_G) (h0 : Nat) (ad : Nat → Nat) (cA : Nat → ClassId) (S : Sv) (hO : MI S) (M : Int → Bool) (j : Nat) (hj : (j : Int) + r = S 0 0), CI l y_Mo_search b_Mo_search 5 (some .int) (r + 1) D (oty Y_Mo cA) [.ref h0, jv (bs M j), jv (j : Int)] (ow Y_Mo h0 ad cA) S (fun z u => u = S ∧ SR (mF S) (S 0 0) (S 1) M (j : Int) z ∧ -2 ≤ z ∧ z < 65536) := by
  intro r
  induction r with
  | zero =>
    intro l D h0 ad cA S hO M j hj
    refine CI.of (by decide) (Nat.le_of_ble_eq_true rfl) (fun K C hR ht hL hcs Z => ?_)
    have C : Ok K R_Mo b_Mo_search := C
    have L := Ln_Mo (h0 := h0) (ad := ad) ht
    have o1 := hO.1
    have o3 := hO.2.2.1
    have bl := bs_lt M j
    have bj := p2_le (a := (j : Int)) (b := S 0 0) (by omega)
    have q16 := p2_16 o1.2
    show J K (ow Y_Mo h0 ad cA S) 0 [(0, .ref h0), (1, jv (bs M j)), (2, jv (j : Int))] []
    refine j_aload_n C 0 d_Mo_search_0 rfl rfl ?_
    refine j_iload_n C 1 d_Mo_search_1 rfl rfl ?_
    refine j_iload_n C 2 d_Mo_search_2 rfl rfl ?_
    refine j_callI (wr := []) (As := [jv (bs M j), jv (j : Int)]) (rest := []) (w := ow Y_Mo h0 ad cA) (u0 := S) C (c_Mo_holds _ _ h0 ad cA S hO M j (by omega)) (by rw [ht]; exact fun _ h => h) lk_Mo_49 rfl (q0 := 0) rfl rfl (by rw [hR]; decide) hcs d_Mo_search_3 rfl (Nat.le_of_ble_eq_true rfl) (fun z u hz => ?_)
    obtain ⟨eu, hz⟩ := hz
    subst u
    have z01 : z = 0 ∨ z = 1 := by rcases hz with ⟨e, -⟩ | ⟨e, -⟩ <;> omega
    refine j_if_ne (tgt := 12) C d_Mo_search_6 (by decide) (rgi (by omega) (by omega)) (fun c => ?_) (fun c => ?_)
    · refine j_iload_n C 2 d_Mo_search_12 rfl rfl ?_
      refine j_aload_n C 0 d_Mo_search_13 rfl rfl ?_
      refine m_get C L 0 (by decide) rfl (S 0 0) rfl d_Mo_search_14 ?_
      refine j_icmp_ne (tgt := 22) C d_Mo_search_17 (by decide) (rgi (by omega) (by omega)) (rgi (by omega) (by omega)) (fun d => ?_) (fun d => ?_)
      · omega
      · rcases hz with ⟨-, e⟩ | ⟨e, -⟩
        rotate_left
        · omega
        have hm : mF S M := fun k a b => e k a b (by
          have := o3 k a b
          rw [show (j : Int) = S 0 0 by omega]; exact ⟨this.1.2, this.2.2⟩)
        refine j_iload_n C 1 d_Mo_search_20 rfl rfl ?_
        refine j_ret C Z rfl d_Mo_search_21 ⟨rfl, ?_, by omega, by omega⟩
        have h1 : SR (mF S) (S 0 0) (S 1) M (S 0 0) (bs M (S 0 0).toNat) := SR.here hm (by omega)
        rw [show (S 0 0).toNat = j by omega] at h1
        rw [d]; exact h1
    · rcases hz with ⟨e, -⟩ | ⟨-, e⟩
      · omega
      refine j_bipush C d_Mo_search_9 (by decide) ?_
      exact j_ret C Z rfl d_Mo_search_11 ⟨rfl, Or.inl ⟨rfl, e⟩, by omega, by omega⟩
  | succ r ih =>
    intro l D h0 ad cA S hO M j hj
    refine CI.of (by decide) (Nat.le_of_ble_eq_true rfl) (fun K C hR ht hL hcs Z => ?_)
    have C : Ok K R_Mo b_Mo_search := C
    have L := Ln_Mo (h0 := h0) (ad := ad) ht
    have o1 := hO.1
    have o6 := hO.2.2.2.2.2.1
    have bl := bs_lt M j
    have bj := p2_le (a := (j : Int) + 1) (b := S 0 0) (by omega)
    have bs1 := p2_s (n := (j : Int)) (by omega)
    have q16 := p2_16 o1.2
    have wj := o6 (j : Int) (by omega) (by omega)
    show J K (ow Y_Mo h0 ad cA S) 0 [(0, .ref h0), (1, jv (bs M j)), (2, jv (j : Int))] []
    refine j_aload_n C 0 d_Mo_search_0 rfl rfl ?_
    refine j_iload_n C 1 d_Mo_search_1 rfl rfl ?_
    refine j_iload_n C 2 d_Mo_search_2 rfl rfl ?_
    refine j_callI (wr := []) (As := [jv (bs M j), jv (j : Int)]) (rest := []) (w := ow Y_Mo h0 ad cA) (u0 := S) C (c_Mo_holds _ _ h0 ad cA S hO M j (by omega)) (by rw [ht]; exact fun _ h => h) lk_Mo_49 rfl (q0 := 0) rfl rfl (by rw [hR]; exact ⟨by show 0 + 1 ≤ r + 1 + 1; omega, by show 8 + (4 + 11) + 40 * 0 ≤ 40 * (r + 1 + 1); omega⟩) hcs d_Mo_search_3 rfl (Nat.le_of_ble_eq_true rfl) (fun z u hz => ?_)
    obtain ⟨eu, hz⟩ := hz
    subst u
    have z01 : z = 0 ∨ z = 1 := by rcases hz with ⟨e, -⟩ | ⟨e, -⟩ <;> omega
    refine j_if_ne (tgt := 12) C d_Mo_search_6 (by decide) (rgi (by omega) (by omega)) (fun c => ?_) (fun c => ?_)
    · refine j_iload_n C 2 d_Mo_search_12 rfl rfl ?_
      refine j_aload_n C 0 d_Mo_search_13 rfl rfl ?_
      refine m_get C L 0 (by decide) rfl (S 0 0) rfl d_Mo_search_14 ?_
      refine j_icmp_ne (tgt := 22) C d_Mo_search_17 (by decide) (rgi (by omega) (by omega)) (rgi (by omega) (by omega)) (fun d => ?_) (fun d => ?_)
      · refine j_iconst C d_Mo_search_22 ?_
        refine j_iload_n C 2 d_Mo_search_23 rfl rfl ?_
        refine j_ishl C d_Mo_search_24 (z := p2 (j : Int)) (jI_shl (by omega) (by omega)) ?_
        refine j_istore_n (lv' := [(0, .ref h0), (1, jv (bs M j)), (2, jv (j : Int)), (3, jv (p2 (j : Int)))]) C d_Mo_search_25 rfl (by rw [hL]; decide) rfl rfl ?_
        refine j_aload_n C 0 d_Mo_search_26 rfl rfl ?_
        refine j_aload_n C 0 d_Mo_search_27 rfl rfl ?_
        refine m_getA C L 1 (by decide) rfl d_Mo_search_28 ?_
        refine j_iload_n C 2 d_Mo_search_31 rfl rfl ?_
        refine m_zald C L 1 16 (by decide) rfl rfl (S 1 (j : Int)) rfl (by omega) (by omega) d_Mo_search_32 ?_
        refine j_if_eq (tgt := 42) C d_Mo_search_33 (by decide) (rgi (by omega) (by omega)) (fun e => ?_) (fun e => ?_)
        · have wd : decide (S 1 (j : Int) ≠ 0) = false := by simp [e]
          refine j_iload_n C 1 d_Mo_search_42 rfl rfl ?_
          refine j_iload_n C 2 d_Mo_search_43 rfl rfl ?_
          refine j_iconst C d_Mo_search_44 ?_
          refine j_iadd C d_Mo_search_45 ?_
          have eb : bs (upB M (j : Int) false) (j + 1) = bs M j := by rw [bs_upB]; rw [if_neg (by decide), Int.add_zero]
          have hcal := ih (xl K) (xD K) h0 ad cA S hO (upB M (j : Int) false) (j + 1) (by omega)
          rw [eb, show ((j + 1 : Nat) : Int) = (j : Int) + 1 by omega] at hcal
          refine j_callI (wr := []) (As := [jv (bs M j), jv ((j : Int) + 1)]) (rest := []) (w := ow Y_Mo h0 ad cA) (u0 := S) C (hcal) (by rw [ht]; exact fun _ h => h) lk_Mo_53 rfl (q0 := 0) rfl rfl (by rw [hR]; exact ⟨Nat.le_refl _, by show 8 + (5 + 11) + 40 * (r + 1) ≤ 40 * (r + 1 + 1); omega⟩) hcs d_Mo_search_46 rfl (Nat.le_of_ble_eq_true rfl) (fun z1 u1 hz1 => ?_)
          obtain ⟨eu, hz1⟩ := hz1
          subst u1
          have s1 := hz1.1
          rw [← wd] at s1
          have r1 := hz1.2
          refine j_istore (lv' := [(0, .ref h0), (1, jv (bs M j)), (2, jv (j : Int)), (3, jv (p2 (j : Int))), (4, jv z1)]) C d_Mo_search_49 (by rw [hL]; decide) rfl rfl ?_
          refine j_iload C 4 d_Mo_search_51 rfl ?_
          refine j_if_lt (tgt := 61) C d_Mo_search_53 (by decide) (rgi (by omega) (by omega)) (fun x => ?_) (fun x => ?_)
          · refine j_aload_n C 0 d_Mo_search_61 rfl rfl ?_
            refine j_aload_n C 0 d_Mo_search_62 rfl rfl ?_
            refine m_getA C L 1 (by decide) rfl d_Mo_search_63 ?_
            refine j_iload_n C 2 d_Mo_search_66 rfl rfl ?_
            refine m_zald C L 1 16 (by decide) rfl rfl (S 1 (j : Int)) rfl (by omega) (by omega) d_Mo_search_67 ?_
            refine j_if_eq (tgt := 75) C d_Mo_search_68 (by decide) (rgi (by omega) (by omega)) (fun e2 => ?_) (fun e2 => ?_)
            · refine j_iload_n C 1 d_Mo_search_75 rfl rfl ?_
              refine j_iload_n C 3 d_Mo_search_76 rfl rfl ?_
              refine j_ior C d_Mo_search_77 (z := bs M j + p2 (j : Int)) (by rw [jI_or bl.1 (by have := p2_pos (j : Int); omega), orI_p2 bl.1 (by omega) bl.2]) ?_
              refine j_iload_n C 2 d_Mo_search_78 rfl rfl ?_
              refine j_iconst C d_Mo_search_79 ?_
              refine j_iadd C d_Mo_search_80 ?_
              have eb : bs (upB M (j : Int) true) (j + 1) = bs M j + p2 (j : Int) := by rw [bs_upB]; rw [if_pos (by decide)]
              have hcal := ih (xl K) (xD K) h0 ad cA S hO (upB M (j : Int) true) (j + 1) (by omega)
              rw [eb, show ((j + 1 : Nat) : Int) = (j : Int) + 1 by omega] at hcal
              refine j_callI (wr := []) (As := [jv (bs M j + p2 (j : Int)), jv ((j : Int) + 1)]) (rest := []) (w := ow Y_Mo h0 ad cA) (u0 := S) C (hcal) (by rw [ht]; exact fun _ h => h) lk_Mo_53 rfl (q0 := 0) rfl rfl (by rw [hR]; exact ⟨Nat.le_refl _, by show 8 + (5 + 11) + 40 * (r + 1) ≤ 40 * (r + 1 + 1); omega⟩) hcs d_Mo_search_81 rfl (Nat.le_of_ble_eq_true rfl) (fun z2 u2_ hz2 => ?_)
              obtain ⟨eu, hz2⟩ := hz2
              subst u2_
              have s2 := hz2.1
              rw [show true = ! decide (S 1 (j : Int) ≠ 0) by rw [wd]; rfl] at s2
              exact j_ret C Z rfl d_Mo_search_84 ⟨rfl, SR.second s1 x s2 (by omega), hz2.2⟩
            · omega
          · refine j_iload C 4 d_Mo_search_56 rfl ?_
            refine j_goto (tgt := 84) C d_Mo_search_58 (by decide) ?_
            exact j_ret C Z rfl d_Mo_search_84 ⟨rfl, SR.first s1 (by omega) (by omega), r1⟩
        · have wd : decide (S 1 (j : Int) ≠ 0) = true := by simp [e]
          refine j_iload_n C 1 d_Mo_search_36 rfl rfl ?_
          refine j_iload_n C 3 d_Mo_search_37 rfl rfl ?_
          refine j_ior C d_Mo_search_38 (z := bs M j + p2 (j : Int)) (by rw [jI_or bl.1 (by have := p2_pos (j : Int); omega), orI_p2 bl.1 (by omega) bl.2]) ?_
          refine j_goto (tgt := 43) C d_Mo_search_39 (by decide) ?_
          refine j_iload_n C 2 d_Mo_search_43 rfl rfl ?_
          refine j_iconst C d_Mo_search_44 ?_
          refine j_iadd C d_Mo_search_45 ?_
          have eb : bs (upB M (j : Int) true) (j + 1) = bs M j + p2 (j : Int) := by rw [bs_upB]; rw [if_pos (by decide)]
          have hcal := ih (xl K) (xD K) h0 ad cA S hO (upB M (j : Int) true) (j + 1) (by omega)
          rw [eb, show ((j + 1 : Nat) : Int) = (j : Int) + 1 by omega] at hcal
          refine j_callI (wr := []) (As := [jv (bs M j + p2 (j : Int)), jv ((j : Int) + 1)]) (rest := []) (w := ow Y_Mo h0 ad cA) (u0 := S) C (hcal) (by rw [ht]; exact fun _ h => h) lk_Mo_53 rfl (q0 := 0) rfl rfl (by rw [hR]; exact ⟨Nat.le_refl _, by show 8 + (5 + 11) + 40 * (r + 1) ≤ 40 * (r + 1 + 1); omega⟩) hcs d_Mo_search_46 rfl (Nat.le_of_ble_eq_true rfl) (fun z1 u1 hz1 => ?_)
          obtain ⟨eu, hz1⟩ := hz1
          subst u1
          have s1 := hz1.1
          rw [← wd] at s1
          have r1 := hz1.2
          refine j_istore (lv' := [(0, .ref h0), (1, jv (bs M j)), (2, jv (j : Int)), (3, jv (p2 (j : Int))), (4, jv z1)]) C d_Mo_search_49 (by rw [hL]; decide) rfl rfl ?_
          refine j_iload C 4 d_Mo_search_51 rfl ?_
          refine j_if_lt (tgt := 61) C d_Mo_search_53 (by decide) (rgi (by omega) (by omega)) (fun x => ?_) (fun x => ?_)
          · refine j_aload_n C 0 d_Mo_search_61 rfl rfl ?_
            refine j_aload_n C 0 d_Mo_search_62 rfl rfl ?_
            refine m_getA C L 1 (by decide) rfl d_Mo_search_63 ?_
            refine j_iload_n C 2 d_Mo_search_66 rfl rfl ?_
            refine m_zald C L 1 16 (by decide) rfl rfl (S 1 (j : Int)) rfl (by omega) (by omega) d_Mo_search_67 ?_
            refine j_if_eq (tgt := 75) C d_Mo_search_68 (by decide) (rgi (by omega) (by omega)) (fun e2 => ?_) (fun e2 => ?_)
            · omega
            · refine j_iload_n C 1 d_Mo_search_71 rfl rfl ?_
              refine j_goto (tgt := 78) C d_Mo_search_72 (by decide) ?_
              refine j_iload_n C 2 d_Mo_search_78 rfl rfl ?_
              refine j_iconst C d_Mo_search_79 ?_
              refine j_iadd C d_Mo_search_80 ?_
              have eb : bs (upB M (j : Int) false) (j + 1) = bs M j := by rw [bs_upB]; rw [if_neg (by decide), Int.add_zero]
              have hcal := ih (xl K) (xD K) h0 ad cA S hO (upB M (j : Int) false) (j + 1) (by omega)
              rw [eb, show ((j + 1 : Nat) : Int) = (j : Int) + 1 by omega] at hcal
              refine j_callI (wr := []) (As := [jv (bs M j), jv ((j : Int) + 1)]) (rest := []) (w := ow Y_Mo h0 ad cA) (u0 := S) C (hcal) (by rw [ht]; exact fun _ h => h) lk_Mo_53 rfl (q0 := 0) rfl rfl (by rw [hR]; exact ⟨Nat.le_refl _, by show 8 + (5 + 11) + 40 * (r + 1) ≤ 40 * (r + 1 + 1); omega⟩) hcs d_Mo_search_81 rfl (Nat.le_of_ble_eq_true rfl) (fun z2 u2_ hz2 => ?_)
              obtain ⟨eu, hz2⟩ := hz2
              subst u2_
              have s2 := hz2.1
              rw [show false = ! decide (S 1 (j : Int) ≠ 0) by rw [wd]; rfl] at s2
              exact j_ret C Z rfl d_Mo_search_84 ⟨rfl, SR.second s1 x s2 (by omega), hz2.2⟩
          · refine j_iload C 4 d_Mo_search_56 rfl ?_
            refine j_goto (tgt := 84) C d_Mo_search_58 (by decide) ?_
            exact j_ret C Z rfl d_Mo_search_84 ⟨rfl, SR.first s1 (by omega) (by omega), r1⟩
      · omega
    · rcases hz with ⟨e, -⟩ | ⟨-, e⟩
      · omega
      refine j_bipush C d_Mo_search_9 (by decide) ?_
      exact j_ret C Z rfl d_Mo_search_11 ⟨rfl, Or.inl ⟨rfl, e⟩, by omega, by omega⟩
/-- what the model knows -/
def MA (S : Sv) (z : Int) : Prop := ((z = -2 ∧ ∀ μ, ¬ mF S μ) ∨ ∃ M, First (mF S) (S 0 0) (S 1) M ∧ z = bs M (S 0 0).toNat) ∧ -2 ≤ z ∧ z < 65536
/-- behind the model's answer -/
def AM (S : Sv) (z : Int) (u : Sv) : Prop := MA S z ∧ u 8 0 = 1 ∧ u 7 0 = z ∧ ∀ k, k ≠ 7 → k ≠ 8 → u k = S k
theorem SR.ma {S : Sv} {M : Int → Bool} {z : Int} (h : SR (mF S) (S 0 0) (S 1) M 0 z) (hz : -2 ≤ z ∧ z < 65536) : MA S z := by
  refine ⟨?_, hz⟩
  rcases h with ⟨e, q⟩ | ⟨M', ⟨f1, f2, f3⟩, e⟩
  · exact Or.inl ⟨e, fun μ hm => q μ hm (fun x a b => by omega)⟩
  · exact Or.inr ⟨M', ⟨f1, fun μ hm v a b c d => f3 μ hm (fun x x1 x2 => by omega) v a b c d⟩, e⟩
theorem c_Mo_answer (l : Launch) (D : va_G) (h0 : Nat) (ad : Nat → Nat) (cA : Nat → ClassId) (S : Sv) (hO : MI S) (hK : S 8 0 = 1 → MA S (S 7 0)) : CI l y_Mo_answer b_Mo_answer 1 (some .int) 20 D (oty Y_Mo cA) [.ref h0] (ow Y_Mo h0 ad cA) S (fun z u => AM S z u) := by
  refine CI.of (by decide) (Nat.le_of_ble_eq_true rfl) (fun K C hR ht hL hcs Z => ?_)
  have C : Ok K R_Mo b_Mo_answer := C
  have L := Ln_Mo (h0 := h0) (ad := ad) ht
  show J K (ow Y_Mo h0 ad cA S) 0 [(0, .ref h0)] []
  have o1 := hO.1
  have o7 := hO.2.2.2.2.2.2
  refine j_aload_n C 0 d_Mo_answer_0 rfl rfl ?_
  refine m_get C L 8 (by decide) rfl (S 8 0) rfl d_Mo_answer_1 ?_
  refine j_if_ne (tgt := 17) C d_Mo_answer_4 (by decide) (rgi (by omega) (by omega)) (fun c => ?_) (fun c => ?_)
  · have k1 : S 8 0 = 1 := by omega
    refine j_aload_n C 0 d_Mo_answer_17 rfl rfl ?_
    refine j_iconst C d_Mo_answer_18 ?_
    refine m_putZ C L 8 (by decide) rfl rfl rfl (by omega) d_Mo_answer_19 ?_
    refine j_aload_n C 0 d_Mo_answer_22 rfl rfl ?_
    refine m_get C L 7 (by decide) rfl (S 7 0) rfl d_Mo_answer_23 ?_
    exact j_ret C Z rfl d_Mo_answer_26 ⟨hK k1, (show up (S 8) 0 1 0 = 1 by rw [up_s]), rfl, fun k k7 k8 => by rw [u2_n _ _ _ k8]⟩
  · refine j_aload_n C 0 d_Mo_answer_7 rfl rfl ?_
    refine j_aload_n C 0 d_Mo_answer_8 rfl rfl ?_
    refine j_iconst C d_Mo_answer_9 ?_
    refine j_iconst C d_Mo_answer_10 ?_
    have hcal := c_Mo_search (S 0 0).toNat (xl K) (xD K) h0 ad cA S hO (fun _ => false) 0 (by omega)
    rw [show bs (fun _ => false) 0 = 0 from rfl] at hcal
    have hcal : CI (xl K) y_Mo_search b_Mo_search 5 (some .int) ((S 0 0).toNat + 1) (xD K) (oty Y_Mo cA) [.ref h0, jv 0, jv 0] (ow Y_Mo h0 ad cA) S (fun z u => u = S ∧ SR (mF S) (S 0 0) (S 1) (fun _ => false) 0 z ∧ -2 ≤ z ∧ z < 65536) := hcal
    refine j_callI (wr := []) (As := [jv 0, jv 0]) (rest := [.ref h0]) (w := ow Y_Mo h0 ad cA) (u0 := S) C (hcal) (by rw [ht]; exact fun _ h => h) lk_Mo_53 rfl (q0 := 0) rfl rfl (by rw [hR]; exact ⟨by show (S 0 0).toNat + 1 + 1 ≤ 20; omega, by show 8 + (5 + 11) + 40 * ((S 0 0).toNat + 1) ≤ 40 * 20; omega⟩) hcs d_Mo_answer_11 rfl (Nat.le_of_ble_eq_true rfl) (fun z u hz => ?_)
    obtain ⟨eu, hz1, hz2⟩ := hz
    subst u
    refine m_put C L 7 (by decide) rfl rfl rfl d_Mo_answer_14 ?_
    refine j_aload_n C 0 d_Mo_answer_17 rfl rfl ?_
    refine j_iconst C d_Mo_answer_18 ?_
    refine m_putZ C L 8 (by decide) rfl rfl rfl (by omega) d_Mo_answer_19 ?_
    refine j_aload_n C 0 d_Mo_answer_22 rfl rfl ?_
    refine m_get C L 7 (by decide) rfl z (show up (S 7) 0 z 0 = z by rw [up_s]) d_Mo_answer_23 ?_
    exact j_ret C Z rfl d_Mo_answer_26 ⟨hz1.ma hz2, (show up (S 8) 0 1 0 = 1 by rw [up_s]), (show up (S 7) 0 z 0 = z by rw [up_s]), fun k k7 k8 => by rw [u2_n _ _ _ k8, u2_n _ _ _ k7]⟩
theorem c_Mo_solve (l : Launch) (D : va_G) (h0 : Nat) (ad : Nat → Nat) (cA : Nat → ClassId) (S : Sv) (hO : MI S) (hK : S 8 0 = 1 → MA S (S 7 0)) : CI l y_Mo_solve b_Mo_solve 1 (some .boolean) 21 D (oty Y_Mo cA) [.ref h0] (ow Y_Mo h0 ad cA) S (fun z u => ∃ a, AM S a u ∧ z = if a < 0 then 0 else 1) := by
  refine CI.of (by decide) (Nat.le_of_ble_eq_true rfl) (fun K C hR ht hL hcs Z => ?_)
  have C : Ok K R_Mo b_Mo_solve := C
  have L := Ln_Mo (h0 := h0) (ad := ad) ht
  show J K (ow Y_Mo h0 ad cA S) 0 [(0, .ref h0)] []
  refine j_aload_n C 0 d_Mo_solve_0 rfl rfl ?_
  refine j_callI (wr := []) (As := []) (rest := []) (w := ow Y_Mo h0 ad cA) (u0 := S) C (c_Mo_answer _ _ h0 ad cA S hO hK) (by rw [ht]; exact fun _ h => h) lk_Mo_59 rfl (q0 := 0) rfl rfl (by rw [hR]; decide) hcs d_Mo_solve_1 rfl (Nat.le_of_ble_eq_true rfl) (fun a u ha => ?_)
  have ar := ha.1.2
  refine j_if_lt (tgt := 11) C d_Mo_solve_4 (by decide) (rgi (by omega) (by omega)) (fun c => ?_) (fun c => ?_)
  · refine j_iconst C d_Mo_solve_11 ?_
    exact j_ret C Z (by decide) d_Mo_solve_12 ⟨a, ha, by rw [if_pos c]⟩
  · refine j_iconst C d_Mo_solve_7 ?_
    refine j_goto (tgt := 12) C d_Mo_solve_8 (by decide) ?_
    exact j_ret C Z (by decide) d_Mo_solve_12 ⟨a, ha, by rw [if_neg c]⟩
end
section
/-! the constructors -/
def zS : Sv := fun _ _ => 0
set_option maxRecDepth 20000 in
theorem arr_int : Cond.arrayClass .int ∈ tblG := by decide +kernel
set_option maxRecDepth 20000 in
theorem arr_boolean : Cond.arrayClass .boolean ∈ tblG := by decide +kernel
set_option maxRecDepth 20000 in
theorem ob_1 : Cond.instanceMethod objectInit ∈ tblG := by decide +kernel
theorem ob_2 : Cond.code objectInit ⟨#[0xb1]⟩ 1 none ∈ tblG := List.mem_filter.mpr ⟨List.mem_append_right _ (List.mem_of_getElem? (i := 14) rfl), rfl⟩
set_option maxRecDepth 20000 in
theorem ol_Sv : Cond.methodLink R_Sv 5 objectInit ∈ tblG := by decide +kernel
set_option maxRecDepth 20000 in
theorem ol_Ou : Cond.methodLink R_Ou 1 objectInit ∈ tblG := by decide +kernel
set_option maxRecDepth 20000 in
theorem ol_Mo : Cond.methodLink R_Mo 1 objectInit ∈ tblG := by decide +kernel
set_option maxHeartbeats 4000000 in
set_option maxRecDepth 100000 in
theorem c_Sv_init (l : Launch) (D : va_G) (h0 : Nat) (sz : Nat) : Met l y_Sv_init (Cond.code y_Sv_init b_Sv_init 1 none :: tblG) { frames := 1, cells := 14, slots := 13135, locals := 40 } (va_Pc [.ref h0] (fun U => U.heap.size = sz ∧ va_P D classes [(h0, .inr (0, [.int 0, .null, .null, .null, .null, .null, .int 0, .int 0, .int 0, .null, .null, .null, .null, .null, .null, .null, .int 0, .int 0, .int 0, .int 0, .null, .int 0, .null]))] U.heap ∧ va_K D classes [] U ∧ va_D (fun _ => True) [(h0, .inr (0, [.int 0, .null, .null, .null, .null, .null, .int 0, .int 0, .int 0, .null, .null, .null, .null, .null, .null, .null, .int 0, .int 0, .int 0, .int 0, .null, .int 0, .null]))])) (va_Qv (fun _ : (Nat → Nat) × (Nat → ClassId) => True) (fun (u : (Nat → Nat) × (Nat → ClassId)) t => va_P D classes (sw h0 u.1 u.2 zS) t.heap ∧ va_K D classes (sty u.2) t ∧ va_D (va_A [(h0, .inr (0, [.int 0, .null, .null, .null, .null, .null, .int 0, .int 0, .int 0, .null, .null, .null, .null, .null, .null, .null, .int 0, .int 0, .int 0, .int 0, .null, .int 0, .null]))] sz) (sw h0 u.1 u.2 zS)) (va_A [(h0, .inr (0, [.int 0, .null, .null, .null, .null, .null, .int 0, .int 0, .int 0, .null, .null, .null, .null, .null, .null, .null, .int 0, .int 0, .int 0, .int 0, .null, .int 0, .null]))] sz)) 14 13135 (va_A [(h0, .inr (0, [.int 0, .null, .null, .null, .null, .null, .int 0, .int 0, .int 0, .null, .null, .null, .null, .null, .null, .null, .int 0, .int 0, .int 0, .int 0, .null, .int 0, .null]))] sz) := by
  refine Met.ofW (cc := b_Sv_init) (maxL := 1) (ret := none) (by decide) rfl ?_
  intro p e s m args below meth c s₁ B hml hv
  obtain ⟨rfl, hsz, hP, hK, hD0⟩ := hv
  have hx := B.exec
  have hb := B.bytes
  have hr := B.returns
  have hts0 := atoms_spec (ws := Cond.code y_Sv_init b_Sv_init 1 none :: tblG) B.pre
  have hts : ∀ w ∈ tblG, w.before ([.ref h0] : List Value).toArray s = true := fun w hw => hts0 w (List.mem_cons_of_mem _ hw)
  have hown : s.vm.findClass R_Sv = some m.cls := findClass_of_methodNamed B.named
  have hlocks := B.notSynchronized
  have hin : meth.name = "<init>" := (name_of_methodNamed B.named B.method).1
  subst hsz
  have hD := hD0.self (sz := s.heap.size)
  generalize hAe : va_A [(h0, .inr (0, [.int 0, .null, .null, .null, .null, .null, .int 0, .int 0, .int 0, .null, .null, .null, .null, .null, .null, .null, .int 0, .int 0, .int 0, .int 0, .null, .int 0, .null]))] s.heap.size = A at hD ⊢
  have hA : ∀ q : Nat, s.heap.size ≤ q → A q := fun q h => by rw [← hAe]; exact Or.inr h
  have hS : va_S A s.heap s.heap [] := va_S.rf
  have hl := lv_entry ([.ref h0]) (n := 1) (Nat.le_of_ble_eq_true rfl)
  rw [lg_entry_eq]
  generalize (lg_sl ([.ref h0]) ++ List.replicate (1 - (lg_sl ([.ref h0])).length) Slot.unset).toArray = ls at hl ⊢
  have hl : lv_has ls 1 [(0, .ref h0)] := hl
  refine lv_aload_n hx hb d_Sv_init_0 rfl (lv_at hl 0 rfl) ?_
  refine W.objInit hx hb hown (hts (.methodLink R_Sv 5 objectInit) ol_Sv) (hts (.instanceMethod objectInit) ob_1) (hts _ ob_2) rfl (by rw [hml]; exact hl.1) rfl d_Sv_init_1 (Nat.le_of_ble_eq_true rfl) (Nat.le_of_ble_eq_true rfl) ?_
  refine W.eq (g2 := F0 m 4 ls []) rfl ?_
  refine lv_aload_n hx hb d_Sv_init_4 rfl (lv_at hl 0 rfl) ?_
  refine lv_bipush (v := 16) hx hb d_Sv_init_5 (by decide) ?_
  refine va_newa (atype := .boolean) (ty := .boolean) (a0 := (16, .inl (fun _ => jI 0))) (N' := 16) hx hb (hts (.arrayClass .boolean) arr_boolean) rfl hK hP hD hS hA (fun _ => rfl) (by decide) (by decide) (by decide) (Nat.le_of_ble_eq_true rfl) (Nat.le_of_ble_eq_true rfl) d_Sv_init_7 (fun q1 c1 H hK hP hD hS => ?_)
  refine W.widen (k := 1) (n := 16) (Nat.le_refl _) (Nat.le_refl _) ?_
  have hP : va_P D classes [(h0, .inr (0, [.int 0, .null, .null, .null, .null, .null, .int 0, .int 0, .int 0, .null, .null, .null, .null, .null, .null, .null, .int 0, .int 0, .int 0, .int 0, .null, .int 0, .null])), (q1, .inl (c1, 16, .inl (fun _ : Nat => jI 0)))] H := hP
  have hD : va_D A [(h0, .inr (0, [.int 0, .null, .null, .null, .null, .null, .int 0, .int 0, .int 0, .null, .null, .null, .null, .null, .null, .null, .int 0, .int 0, .int 0, .int 0, .null, .int 0, .null])), (q1, .inl (c1, 16, .inl (fun _ : Nat => jI 0)))] := hD
  have hK : va_K D classes [(c1, .boolean)] s := hK
  refine va_putF (D := D) (ci := 0) (v := .ref q1) (ty := t_Sv 1) (C := R_Sv) (T := F_Sv) (N := 23) hx hb hts i_Sv t_Sv t_Sv_ok n_Sv hown hK hP hD hS 0 rfl rfl 1 (by decide) (hts _ (k_Sv 1 (by decide))) (fun _ h9 => h9) rfl hin rfl (t_Sv_ok 1 (by decide)) rfl rfl (Nat.le_of_ble_eq_true rfl) d_Sv_init_9 (fun H locs hP hD hS => ?_)
  have hP : va_P D classes [(h0, .inr (0, [.int 0, .ref q1, .null, .null, .null, .null, .int 0, .int 0, .int 0, .null, .null, .null, .null, .null, .null, .null, .int 0, .int 0, .int 0, .int 0, .null, .int 0, .null])), (q1, .inl (c1, 16, .inl (fun _ : Nat => jI 0)))] H := hP
  have hD : va_D A [(h0, .inr (0, [.int 0, .ref q1, .null, .null, .null, .null, .int 0, .int 0, .int 0, .null, .null, .null, .null, .null, .null, .null, .int 0, .int 0, .int 0, .int 0, .null, .int 0, .null])), (q1, .inl (c1, 16, .inl (fun _ : Nat => jI 0)))] := hD
  refine lv_aload_n hx hb d_Sv_init_12 rfl (lv_at hl 0 rfl) ?_
  refine lv_sipush (v := 9872) hx hb d_Sv_init_13 (by decide) ?_
  refine va_newa (atype := .int) (ty := .int) (a0 := (9872, .inl (fun _ => jI 0))) (N' := 9872) hx hb (hts (.arrayClass .int) arr_int) rfl hK hP hD hS hA (fun _ => rfl) (by decide) (by decide) (by decide) (Nat.le_of_ble_eq_true rfl) (Nat.le_of_ble_eq_true rfl) d_Sv_init_16 (fun q2 c2 H hK hP hD hS => ?_)
  refine W.widen (k := 2) (n := 9888) (Nat.le_refl _) (Nat.le_refl _) ?_
  have hP : va_P D classes [(h0, .inr (0, [.int 0, .ref q1, .null, .null, .null, .null, .int 0, .int 0, .int 0, .null, .null, .null, .null, .null, .null, .null, .int 0, .int 0, .int 0, .int 0, .null, .int 0, .null])), (q1, .inl (c1, 16, .inl (fun _ : Nat => jI 0))), (q2, .inl (c2, 9872, .inl (fun _ : Nat => jI 0)))] H := hP
  have hD : va_D A [(h0, .inr (0, [.int 0, .ref q1, .null, .null, .null, .null, .int 0, .int 0, .int 0, .null, .null, .null, .null, .null, .null, .null, .int 0, .int 0, .int 0, .int 0, .null, .int 0, .null])), (q1, .inl (c1, 16, .inl (fun _ : Nat => jI 0))), (q2, .inl (c2, 9872, .inl (fun _ : Nat => jI 0)))] := hD
  have hK : va_K D classes [(c1, .boolean), (c2, .int)] s := hK
  refine va_putF (D := D) (ci := 0) (v := .ref q2) (ty := t_Sv 2) (C := R_Sv) (T := F_Sv) (N := 23) hx hb hts i_Sv t_Sv t_Sv_ok n_Sv hown hK hP hD hS 0 rfl rfl 2 (by decide) (hts _ (k_Sv 2 (by decide))) (fun _ h9 => h9) rfl hin rfl (t_Sv_ok 2 (by decide)) rfl rfl (Nat.le_of_ble_eq_true rfl) d_Sv_init_18 (fun H locs hP hD hS => ?_)
  have hP : va_P D classes [(h0, .inr (0, [.int 0, .ref q1, .ref q2, .null, .null, .null, .int 0, .int 0, .int 0, .null, .null, .null, .null, .null, .null, .null, .int 0, .int 0, .int 0, .int 0, .null, .int 0, .null])), (q1, .inl (c1, 16, .inl (fun _ : Nat => jI 0))), (q2, .inl (c2, 9872, .inl (fun _ : Nat => jI 0)))] H := hP
  have hD : va_D A [(h0, .inr (0, [.int 0, .ref q1, .ref q2, .null, .null, .null, .int 0, .int 0, .int 0, .null, .null, .null, .null, .null, .null, .null, .int 0, .int 0, .int 0, .int 0, .null, .int 0, .null])), (q1, .inl (c1, 16, .inl (fun _ : Nat => jI 0))), (q2, .inl (c2, 9872, .inl (fun _ : Nat => jI 0)))] := hD
  refine lv_aload_n hx hb d_Sv_init_21 rfl (lv_at hl 0 rfl) ?_
  refine lv_sipush (v := 618) hx hb d_Sv_init_22 (by decide) ?_
  refine va_newa (atype := .int) (ty := .int) (a0 := (618, .inl (fun _ => jI 0))) (N' := 618) hx hb (hts (.arrayClass .int) arr_int) rfl hK hP hD hS hA (fun _ => rfl) (by decide) (by decide) (by decide) (Nat.le_of_ble_eq_true rfl) (Nat.le_of_ble_eq_true rfl) d_Sv_init_25 (fun q3 c3 H hK hP hD hS => ?_)
  refine W.widen (k := 3) (n := 10506) (Nat.le_refl _) (Nat.le_refl _) ?_
  have hP : va_P D classes [(h0, .inr (0, [.int 0, .ref q1, .ref q2, .null, .null, .null, .int 0, .int 0, .int 0, .null, .null, .null, .null, .null, .null, .null, .int 0, .int 0, .int 0, .int 0, .null, .int 0, .null])), (q1, .inl (c1, 16, .inl (fun _ : Nat => jI 0))), (q2, .inl (c2, 9872, .inl (fun _ : Nat => jI 0))), (q3, .inl (c3, 618, .inl (fun _ : Nat => jI 0)))] H := hP
  have hD : va_D A [(h0, .inr (0, [.int 0, .ref q1, .ref q2, .null, .null, .null, .int 0, .int 0, .int 0, .null, .null, .null, .null, .null, .null, .null, .int 0, .int 0, .int 0, .int 0, .null, .int 0, .null])), (q1, .inl (c1, 16, .inl (fun _ : Nat => jI 0))), (q2, .inl (c2, 9872, .inl (fun _ : Nat => jI 0))), (q3, .inl (c3, 618, .inl (fun _ : Nat => jI 0)))] := hD
  have hK : va_K D classes [(c1, .boolean), (c2, .int), (c3, .int)] s := hK
  refine va_putF (D := D) (ci := 0) (v := .ref q3) (ty := t_Sv 3) (C := R_Sv) (T := F_Sv) (N := 23) hx hb hts i_Sv t_Sv t_Sv_ok n_Sv hown hK hP hD hS 0 rfl rfl 3 (by decide) (hts _ (k_Sv 3 (by decide))) (fun _ h9 => h9) rfl hin rfl (t_Sv_ok 3 (by decide)) rfl rfl (Nat.le_of_ble_eq_true rfl) d_Sv_init_27 (fun H locs hP hD hS => ?_)
  have hP : va_P D classes [(h0, .inr (0, [.int 0, .ref q1, .ref q2, .ref q3, .null, .null, .int 0, .int 0, .int 0, .null, .null, .null, .null, .null, .null, .null, .int 0, .int 0, .int 0, .int 0, .null, .int 0, .null])), (q1, .inl (c1, 16, .inl (fun _ : Nat => jI 0))), (q2, .inl (c2, 9872, .inl (fun _ : Nat => jI 0))), (q3, .inl (c3, 618, .inl (fun _ : Nat => jI 0)))] H := hP
  have hD : va_D A [(h0, .inr (0, [.int 0, .ref q1, .ref q2, .ref q3, .null, .null, .int 0, .int 0, .int 0, .null, .null, .null, .null, .null, .null, .null, .int 0, .int 0, .int 0, .int 0, .null, .int 0, .null])), (q1, .inl (c1, 16, .inl (fun _ : Nat => jI 0))), (q2, .inl (c2, 9872, .inl (fun _ : Nat => jI 0))), (q3, .inl (c3, 618, .inl (fun _ : Nat => jI 0)))] := hD
  refine lv_aload_n hx hb d_Sv_init_30 rfl (lv_at hl 0 rfl) ?_
  refine lv_sipush (v := 1234) hx hb d_Sv_init_31 (by decide) ?_
  refine va_newa (atype := .int) (ty := .int) (a0 := (1234, .inl (fun _ => jI 0))) (N' := 1234) hx hb (hts (.arrayClass .int) arr_int) rfl hK hP hD hS hA (fun _ => rfl) (by decide) (by decide) (by decide) (Nat.le_of_ble_eq_true rfl) (Nat.le_of_ble_eq_true rfl) d_Sv_init_34 (fun q4 c4 H hK hP hD hS => ?_)
  refine W.widen (k := 4) (n := 11740) (Nat.le_refl _) (Nat.le_refl _) ?_
  have hP : va_P D classes [(h0, .inr (0, [.int 0, .ref q1, .ref q2, .ref q3, .null, .null, .int 0, .int 0, .int 0, .null, .null, .null, .null, .null, .null, .null, .int 0, .int 0, .int 0, .int 0, .null, .int 0, .null])), (q1, .inl (c1, 16, .inl (fun _ : Nat => jI 0))), (q2, .inl (c2, 9872, .inl (fun _ : Nat => jI 0))), (q3, .inl (c3, 618, .inl (fun _ : Nat => jI 0))), (q4, .inl (c4, 1234, .inl (fun _ : Nat => jI 0)))] H := hP
  have hD : va_D A [(h0, .inr (0, [.int 0, .ref q1, .ref q2, .ref q3, .null, .null, .int 0, .int 0, .int 0, .null, .null, .null, .null, .null, .null, .null, .int 0, .int 0, .int 0, .int 0, .null, .int 0, .null])), (q1, .inl (c1, 16, .inl (fun _ : Nat => jI 0))), (q2, .inl (c2, 9872, .inl (fun _ : Nat => jI 0))), (q3, .inl (c3, 618, .inl (fun _ : Nat => jI 0))), (q4, .inl (c4, 1234, .inl (fun _ : Nat => jI 0)))] := hD
  have hK : va_K D classes [(c1, .boolean), (c2, .int), (c3, .int), (c4, .int)] s := hK
  refine va_putF (D := D) (ci := 0) (v := .ref q4) (ty := t_Sv 4) (C := R_Sv) (T := F_Sv) (N := 23) hx hb hts i_Sv t_Sv t_Sv_ok n_Sv hown hK hP hD hS 0 rfl rfl 4 (by decide) (hts _ (k_Sv 4 (by decide))) (fun _ h9 => h9) rfl hin rfl (t_Sv_ok 4 (by decide)) rfl rfl (Nat.le_of_ble_eq_true rfl) d_Sv_init_36 (fun H locs hP hD hS => ?_)
  have hP : va_P D classes [(h0, .inr (0, [.int 0, .ref q1, .ref q2, .ref q3, .ref q4, .null, .int 0, .int 0, .int 0, .null, .null, .null, .null, .null, .null, .null, .int 0, .int 0, .int 0, .int 0, .null, .int 0, .null])), (q1, .inl (c1, 16, .inl (fun _ : Nat => jI 0))), (q2, .inl (c2, 9872, .inl (fun _ : Nat => jI 0))), (q3, .inl (c3, 618, .inl (fun _ : Nat => jI 0))), (q4, .inl (c4, 1234, .inl (fun _ : Nat => jI 0)))] H := hP
  have hD : va_D A [(h0, .inr (0, [.int 0, .ref q1, .ref q2, .ref q3, .ref q4, .null, .int 0, .int 0, .int 0, .null, .null, .null, .null, .null, .null, .null, .int 0, .int 0, .int 0, .int 0, .null, .int 0, .null])), (q1, .inl (c1, 16, .inl (fun _ : Nat => jI 0))), (q2, .inl (c2, 9872, .inl (fun _ : Nat => jI 0))), (q3, .inl (c3, 618, .inl (fun _ : Nat => jI 0))), (q4, .inl (c4, 1234, .inl (fun _ : Nat => jI 0)))] := hD
  refine lv_aload_n hx hb d_Sv_init_39 rfl (lv_at hl 0 rfl) ?_
  refine lv_sipush (v := 617) hx hb d_Sv_init_40 (by decide) ?_
  refine va_newa (atype := .boolean) (ty := .boolean) (a0 := (617, .inl (fun _ => jI 0))) (N' := 617) hx hb (hts (.arrayClass .boolean) arr_boolean) rfl hK hP hD hS hA (fun _ => rfl) (by decide) (by decide) (by decide) (Nat.le_of_ble_eq_true rfl) (Nat.le_of_ble_eq_true rfl) d_Sv_init_43 (fun q5 c5 H hK hP hD hS => ?_)
  refine W.widen (k := 5) (n := 12357) (Nat.le_refl _) (Nat.le_refl _) ?_
  have hP : va_P D classes [(h0, .inr (0, [.int 0, .ref q1, .ref q2, .ref q3, .ref q4, .null, .int 0, .int 0, .int 0, .null, .null, .null, .null, .null, .null, .null, .int 0, .int 0, .int 0, .int 0, .null, .int 0, .null])), (q1, .inl (c1, 16, .inl (fun _ : Nat => jI 0))), (q2, .inl (c2, 9872, .inl (fun _ : Nat => jI 0))), (q3, .inl (c3, 618, .inl (fun _ : Nat => jI 0))), (q4, .inl (c4, 1234, .inl (fun _ : Nat => jI 0))), (q5, .inl (c5, 617, .inl (fun _ : Nat => jI 0)))] H := hP
  have hD : va_D A [(h0, .inr (0, [.int 0, .ref q1, .ref q2, .ref q3, .ref q4, .null, .int 0, .int 0, .int 0, .null, .null, .null, .null, .null, .null, .null, .int 0, .int 0, .int 0, .int 0, .null, .int 0, .null])), (q1, .inl (c1, 16, .inl (fun _ : Nat => jI 0))), (q2, .inl (c2, 9872, .inl (fun _ : Nat => jI 0))), (q3, .inl (c3, 618, .inl (fun _ : Nat => jI 0))), (q4, .inl (c4, 1234, .inl (fun _ : Nat => jI 0))), (q5, .inl (c5, 617, .inl (fun _ : Nat => jI 0)))] := hD
  have hK : va_K D classes [(c1, .boolean), (c2, .int), (c3, .int), (c4, .int), (c5, .boolean)] s := hK
  refine va_putF (D := D) (ci := 0) (v := .ref q5) (ty := t_Sv 5) (C := R_Sv) (T := F_Sv) (N := 23) hx hb hts i_Sv t_Sv t_Sv_ok n_Sv hown hK hP hD hS 0 rfl rfl 5 (by decide) (hts _ (k_Sv 5 (by decide))) (fun _ h9 => h9) rfl hin rfl (t_Sv_ok 5 (by decide)) rfl rfl (Nat.le_of_ble_eq_true rfl) d_Sv_init_45 (fun H locs hP hD hS => ?_)
  have hP : va_P D classes [(h0, .inr (0, [.int 0, .ref q1, .ref q2, .ref q3, .ref q4, .ref q5, .int 0, .int 0, .int 0, .null, .null, .null, .null, .null, .null, .null, .int 0, .int 0, .int 0, .int 0, .null, .int 0, .null])), (q1, .inl (c1, 16, .inl (fun _ : Nat => jI 0))), (q2, .inl (c2, 9872, .inl (fun _ : Nat => jI 0))), (q3, .inl (c3, 618, .inl (fun _ : Nat => jI 0))), (q4, .inl (c4, 1234, .inl (fun _ : Nat => jI 0))), (q5, .inl (c5, 617, .inl (fun _ : Nat => jI 0)))] H := hP
  have hD : va_D A [(h0, .inr (0, [.int 0, .ref q1, .ref q2, .ref q3, .ref q4, .ref q5, .int 0, .int 0, .int 0, .null, .null, .null, .null, .null, .null, .null, .int 0, .int 0, .int 0, .int 0, .null, .int 0, .null])), (q1, .inl (c1, 16, .inl (fun _ : Nat => jI 0))), (q2, .inl (c2, 9872, .inl (fun _ : Nat => jI 0))), (q3, .inl (c3, 618, .inl (fun _ : Nat => jI 0))), (q4, .inl (c4, 1234, .inl (fun _ : Nat => jI 0))), (q5, .inl (c5, 617, .inl (fun _ : Nat => jI 0)))] := hD
  refine lv_aload_n hx hb d_Sv_init_48 rfl (lv_at hl 0 rfl) ?_
  refine lv_sipush (v := 617) hx hb d_Sv_init_49 (by decide) ?_
  refine va_newa (atype := .int) (ty := .int) (a0 := (617, .inl (fun _ => jI 0))) (N' := 617) hx hb (hts (.arrayClass .int) arr_int) rfl hK hP hD hS hA (fun _ => rfl) (by decide) (by decide) (by decide) (Nat.le_of_ble_eq_true rfl) (Nat.le_of_ble_eq_true rfl) d_Sv_init_52 (fun q9 c9 H hK hP hD hS => ?_)
  refine W.widen (k := 6) (n := 12974) (Nat.le_refl _) (Nat.le_refl _) ?_
  have hP : va_P D classes [(h0, .inr (0, [.int 0, .ref q1, .ref q2, .ref q3, .ref q4, .ref q5, .int 0, .int 0, .int 0, .null, .null, .null, .null, .null, .null, .null, .int 0, .int 0, .int 0, .int 0, .null, .int 0, .null])), (q1, .inl (c1, 16, .inl (fun _ : Nat => jI 0))), (q2, .inl (c2, 9872, .inl (fun _ : Nat => jI 0))), (q3, .inl (c3, 618, .inl (fun _ : Nat => jI 0))), (q4, .inl (c4, 1234, .inl (fun _ : Nat => jI 0))), (q5, .inl (c5, 617, .inl (fun _ : Nat => jI 0))), (q9, .inl (c9, 617, .inl (fun _ : Nat => jI 0)))] H := hP
  have hD : va_D A [(h0, .inr (0, [.int 0, .ref q1, .ref q2, .ref q3, .ref q4, .ref q5, .int 0, .int 0, .int 0, .null, .null, .null, .null, .null, .null, .null, .int 0, .int 0, .int 0, .int 0, .null, .int 0, .null])), (q1, .inl (c1, 16, .inl (fun _ : Nat => jI 0))), (q2, .inl (c2, 9872, .inl (fun _ : Nat => jI 0))), (q3, .inl (c3, 618, .inl (fun _ : Nat => jI 0))), (q4, .inl (c4, 1234, .inl (fun _ : Nat => jI 0))), (q5, .inl (c5, 617, .inl (fun _ : Nat => jI 0))), (q9, .inl (c9, 617, .inl (fun _ : Nat => jI 0)))] := hD
  have hK : va_K D classes [(c1, .boolean), (c2, .int), (c3, .int), (c4, .int), (c5, .boolean), (c9, .int)] s := hK
  refine va_putF (D := D) (ci := 0) (v := .ref q9) (ty := t_Sv 9) (C := R_Sv) (T := F_Sv) (N := 23) hx hb hts i_Sv t_Sv t_Sv_ok n_Sv hown hK hP hD hS 0 rfl rfl 9 (by decide) (hts _ (k_Sv 9 (by decide))) (fun _ h9 => h9) rfl hin rfl (t_Sv_ok 9 (by decide)) rfl rfl (Nat.le_of_ble_eq_true rfl) d_Sv_init_54 (fun H locs hP hD hS => ?_)
  have hP : va_P D classes [(h0, .inr (0, [.int 0, .ref q1, .ref q2, .ref q3, .ref q4, .ref q5, .int 0, .int 0, .int 0, .ref q9, .null, .null, .null, .null, .null, .null, .int 0, .int 0, .int 0, .int 0, .null, .int 0, .null])), (q1, .inl (c1, 16, .inl (fun _ : Nat => jI 0))), (q2, .inl (c2, 9872, .inl (fun _ : Nat => jI 0))), (q3, .inl (c3, 618, .inl (fun _ : Nat => jI 0))), (q4, .inl (c4, 1234, .inl (fun _ : Nat => jI 0))), (q5, .inl (c5, 617, .inl (fun _ : Nat => jI 0))), (q9, .inl (c9, 617, .inl (fun _ : Nat => jI 0)))] H := hP
  have hD : va_D A [(h0, .inr (0, [.int 0, .ref q1, .ref q2, .ref q3, .ref q4, .ref q5, .int 0, .int 0, .int 0, .ref q9, .null, .null, .null, .null, .null, .null, .int 0, .int 0, .int 0, .int 0, .null, .int 0, .null])), (q1, .inl (c1, 16, .inl (fun _ : Nat => jI 0))), (q2, .inl (c2, 9872, .inl (fun _ : Nat => jI 0))), (q3, .inl (c3, 618, .inl (fun _ : Nat => jI 0))), (q4, .inl (c4, 1234, .inl (fun _ : Nat => jI 0))), (q5, .inl (c5, 617, .inl (fun _ : Nat => jI 0))), (q9, .inl (c9, 617, .inl (fun _ : Nat => jI 0)))] := hD
  refine lv_aload_n hx hb d_Sv_init_57 rfl (lv_at hl 0 rfl) ?_
  refine lv_bipush (v := 32) hx hb d_Sv_init_58 (by decide) ?_
  refine va_newa (atype := .int) (ty := .int) (a0 := (32, .inl (fun _ => jI 0))) (N' := 32) hx hb (hts (.arrayClass .int) arr_int) rfl hK hP hD hS hA (fun _ => rfl) (by decide) (by decide) (by decide) (Nat.le_of_ble_eq_true rfl) (Nat.le_of_ble_eq_true rfl) d_Sv_init_60 (fun q10 c10 H hK hP hD hS => ?_)
  refine W.widen (k := 7) (n := 13006) (Nat.le_refl _) (Nat.le_refl _) ?_
  have hP : va_P D classes [(h0, .inr (0, [.int 0, .ref q1, .ref q2, .ref q3, .ref q4, .ref q5, .int 0, .int 0, .int 0, .ref q9, .null, .null, .null, .null, .null, .null, .int 0, .int 0, .int 0, .int 0, .null, .int 0, .null])), (q1, .inl (c1, 16, .inl (fun _ : Nat => jI 0))), (q2, .inl (c2, 9872, .inl (fun _ : Nat => jI 0))), (q3, .inl (c3, 618, .inl (fun _ : Nat => jI 0))), (q4, .inl (c4, 1234, .inl (fun _ : Nat => jI 0))), (q5, .inl (c5, 617, .inl (fun _ : Nat => jI 0))), (q9, .inl (c9, 617, .inl (fun _ : Nat => jI 0))), (q10, .inl (c10, 32, .inl (fun _ : Nat => jI 0)))] H := hP
  have hD : va_D A [(h0, .inr (0, [.int 0, .ref q1, .ref q2, .ref q3, .ref q4, .ref q5, .int 0, .int 0, .int 0, .ref q9, .null, .null, .null, .null, .null, .null, .int 0, .int 0, .int 0, .int 0, .null, .int 0, .null])), (q1, .inl (c1, 16, .inl (fun _ : Nat => jI 0))), (q2, .inl (c2, 9872, .inl (fun _ : Nat => jI 0))), (q3, .inl (c3, 618, .inl (fun _ : Nat => jI 0))), (q4, .inl (c4, 1234, .inl (fun _ : Nat => jI 0))), (q5, .inl (c5, 617, .inl (fun _ : Nat => jI 0))), (q9, .inl (c9, 617, .inl (fun _ : Nat => jI 0))), (q10, .inl (c10, 32, .inl (fun _ : Nat => jI 0)))] := hD
  have hK : va_K D classes [(c1, .boolean), (c2, .int), (c3, .int), (c4, .int), (c5, .boolean), (c9, .int), (c10, .int)] s := hK
  refine va_putF (D := D) (ci := 0) (v := .ref q10) (ty := t_Sv 10) (C := R_Sv) (T := F_Sv) (N := 23) hx hb hts i_Sv t_Sv t_Sv_ok n_Sv hown hK hP hD hS 0 rfl rfl 10 (by decide) (hts _ (k_Sv 10 (by decide))) (fun _ h9 => h9) rfl hin rfl (t_Sv_ok 10 (by decide)) rfl rfl (Nat.le_of_ble_eq_true rfl) d_Sv_init_62 (fun H locs hP hD hS => ?_)
  have hP : va_P D classes [(h0, .inr (0, [.int 0, .ref q1, .ref q2, .ref q3, .ref q4, .ref q5, .int 0, .int 0, .int 0, .ref q9, .ref q10, .null, .null, .null, .null, .null, .int 0, .int 0, .int 0, .int 0, .null, .int 0, .null])), (q1, .inl (c1, 16, .inl (fun _ : Nat => jI 0))), (q2, .inl (c2, 9872, .inl (fun _ : Nat => jI 0))), (q3, .inl (c3, 618, .inl (fun _ : Nat => jI 0))), (q4, .inl (c4, 1234, .inl (fun _ : Nat => jI 0))), (q5, .inl (c5, 617, .inl (fun _ : Nat => jI 0))), (q9, .inl (c9, 617, .inl (fun _ : Nat => jI 0))), (q10, .inl (c10, 32, .inl (fun _ : Nat => jI 0)))] H := hP
  have hD : va_D A [(h0, .inr (0, [.int 0, .ref q1, .ref q2, .ref q3, .ref q4, .ref q5, .int 0, .int 0, .int 0, .ref q9, .ref q10, .null, .null, .null, .null, .null, .int 0, .int 0, .int 0, .int 0, .null, .int 0, .null])), (q1, .inl (c1, 16, .inl (fun _ : Nat => jI 0))), (q2, .inl (c2, 9872, .inl (fun _ : Nat => jI 0))), (q3, .inl (c3, 618, .inl (fun _ : Nat => jI 0))), (q4, .inl (c4, 1234, .inl (fun _ : Nat => jI 0))), (q5, .inl (c5, 617, .inl (fun _ : Nat => jI 0))), (q9, .inl (c9, 617, .inl (fun _ : Nat => jI 0))), (q10, .inl (c10, 32, .inl (fun _ : Nat => jI 0)))] := hD
  refine lv_aload_n hx hb d_Sv_init_65 rfl (lv_at hl 0 rfl) ?_
  refine lv_bipush (v := 16) hx hb d_Sv_init_66 (by decide) ?_
  refine va_newa (atype := .int) (ty := .int) (a0 := (16, .inl (fun _ => jI 0))) (N' := 16) hx hb (hts (.arrayClass .int) arr_int) rfl hK hP hD hS hA (fun _ => rfl) (by decide) (by decide) (by decide) (Nat.le_of_ble_eq_true rfl) (Nat.le_of_ble_eq_true rfl) d_Sv_init_68 (fun q11 c11 H hK hP hD hS => ?_)
  refine W.widen (k := 8) (n := 13022) (Nat.le_refl _) (Nat.le_refl _) ?_
  have hP : va_P D classes [(h0, .inr (0, [.int 0, .ref q1, .ref q2, .ref q3, .ref q4, .ref q5, .int 0, .int 0, .int 0, .ref q9, .ref q10, .null, .null, .null, .null, .null, .int 0, .int 0, .int 0, .int 0, .null, .int 0, .null])), (q1, .inl (c1, 16, .inl (fun _ : Nat => jI 0))), (q2, .inl (c2, 9872, .inl (fun _ : Nat => jI 0))), (q3, .inl (c3, 618, .inl (fun _ : Nat => jI 0))), (q4, .inl (c4, 1234, .inl (fun _ : Nat => jI 0))), (q5, .inl (c5, 617, .inl (fun _ : Nat => jI 0))), (q9, .inl (c9, 617, .inl (fun _ : Nat => jI 0))), (q10, .inl (c10, 32, .inl (fun _ : Nat => jI 0))), (q11, .inl (c11, 16, .inl (fun _ : Nat => jI 0)))] H := hP
  have hD : va_D A [(h0, .inr (0, [.int 0, .ref q1, .ref q2, .ref q3, .ref q4, .ref q5, .int 0, .int 0, .int 0, .ref q9, .ref q10, .null, .null, .null, .null, .null, .int 0, .int 0, .int 0, .int 0, .null, .int 0, .null])), (q1, .inl (c1, 16, .inl (fun _ : Nat => jI 0))), (q2, .inl (c2, 9872, .inl (fun _ : Nat => jI 0))), (q3, .inl (c3, 618, .inl (fun _ : Nat => jI 0))), (q4, .inl (c4, 1234, .inl (fun _ : Nat => jI 0))), (q5, .inl (c5, 617, .inl (fun _ : Nat => jI 0))), (q9, .inl (c9, 617, .inl (fun _ : Nat => jI 0))), (q10, .inl (c10, 32, .inl (fun _ : Nat => jI 0))), (q11, .inl (c11, 16, .inl (fun _ : Nat => jI 0)))] := hD
  have hK : va_K D classes [(c1, .boolean), (c2, .int), (c3, .int), (c4, .int), (c5, .boolean), (c9, .int), (c10, .int), (c11, .int)] s := hK
  refine va_putF (D := D) (ci := 0) (v := .ref q11) (ty := t_Sv 11) (C := R_Sv) (T := F_Sv) (N := 23) hx hb hts i_Sv t_Sv t_Sv_ok n_Sv hown hK hP hD hS 0 rfl rfl 11 (by decide) (hts _ (k_Sv 11 (by decide))) (fun _ h9 => h9) rfl hin rfl (t_Sv_ok 11 (by decide)) rfl rfl (Nat.le_of_ble_eq_true rfl) d_Sv_init_70 (fun H locs hP hD hS => ?_)
  have hP : va_P D classes [(h0, .inr (0, [.int 0, .ref q1, .ref q2, .ref q3, .ref q4, .ref q5, .int 0, .int 0, .int 0, .ref q9, .ref q10, .ref q11, .null, .null, .null, .null, .int 0, .int 0, .int 0, .int 0, .null, .int 0, .null])), (q1, .inl (c1, 16, .inl (fun _ : Nat => jI 0))), (q2, .inl (c2, 9872, .inl (fun _ : Nat => jI 0))), (q3, .inl (c3, 618, .inl (fun _ : Nat => jI 0))), (q4, .inl (c4, 1234, .inl (fun _ : Nat => jI 0))), (q5, .inl (c5, 617, .inl (fun _ : Nat => jI 0))), (q9, .inl (c9, 617, .inl (fun _ : Nat => jI 0))), (q10, .inl (c10, 32, .inl (fun _ : Nat => jI 0))), (q11, .inl (c11, 16, .inl (fun _ : Nat => jI 0)))] H := hP
  have hD : va_D A [(h0, .inr (0, [.int 0, .ref q1, .ref q2, .ref q3, .ref q4, .ref q5, .int 0, .int 0, .int 0, .ref q9, .ref q10, .ref q11, .null, .null, .null, .null, .int 0, .int 0, .int 0, .int 0, .null, .int 0, .null])), (q1, .inl (c1, 16, .inl (fun _ : Nat => jI 0))), (q2, .inl (c2, 9872, .inl (fun _ : Nat => jI 0))), (q3, .inl (c3, 618, .inl (fun _ : Nat => jI 0))), (q4, .inl (c4, 1234, .inl (fun _ : Nat => jI 0))), (q5, .inl (c5, 617, .inl (fun _ : Nat => jI 0))), (q9, .inl (c9, 617, .inl (fun _ : Nat => jI 0))), (q10, .inl (c10, 32, .inl (fun _ : Nat => jI 0))), (q11, .inl (c11, 16, .inl (fun _ : Nat => jI 0)))] := hD
  refine lv_aload_n hx hb d_Sv_init_73 rfl (lv_at hl 0 rfl) ?_
  refine lv_bipush (v := 16) hx hb d_Sv_init_74 (by decide) ?_
  refine va_newa (atype := .int) (ty := .int) (a0 := (16, .inl (fun _ => jI 0))) (N' := 16) hx hb (hts (.arrayClass .int) arr_int) rfl hK hP hD hS hA (fun _ => rfl) (by decide) (by decide) (by decide) (Nat.le_of_ble_eq_true rfl) (Nat.le_of_ble_eq_true rfl) d_Sv_init_76 (fun q12 c12 H hK hP hD hS => ?_)
  refine W.widen (k := 9) (n := 13038) (Nat.le_refl _) (Nat.le_refl _) ?_
  have hP : va_P D classes [(h0, .inr (0, [.int 0, .ref q1, .ref q2, .ref q3, .ref q4, .ref q5, .int 0, .int 0, .int 0, .ref q9, .ref q10, .ref q11, .null, .null, .null, .null, .int 0, .int 0, .int 0, .int 0, .null, .int 0, .null])), (q1, .inl (c1, 16, .inl (fun _ : Nat => jI 0))), (q2, .inl (c2, 9872, .inl (fun _ : Nat => jI 0))), (q3, .inl (c3, 618, .inl (fun _ : Nat => jI 0))), (q4, .inl (c4, 1234, .inl (fun _ : Nat => jI 0))), (q5, .inl (c5, 617, .inl (fun _ : Nat => jI 0))), (q9, .inl (c9, 617, .inl (fun _ : Nat => jI 0))), (q10, .inl (c10, 32, .inl (fun _ : Nat => jI 0))), (q11, .inl (c11, 16, .inl (fun _ : Nat => jI 0))), (q12, .inl (c12, 16, .inl (fun _ : Nat => jI 0)))] H := hP
  have hD : va_D A [(h0, .inr (0, [.int 0, .ref q1, .ref q2, .ref q3, .ref q4, .ref q5, .int 0, .int 0, .int 0, .ref q9, .ref q10, .ref q11, .null, .null, .null, .null, .int 0, .int 0, .int 0, .int 0, .null, .int 0, .null])), (q1, .inl (c1, 16, .inl (fun _ : Nat => jI 0))), (q2, .inl (c2, 9872, .inl (fun _ : Nat => jI 0))), (q3, .inl (c3, 618, .inl (fun _ : Nat => jI 0))), (q4, .inl (c4, 1234, .inl (fun _ : Nat => jI 0))), (q5, .inl (c5, 617, .inl (fun _ : Nat => jI 0))), (q9, .inl (c9, 617, .inl (fun _ : Nat => jI 0))), (q10, .inl (c10, 32, .inl (fun _ : Nat => jI 0))), (q11, .inl (c11, 16, .inl (fun _ : Nat => jI 0))), (q12, .inl (c12, 16, .inl (fun _ : Nat => jI 0)))] := hD
  have hK : va_K D classes [(c1, .boolean), (c2, .int), (c3, .int), (c4, .int), (c5, .boolean), (c9, .int), (c10, .int), (c11, .int), (c12, .int)] s := hK
  refine va_putF (D := D) (ci := 0) (v := .ref q12) (ty := t_Sv 12) (C := R_Sv) (T := F_Sv) (N := 23) hx hb hts i_Sv t_Sv t_Sv_ok n_Sv hown hK hP hD hS 0 rfl rfl 12 (by decide) (hts _ (k_Sv 12 (by decide))) (fun _ h9 => h9) rfl hin rfl (t_Sv_ok 12 (by decide)) rfl rfl (Nat.le_of_ble_eq_true rfl) d_Sv_init_78 (fun H locs hP hD hS => ?_)
  have hP : va_P D classes [(h0, .inr (0, [.int 0, .ref q1, .ref q2, .ref q3, .ref q4, .ref q5, .int 0, .int 0, .int 0, .ref q9, .ref q10, .ref q11, .ref q12, .null, .null, .null, .int 0, .int 0, .int 0, .int 0, .null, .int 0, .null])), (q1, .inl (c1, 16, .inl (fun _ : Nat => jI 0))), (q2, .inl (c2, 9872, .inl (fun _ : Nat => jI 0))), (q3, .inl (c3, 618, .inl (fun _ : Nat => jI 0))), (q4, .inl (c4, 1234, .inl (fun _ : Nat => jI 0))), (q5, .inl (c5, 617, .inl (fun _ : Nat => jI 0))), (q9, .inl (c9, 617, .inl (fun _ : Nat => jI 0))), (q10, .inl (c10, 32, .inl (fun _ : Nat => jI 0))), (q11, .inl (c11, 16, .inl (fun _ : Nat => jI 0))), (q12, .inl (c12, 16, .inl (fun _ : Nat => jI 0)))] H := hP
  have hD : va_D A [(h0, .inr (0, [.int 0, .ref q1, .ref q2, .ref q3, .ref q4, .ref q5, .int 0, .int 0, .int 0, .ref q9, .ref q10, .ref q11, .ref q12, .null, .null, .null, .int 0, .int 0, .int 0, .int 0, .null, .int 0, .null])), (q1, .inl (c1, 16, .inl (fun _ : Nat => jI 0))), (q2, .inl (c2, 9872, .inl (fun _ : Nat => jI 0))), (q3, .inl (c3, 618, .inl (fun _ : Nat => jI 0))), (q4, .inl (c4, 1234, .inl (fun _ : Nat => jI 0))), (q5, .inl (c5, 617, .inl (fun _ : Nat => jI 0))), (q9, .inl (c9, 617, .inl (fun _ : Nat => jI 0))), (q10, .inl (c10, 32, .inl (fun _ : Nat => jI 0))), (q11, .inl (c11, 16, .inl (fun _ : Nat => jI 0))), (q12, .inl (c12, 16, .inl (fun _ : Nat => jI 0)))] := hD
  refine lv_aload_n hx hb d_Sv_init_81 rfl (lv_at hl 0 rfl) ?_
  refine lv_bipush (v := 16) hx hb d_Sv_init_82 (by decide) ?_
  refine va_newa (atype := .int) (ty := .int) (a0 := (16, .inl (fun _ => jI 0))) (N' := 16) hx hb (hts (.arrayClass .int) arr_int) rfl hK hP hD hS hA (fun _ => rfl) (by decide) (by decide) (by decide) (Nat.le_of_ble_eq_true rfl) (Nat.le_of_ble_eq_true rfl) d_Sv_init_84 (fun q13 c13 H hK hP hD hS => ?_)
  refine W.widen (k := 10) (n := 13054) (Nat.le_refl _) (Nat.le_refl _) ?_
  have hP : va_P D classes [(h0, .inr (0, [.int 0, .ref q1, .ref q2, .ref q3, .ref q4, .ref q5, .int 0, .int 0, .int 0, .ref q9, .ref q10, .ref q11, .ref q12, .null, .null, .null, .int 0, .int 0, .int 0, .int 0, .null, .int 0, .null])), (q1, .inl (c1, 16, .inl (fun _ : Nat => jI 0))), (q2, .inl (c2, 9872, .inl (fun _ : Nat => jI 0))), (q3, .inl (c3, 618, .inl (fun _ : Nat => jI 0))), (q4, .inl (c4, 1234, .inl (fun _ : Nat => jI 0))), (q5, .inl (c5, 617, .inl (fun _ : Nat => jI 0))), (q9, .inl (c9, 617, .inl (fun _ : Nat => jI 0))), (q10, .inl (c10, 32, .inl (fun _ : Nat => jI 0))), (q11, .inl (c11, 16, .inl (fun _ : Nat => jI 0))), (q12, .inl (c12, 16, .inl (fun _ : Nat => jI 0))), (q13, .inl (c13, 16, .inl (fun _ : Nat => jI 0)))] H := hP
  have hD : va_D A [(h0, .inr (0, [.int 0, .ref q1, .ref q2, .ref q3, .ref q4, .ref q5, .int 0, .int 0, .int 0, .ref q9, .ref q10, .ref q11, .ref q12, .null, .null, .null, .int 0, .int 0, .int 0, .int 0, .null, .int 0, .null])), (q1, .inl (c1, 16, .inl (fun _ : Nat => jI 0))), (q2, .inl (c2, 9872, .inl (fun _ : Nat => jI 0))), (q3, .inl (c3, 618, .inl (fun _ : Nat => jI 0))), (q4, .inl (c4, 1234, .inl (fun _ : Nat => jI 0))), (q5, .inl (c5, 617, .inl (fun _ : Nat => jI 0))), (q9, .inl (c9, 617, .inl (fun _ : Nat => jI 0))), (q10, .inl (c10, 32, .inl (fun _ : Nat => jI 0))), (q11, .inl (c11, 16, .inl (fun _ : Nat => jI 0))), (q12, .inl (c12, 16, .inl (fun _ : Nat => jI 0))), (q13, .inl (c13, 16, .inl (fun _ : Nat => jI 0)))] := hD
  have hK : va_K D classes [(c1, .boolean), (c2, .int), (c3, .int), (c4, .int), (c5, .boolean), (c9, .int), (c10, .int), (c11, .int), (c12, .int), (c13, .int)] s := hK
  refine va_putF (D := D) (ci := 0) (v := .ref q13) (ty := t_Sv 13) (C := R_Sv) (T := F_Sv) (N := 23) hx hb hts i_Sv t_Sv t_Sv_ok n_Sv hown hK hP hD hS 0 rfl rfl 13 (by decide) (hts _ (k_Sv 13 (by decide))) (fun _ h9 => h9) rfl hin rfl (t_Sv_ok 13 (by decide)) rfl rfl (Nat.le_of_ble_eq_true rfl) d_Sv_init_86 (fun H locs hP hD hS => ?_)
  have hP : va_P D classes [(h0, .inr (0, [.int 0, .ref q1, .ref q2, .ref q3, .ref q4, .ref q5, .int 0, .int 0, .int 0, .ref q9, .ref q10, .ref q11, .ref q12, .ref q13, .null, .null, .int 0, .int 0, .int 0, .int 0, .null, .int 0, .null])), (q1, .inl (c1, 16, .inl (fun _ : Nat => jI 0))), (q2, .inl (c2, 9872, .inl (fun _ : Nat => jI 0))), (q3, .inl (c3, 618, .inl (fun _ : Nat => jI 0))), (q4, .inl (c4, 1234, .inl (fun _ : Nat => jI 0))), (q5, .inl (c5, 617, .inl (fun _ : Nat => jI 0))), (q9, .inl (c9, 617, .inl (fun _ : Nat => jI 0))), (q10, .inl (c10, 32, .inl (fun _ : Nat => jI 0))), (q11, .inl (c11, 16, .inl (fun _ : Nat => jI 0))), (q12, .inl (c12, 16, .inl (fun _ : Nat => jI 0))), (q13, .inl (c13, 16, .inl (fun _ : Nat => jI 0)))] H := hP
  have hD : va_D A [(h0, .inr (0, [.int 0, .ref q1, .ref q2, .ref q3, .ref q4, .ref q5, .int 0, .int 0, .int 0, .ref q9, .ref q10, .ref q11, .ref q12, .ref q13, .null, .null, .int 0, .int 0, .int 0, .int 0, .null, .int 0, .null])), (q1, .inl (c1, 16, .inl (fun _ : Nat => jI 0))), (q2, .inl (c2, 9872, .inl (fun _ : Nat => jI 0))), (q3, .inl (c3, 618, .inl (fun _ : Nat => jI 0))), (q4, .inl (c4, 1234, .inl (fun _ : Nat => jI 0))), (q5, .inl (c5, 617, .inl (fun _ : Nat => jI 0))), (q9, .inl (c9, 617, .inl (fun _ : Nat => jI 0))), (q10, .inl (c10, 32, .inl (fun _ : Nat => jI 0))), (q11, .inl (c11, 16, .inl (fun _ : Nat => jI 0))), (q12, .inl (c12, 16, .inl (fun _ : Nat => jI 0))), (q13, .inl (c13, 16, .inl (fun _ : Nat => jI 0)))] := hD
  refine lv_aload_n hx hb d_Sv_init_89 rfl (lv_at hl 0 rfl) ?_
  refine lv_bipush (v := 16) hx hb d_Sv_init_90 (by decide) ?_
  refine va_newa (atype := .int) (ty := .int) (a0 := (16, .inl (fun _ => jI 0))) (N' := 16) hx hb (hts (.arrayClass .int) arr_int) rfl hK hP hD hS hA (fun _ => rfl) (by decide) (by decide) (by decide) (Nat.le_of_ble_eq_true rfl) (Nat.le_of_ble_eq_true rfl) d_Sv_init_92 (fun q14 c14 H hK hP hD hS => ?_)
  refine W.widen (k := 11) (n := 13070) (Nat.le_refl _) (Nat.le_refl _) ?_
  have hP : va_P D classes [(h0, .inr (0, [.int 0, .ref q1, .ref q2, .ref q3, .ref q4, .ref q5, .int 0, .int 0, .int 0, .ref q9, .ref q10, .ref q11, .ref q12, .ref q13, .null, .null, .int 0, .int 0, .int 0, .int 0, .null, .int 0, .null])), (q1, .inl (c1, 16, .inl (fun _ : Nat => jI 0))), (q2, .inl (c2, 9872, .inl (fun _ : Nat => jI 0))), (q3, .inl (c3, 618, .inl (fun _ : Nat => jI 0))), (q4, .inl (c4, 1234, .inl (fun _ : Nat => jI 0))), (q5, .inl (c5, 617, .inl (fun _ : Nat => jI 0))), (q9, .inl (c9, 617, .inl (fun _ : Nat => jI 0))), (q10, .inl (c10, 32, .inl (fun _ : Nat => jI 0))), (q11, .inl (c11, 16, .inl (fun _ : Nat => jI 0))), (q12, .inl (c12, 16, .inl (fun _ : Nat => jI 0))), (q13, .inl (c13, 16, .inl (fun _ : Nat => jI 0))), (q14, .inl (c14, 16, .inl (fun _ : Nat => jI 0)))] H := hP
  have hD : va_D A [(h0, .inr (0, [.int 0, .ref q1, .ref q2, .ref q3, .ref q4, .ref q5, .int 0, .int 0, .int 0, .ref q9, .ref q10, .ref q11, .ref q12, .ref q13, .null, .null, .int 0, .int 0, .int 0, .int 0, .null, .int 0, .null])), (q1, .inl (c1, 16, .inl (fun _ : Nat => jI 0))), (q2, .inl (c2, 9872, .inl (fun _ : Nat => jI 0))), (q3, .inl (c3, 618, .inl (fun _ : Nat => jI 0))), (q4, .inl (c4, 1234, .inl (fun _ : Nat => jI 0))), (q5, .inl (c5, 617, .inl (fun _ : Nat => jI 0))), (q9, .inl (c9, 617, .inl (fun _ : Nat => jI 0))), (q10, .inl (c10, 32, .inl (fun _ : Nat => jI 0))), (q11, .inl (c11, 16, .inl (fun _ : Nat => jI 0))), (q12, .inl (c12, 16, .inl (fun _ : Nat => jI 0))), (q13, .inl (c13, 16, .inl (fun _ : Nat => jI 0))), (q14, .inl (c14, 16, .inl (fun _ : Nat => jI 0)))] := hD
  have hK : va_K D classes [(c1, .boolean), (c2, .int), (c3, .int), (c4, .int), (c5, .boolean), (c9, .int), (c10, .int), (c11, .int), (c12, .int), (c13, .int), (c14, .int)] s := hK
  refine va_putF (D := D) (ci := 0) (v := .ref q14) (ty := t_Sv 14) (C := R_Sv) (T := F_Sv) (N := 23) hx hb hts i_Sv t_Sv t_Sv_ok n_Sv hown hK hP hD hS 0 rfl rfl 14 (by decide) (hts _ (k_Sv 14 (by decide))) (fun _ h9 => h9) rfl hin rfl (t_Sv_ok 14 (by decide)) rfl rfl (Nat.le_of_ble_eq_true rfl) d_Sv_init_94 (fun H locs hP hD hS => ?_)
  have hP : va_P D classes [(h0, .inr (0, [.int 0, .ref q1, .ref q2, .ref q3, .ref q4, .ref q5, .int 0, .int 0, .int 0, .ref q9, .ref q10, .ref q11, .ref q12, .ref q13, .ref q14, .null, .int 0, .int 0, .int 0, .int 0, .null, .int 0, .null])), (q1, .inl (c1, 16, .inl (fun _ : Nat => jI 0))), (q2, .inl (c2, 9872, .inl (fun _ : Nat => jI 0))), (q3, .inl (c3, 618, .inl (fun _ : Nat => jI 0))), (q4, .inl (c4, 1234, .inl (fun _ : Nat => jI 0))), (q5, .inl (c5, 617, .inl (fun _ : Nat => jI 0))), (q9, .inl (c9, 617, .inl (fun _ : Nat => jI 0))), (q10, .inl (c10, 32, .inl (fun _ : Nat => jI 0))), (q11, .inl (c11, 16, .inl (fun _ : Nat => jI 0))), (q12, .inl (c12, 16, .inl (fun _ : Nat => jI 0))), (q13, .inl (c13, 16, .inl (fun _ : Nat => jI 0))), (q14, .inl (c14, 16, .inl (fun _ : Nat => jI 0)))] H := hP
  have hD : va_D A [(h0, .inr (0, [.int 0, .ref q1, .ref q2, .ref q3, .ref q4, .ref q5, .int 0, .int 0, .int 0, .ref q9, .ref q10, .ref q11, .ref q12, .ref q13, .ref q14, .null, .int 0, .int 0, .int 0, .int 0, .null, .int 0, .null])), (q1, .inl (c1, 16, .inl (fun _ : Nat => jI 0))), (q2, .inl (c2, 9872, .inl (fun _ : Nat => jI 0))), (q3, .inl (c3, 618, .inl (fun _ : Nat => jI 0))), (q4, .inl (c4, 1234, .inl (fun _ : Nat => jI 0))), (q5, .inl (c5, 617, .inl (fun _ : Nat => jI 0))), (q9, .inl (c9, 617, .inl (fun _ : Nat => jI 0))), (q10, .inl (c10, 32, .inl (fun _ : Nat => jI 0))), (q11, .inl (c11, 16, .inl (fun _ : Nat => jI 0))), (q12, .inl (c12, 16, .inl (fun _ : Nat => jI 0))), (q13, .inl (c13, 16, .inl (fun _ : Nat => jI 0))), (q14, .inl (c14, 16, .inl (fun _ : Nat => jI 0)))] := hD
  refine lv_aload_n hx hb d_Sv_init_97 rfl (lv_at hl 0 rfl) ?_
  refine lv_bipush (v := 17) hx hb d_Sv_init_98 (by decide) ?_
  refine va_newa (atype := .int) (ty := .int) (a0 := (17, .inl (fun _ => jI 0))) (N' := 17) hx hb (hts (.arrayClass .int) arr_int) rfl hK hP hD hS hA (fun _ => rfl) (by decide) (by decide) (by decide) (Nat.le_of_ble_eq_true rfl) (Nat.le_of_ble_eq_true rfl) d_Sv_init_100 (fun q15 c15 H hK hP hD hS => ?_)
  refine W.widen (k := 12) (n := 13087) (Nat.le_refl _) (Nat.le_refl _) ?_
  have hP : va_P D classes [(h0, .inr (0, [.int 0, .ref q1, .ref q2, .ref q3, .ref q4, .ref q5, .int 0, .int 0, .int 0, .ref q9, .ref q10, .ref q11, .ref q12, .ref q13, .ref q14, .null, .int 0, .int 0, .int 0, .int 0, .null, .int 0, .null])), (q1, .inl (c1, 16, .inl (fun _ : Nat => jI 0))), (q2, .inl (c2, 9872, .inl (fun _ : Nat => jI 0))), (q3, .inl (c3, 618, .inl (fun _ : Nat => jI 0))), (q4, .inl (c4, 1234, .inl (fun _ : Nat => jI 0))), (q5, .inl (c5, 617, .inl (fun _ : Nat => jI 0))), (q9, .inl (c9, 617, .inl (fun _ : Nat => jI 0))), (q10, .inl (c10, 32, .inl (fun _ : Nat => jI 0))), (q11, .inl (c11, 16, .inl (fun _ : Nat => jI 0))), (q12, .inl (c12, 16, .inl (fun _ : Nat => jI 0))), (q13, .inl (c13, 16, .inl (fun _ : Nat => jI 0))), (q14, .inl (c14, 16, .inl (fun _ : Nat => jI 0))), (q15, .inl (c15, 17, .inl (fun _ : Nat => jI 0)))] H := hP
  have hD : va_D A [(h0, .inr (0, [.int 0, .ref q1, .ref q2, .ref q3, .ref q4, .ref q5, .int 0, .int 0, .int 0, .ref q9, .ref q10, .ref q11, .ref q12, .ref q13, .ref q14, .null, .int 0, .int 0, .int 0, .int 0, .null, .int 0, .null])), (q1, .inl (c1, 16, .inl (fun _ : Nat => jI 0))), (q2, .inl (c2, 9872, .inl (fun _ : Nat => jI 0))), (q3, .inl (c3, 618, .inl (fun _ : Nat => jI 0))), (q4, .inl (c4, 1234, .inl (fun _ : Nat => jI 0))), (q5, .inl (c5, 617, .inl (fun _ : Nat => jI 0))), (q9, .inl (c9, 617, .inl (fun _ : Nat => jI 0))), (q10, .inl (c10, 32, .inl (fun _ : Nat => jI 0))), (q11, .inl (c11, 16, .inl (fun _ : Nat => jI 0))), (q12, .inl (c12, 16, .inl (fun _ : Nat => jI 0))), (q13, .inl (c13, 16, .inl (fun _ : Nat => jI 0))), (q14, .inl (c14, 16, .inl (fun _ : Nat => jI 0))), (q15, .inl (c15, 17, .inl (fun _ : Nat => jI 0)))] := hD
  have hK : va_K D classes [(c1, .boolean), (c2, .int), (c3, .int), (c4, .int), (c5, .boolean), (c9, .int), (c10, .int), (c11, .int), (c12, .int), (c13, .int), (c14, .int), (c15, .int)] s := hK
  refine va_putF (D := D) (ci := 0) (v := .ref q15) (ty := t_Sv 15) (C := R_Sv) (T := F_Sv) (N := 23) hx hb hts i_Sv t_Sv t_Sv_ok n_Sv hown hK hP hD hS 0 rfl rfl 15 (by decide) (hts _ (k_Sv 15 (by decide))) (fun _ h9 => h9) rfl hin rfl (t_Sv_ok 15 (by decide)) rfl rfl (Nat.le_of_ble_eq_true rfl) d_Sv_init_102 (fun H locs hP hD hS => ?_)
  have hP : va_P D classes [(h0, .inr (0, [.int 0, .ref q1, .ref q2, .ref q3, .ref q4, .ref q5, .int 0, .int 0, .int 0, .ref q9, .ref q10, .ref q11, .ref q12, .ref q13, .ref q14, .ref q15, .int 0, .int 0, .int 0, .int 0, .null, .int 0, .null])), (q1, .inl (c1, 16, .inl (fun _ : Nat => jI 0))), (q2, .inl (c2, 9872, .inl (fun _ : Nat => jI 0))), (q3, .inl (c3, 618, .inl (fun _ : Nat => jI 0))), (q4, .inl (c4, 1234, .inl (fun _ : Nat => jI 0))), (q5, .inl (c5, 617, .inl (fun _ : Nat => jI 0))), (q9, .inl (c9, 617, .inl (fun _ : Nat => jI 0))), (q10, .inl (c10, 32, .inl (fun _ : Nat => jI 0))), (q11, .inl (c11, 16, .inl (fun _ : Nat => jI 0))), (q12, .inl (c12, 16, .inl (fun _ : Nat => jI 0))), (q13, .inl (c13, 16, .inl (fun _ : Nat => jI 0))), (q14, .inl (c14, 16, .inl (fun _ : Nat => jI 0))), (q15, .inl (c15, 17, .inl (fun _ : Nat => jI 0)))] H := hP
  have hD : va_D A [(h0, .inr (0, [.int 0, .ref q1, .ref q2, .ref q3, .ref q4, .ref q5, .int 0, .int 0, .int 0, .ref q9, .ref q10, .ref q11, .ref q12, .ref q13, .ref q14, .ref q15, .int 0, .int 0, .int 0, .int 0, .null, .int 0, .null])), (q1, .inl (c1, 16, .inl (fun _ : Nat => jI 0))), (q2, .inl (c2, 9872, .inl (fun _ : Nat => jI 0))), (q3, .inl (c3, 618, .inl (fun _ : Nat => jI 0))), (q4, .inl (c4, 1234, .inl (fun _ : Nat => jI 0))), (q5, .inl (c5, 617, .inl (fun _ : Nat => jI 0))), (q9, .inl (c9, 617, .inl (fun _ : Nat => jI 0))), (q10, .inl (c10, 32, .inl (fun _ : Nat => jI 0))), (q11, .inl (c11, 16, .inl (fun _ : Nat => jI 0))), (q12, .inl (c12, 16, .inl (fun _ : Nat => jI 0))), (q13, .inl (c13, 16, .inl (fun _ : Nat => jI 0))), (q14, .inl (c14, 16, .inl (fun _ : Nat => jI 0))), (q15, .inl (c15, 17, .inl (fun _ : Nat => jI 0)))] := hD
  refine lv_aload_n hx hb d_Sv_init_105 rfl (lv_at hl 0 rfl) ?_
  refine lv_bipush (v := 32) hx hb d_Sv_init_106 (by decide) ?_
  refine va_newa (atype := .int) (ty := .int) (a0 := (32, .inl (fun _ => jI 0))) (N' := 32) hx hb (hts (.arrayClass .int) arr_int) rfl hK hP hD hS hA (fun _ => rfl) (by decide) (by decide) (by decide) (Nat.le_of_ble_eq_true rfl) (Nat.le_of_ble_eq_true rfl) d_Sv_init_108 (fun q20 c20 H hK hP hD hS => ?_)
  refine W.widen (k := 13) (n := 13119) (Nat.le_refl _) (Nat.le_refl _) ?_
  have hP : va_P D classes [(h0, .inr (0, [.int 0, .ref q1, .ref q2, .ref q3, .ref q4, .ref q5, .int 0, .int 0, .int 0, .ref q9, .ref q10, .ref q11, .ref q12, .ref q13, .ref q14, .ref q15, .int 0, .int 0, .int 0, .int 0, .null, .int 0, .null])), (q1, .inl (c1, 16, .inl (fun _ : Nat => jI 0))), (q2, .inl (c2, 9872, .inl (fun _ : Nat => jI 0))), (q3, .inl (c3, 618, .inl (fun _ : Nat => jI 0))), (q4, .inl (c4, 1234, .inl (fun _ : Nat => jI 0))), (q5, .inl (c5, 617, .inl (fun _ : Nat => jI 0))), (q9, .inl (c9, 617, .inl (fun _ : Nat => jI 0))), (q10, .inl (c10, 32, .inl (fun _ : Nat => jI 0))), (q11, .inl (c11, 16, .inl (fun _ : Nat => jI 0))), (q12, .inl (c12, 16, .inl (fun _ : Nat => jI 0))), (q13, .inl (c13, 16, .inl (fun _ : Nat => jI 0))), (q14, .inl (c14, 16, .inl (fun _ : Nat => jI 0))), (q15, .inl (c15, 17, .inl (fun _ : Nat => jI 0))), (q20, .inl (c20, 32, .inl (fun _ : Nat => jI 0)))] H := hP
  have hD : va_D A [(h0, .inr (0, [.int 0, .ref q1, .ref q2, .ref q3, .ref q4, .ref q5, .int 0, .int 0, .int 0, .ref q9, .ref q10, .ref q11, .ref q12, .ref q13, .ref q14, .ref q15, .int 0, .int 0, .int 0, .int 0, .null, .int 0, .null])), (q1, .inl (c1, 16, .inl (fun _ : Nat => jI 0))), (q2, .inl (c2, 9872, .inl (fun _ : Nat => jI 0))), (q3, .inl (c3, 618, .inl (fun _ : Nat => jI 0))), (q4, .inl (c4, 1234, .inl (fun _ : Nat => jI 0))), (q5, .inl (c5, 617, .inl (fun _ : Nat => jI 0))), (q9, .inl (c9, 617, .inl (fun _ : Nat => jI 0))), (q10, .inl (c10, 32, .inl (fun _ : Nat => jI 0))), (q11, .inl (c11, 16, .inl (fun _ : Nat => jI 0))), (q12, .inl (c12, 16, .inl (fun _ : Nat => jI 0))), (q13, .inl (c13, 16, .inl (fun _ : Nat => jI 0))), (q14, .inl (c14, 16, .inl (fun _ : Nat => jI 0))), (q15, .inl (c15, 17, .inl (fun _ : Nat => jI 0))), (q20, .inl (c20, 32, .inl (fun _ : Nat => jI 0)))] := hD
  have hK : va_K D classes [(c1, .boolean), (c2, .int), (c3, .int), (c4, .int), (c5, .boolean), (c9, .int), (c10, .int), (c11, .int), (c12, .int), (c13, .int), (c14, .int), (c15, .int), (c20, .int)] s := hK
  refine va_putF (D := D) (ci := 0) (v := .ref q20) (ty := t_Sv 20) (C := R_Sv) (T := F_Sv) (N := 23) hx hb hts i_Sv t_Sv t_Sv_ok n_Sv hown hK hP hD hS 0 rfl rfl 20 (by decide) (hts _ (k_Sv 20 (by decide))) (fun _ h9 => h9) rfl hin rfl (t_Sv_ok 20 (by decide)) rfl rfl (Nat.le_of_ble_eq_true rfl) d_Sv_init_110 (fun H locs hP hD hS => ?_)
  have hP : va_P D classes [(h0, .inr (0, [.int 0, .ref q1, .ref q2, .ref q3, .ref q4, .ref q5, .int 0, .int 0, .int 0, .ref q9, .ref q10, .ref q11, .ref q12, .ref q13, .ref q14, .ref q15, .int 0, .int 0, .int 0, .int 0, .ref q20, .int 0, .null])), (q1, .inl (c1, 16, .inl (fun _ : Nat => jI 0))), (q2, .inl (c2, 9872, .inl (fun _ : Nat => jI 0))), (q3, .inl (c3, 618, .inl (fun _ : Nat => jI 0))), (q4, .inl (c4, 1234, .inl (fun _ : Nat => jI 0))), (q5, .inl (c5, 617, .inl (fun _ : Nat => jI 0))), (q9, .inl (c9, 617, .inl (fun _ : Nat => jI 0))), (q10, .inl (c10, 32, .inl (fun _ : Nat => jI 0))), (q11, .inl (c11, 16, .inl (fun _ : Nat => jI 0))), (q12, .inl (c12, 16, .inl (fun _ : Nat => jI 0))), (q13, .inl (c13, 16, .inl (fun _ : Nat => jI 0))), (q14, .inl (c14, 16, .inl (fun _ : Nat => jI 0))), (q15, .inl (c15, 17, .inl (fun _ : Nat => jI 0))), (q20, .inl (c20, 32, .inl (fun _ : Nat => jI 0)))] H := hP
  have hD : va_D A [(h0, .inr (0, [.int 0, .ref q1, .ref q2, .ref q3, .ref q4, .ref q5, .int 0, .int 0, .int 0, .ref q9, .ref q10, .ref q11, .ref q12, .ref q13, .ref q14, .ref q15, .int 0, .int 0, .int 0, .int 0, .ref q20, .int 0, .null])), (q1, .inl (c1, 16, .inl (fun _ : Nat => jI 0))), (q2, .inl (c2, 9872, .inl (fun _ : Nat => jI 0))), (q3, .inl (c3, 618, .inl (fun _ : Nat => jI 0))), (q4, .inl (c4, 1234, .inl (fun _ : Nat => jI 0))), (q5, .inl (c5, 617, .inl (fun _ : Nat => jI 0))), (q9, .inl (c9, 617, .inl (fun _ : Nat => jI 0))), (q10, .inl (c10, 32, .inl (fun _ : Nat => jI 0))), (q11, .inl (c11, 16, .inl (fun _ : Nat => jI 0))), (q12, .inl (c12, 16, .inl (fun _ : Nat => jI 0))), (q13, .inl (c13, 16, .inl (fun _ : Nat => jI 0))), (q14, .inl (c14, 16, .inl (fun _ : Nat => jI 0))), (q15, .inl (c15, 17, .inl (fun _ : Nat => jI 0))), (q20, .inl (c20, 32, .inl (fun _ : Nat => jI 0)))] := hD
  refine lv_aload_n hx hb d_Sv_init_113 rfl (lv_at hl 0 rfl) ?_
  refine lv_bipush (v := 16) hx hb d_Sv_init_114 (by decide) ?_
  refine va_newa (atype := .boolean) (ty := .boolean) (a0 := (16, .inl (fun _ => jI 0))) (N' := 16) hx hb (hts (.arrayClass .boolean) arr_boolean) rfl hK hP hD hS hA (fun _ => rfl) (by decide) (by decide) (by decide) (Nat.le_of_ble_eq_true rfl) (Nat.le_of_ble_eq_true rfl) d_Sv_init_116 (fun q22 c22 H hK hP hD hS => ?_)
  refine W.widen (k := 14) (n := 13135) (Nat.le_refl _) (Nat.le_refl _) ?_
  have hP : va_P D classes [(h0, .inr (0, [.int 0, .ref q1, .ref q2, .ref q3, .ref q4, .ref q5, .int 0, .int 0, .int 0, .ref q9, .ref q10, .ref q11, .ref q12, .ref q13, .ref q14, .ref q15, .int 0, .int 0, .int 0, .int 0, .ref q20, .int 0, .null])), (q1, .inl (c1, 16, .inl (fun _ : Nat => jI 0))), (q2, .inl (c2, 9872, .inl (fun _ : Nat => jI 0))), (q3, .inl (c3, 618, .inl (fun _ : Nat => jI 0))), (q4, .inl (c4, 1234, .inl (fun _ : Nat => jI 0))), (q5, .inl (c5, 617, .inl (fun _ : Nat => jI 0))), (q9, .inl (c9, 617, .inl (fun _ : Nat => jI 0))), (q10, .inl (c10, 32, .inl (fun _ : Nat => jI 0))), (q11, .inl (c11, 16, .inl (fun _ : Nat => jI 0))), (q12, .inl (c12, 16, .inl (fun _ : Nat => jI 0))), (q13, .inl (c13, 16, .inl (fun _ : Nat => jI 0))), (q14, .inl (c14, 16, .inl (fun _ : Nat => jI 0))), (q15, .inl (c15, 17, .inl (fun _ : Nat => jI 0))), (q20, .inl (c20, 32, .inl (fun _ : Nat => jI 0))), (q22, .inl (c22, 16, .inl (fun _ : Nat => jI 0)))] H := hP
  have hD : va_D A [(h0, .inr (0, [.int 0, .ref q1, .ref q2, .ref q3, .ref q4, .ref q5, .int 0, .int 0, .int 0, .ref q9, .ref q10, .ref q11, .ref q12, .ref q13, .ref q14, .ref q15, .int 0, .int 0, .int 0, .int 0, .ref q20, .int 0, .null])), (q1, .inl (c1, 16, .inl (fun _ : Nat => jI 0))), (q2, .inl (c2, 9872, .inl (fun _ : Nat => jI 0))), (q3, .inl (c3, 618, .inl (fun _ : Nat => jI 0))), (q4, .inl (c4, 1234, .inl (fun _ : Nat => jI 0))), (q5, .inl (c5, 617, .inl (fun _ : Nat => jI 0))), (q9, .inl (c9, 617, .inl (fun _ : Nat => jI 0))), (q10, .inl (c10, 32, .inl (fun _ : Nat => jI 0))), (q11, .inl (c11, 16, .inl (fun _ : Nat => jI 0))), (q12, .inl (c12, 16, .inl (fun _ : Nat => jI 0))), (q13, .inl (c13, 16, .inl (fun _ : Nat => jI 0))), (q14, .inl (c14, 16, .inl (fun _ : Nat => jI 0))), (q15, .inl (c15, 17, .inl (fun _ : Nat => jI 0))), (q20, .inl (c20, 32, .inl (fun _ : Nat => jI 0))), (q22, .inl (c22, 16, .inl (fun _ : Nat => jI 0)))] := hD
  have hK : va_K D classes [(c1, .boolean), (c2, .int), (c3, .int), (c4, .int), (c5, .boolean), (c9, .int), (c10, .int), (c11, .int), (c12, .int), (c13, .int), (c14, .int), (c15, .int), (c20, .int), (c22, .boolean)] s := hK
  refine va_putF (D := D) (ci := 0) (v := .ref q22) (ty := t_Sv 22) (C := R_Sv) (T := F_Sv) (N := 23) hx hb hts i_Sv t_Sv t_Sv_ok n_Sv hown hK hP hD hS 0 rfl rfl 22 (by decide) (hts _ (k_Sv 22 (by decide))) (fun _ h9 => h9) rfl hin rfl (t_Sv_ok 22 (by decide)) rfl rfl (Nat.le_of_ble_eq_true rfl) d_Sv_init_118 (fun H locs hP hD hS => ?_)
  have hP : va_P D classes [(h0, .inr (0, [.int 0, .ref q1, .ref q2, .ref q3, .ref q4, .ref q5, .int 0, .int 0, .int 0, .ref q9, .ref q10, .ref q11, .ref q12, .ref q13, .ref q14, .ref q15, .int 0, .int 0, .int 0, .int 0, .ref q20, .int 0, .ref q22])), (q1, .inl (c1, 16, .inl (fun _ : Nat => jI 0))), (q2, .inl (c2, 9872, .inl (fun _ : Nat => jI 0))), (q3, .inl (c3, 618, .inl (fun _ : Nat => jI 0))), (q4, .inl (c4, 1234, .inl (fun _ : Nat => jI 0))), (q5, .inl (c5, 617, .inl (fun _ : Nat => jI 0))), (q9, .inl (c9, 617, .inl (fun _ : Nat => jI 0))), (q10, .inl (c10, 32, .inl (fun _ : Nat => jI 0))), (q11, .inl (c11, 16, .inl (fun _ : Nat => jI 0))), (q12, .inl (c12, 16, .inl (fun _ : Nat => jI 0))), (q13, .inl (c13, 16, .inl (fun _ : Nat => jI 0))), (q14, .inl (c14, 16, .inl (fun _ : Nat => jI 0))), (q15, .inl (c15, 17, .inl (fun _ : Nat => jI 0))), (q20, .inl (c20, 32, .inl (fun _ : Nat => jI 0))), (q22, .inl (c22, 16, .inl (fun _ : Nat => jI 0)))] H := hP
  have hD : va_D A [(h0, .inr (0, [.int 0, .ref q1, .ref q2, .ref q3, .ref q4, .ref q5, .int 0, .int 0, .int 0, .ref q9, .ref q10, .ref q11, .ref q12, .ref q13, .ref q14, .ref q15, .int 0, .int 0, .int 0, .int 0, .ref q20, .int 0, .ref q22])), (q1, .inl (c1, 16, .inl (fun _ : Nat => jI 0))), (q2, .inl (c2, 9872, .inl (fun _ : Nat => jI 0))), (q3, .inl (c3, 618, .inl (fun _ : Nat => jI 0))), (q4, .inl (c4, 1234, .inl (fun _ : Nat => jI 0))), (q5, .inl (c5, 617, .inl (fun _ : Nat => jI 0))), (q9, .inl (c9, 617, .inl (fun _ : Nat => jI 0))), (q10, .inl (c10, 32, .inl (fun _ : Nat => jI 0))), (q11, .inl (c11, 16, .inl (fun _ : Nat => jI 0))), (q12, .inl (c12, 16, .inl (fun _ : Nat => jI 0))), (q13, .inl (c13, 16, .inl (fun _ : Nat => jI 0))), (q14, .inl (c14, 16, .inl (fun _ : Nat => jI 0))), (q15, .inl (c15, 17, .inl (fun _ : Nat => jI 0))), (q20, .inl (c20, 32, .inl (fun _ : Nat => jI 0))), (q22, .inl (c22, 16, .inl (fun _ : Nat => jI 0)))] := hD
  have hP9 : va_P D classes (sw h0 (fun k => match k with | 1 => q1 | 2 => q2 | 3 => q3 | 4 => q4 | 5 => q5 | 9 => q9 | 10 => q10 | 11 => q11 | 12 => q12 | 13 => q13 | 14 => q14 | 15 => q15 | 20 => q20 | _ => q22) (fun k => match k with | 1 => c1 | 2 => c2 | 3 => c3 | 4 => c4 | 5 => c5 | 9 => c9 | 10 => c10 | 11 => c11 | 12 => c12 | 13 => c13 | 14 => c14 | 15 => c15 | 20 => c20 | _ => c22) zS) H := hP
  have hD9 : va_D A (sw h0 (fun k => match k with | 1 => q1 | 2 => q2 | 3 => q3 | 4 => q4 | 5 => q5 | 9 => q9 | 10 => q10 | 11 => q11 | 12 => q12 | 13 => q13 | 14 => q14 | 15 => q15 | 20 => q20 | _ => q22) (fun k => match k with | 1 => c1 | 2 => c2 | 3 => c3 | 4 => c4 | 5 => c5 | 9 => c9 | 10 => c10 | 11 => c11 | 12 => c12 | 13 => c13 | 14 => c14 | 15 => c15 | 20 => c20 | _ => c22) zS) := hD
  have hK9 : va_K D classes (sty (fun k => match k with | 1 => c1 | 2 => c2 | 3 => c3 | 4 => c4 | 5 => c5 | 9 => c9 | 10 => c10 | 11 => c11 | 12 => c12 | 13 => c13 | 14 => c14 | 15 => c15 | 20 => c20 | _ => c22)) s := hK
  subst hAe
  exact W.vret hx hb hr (fun t ht hW => ⟨⟨((fun k => match k with | 1 => q1 | 2 => q2 | 3 => q3 | 4 => q4 | 5 => q5 | 9 => q9 | 10 => q10 | 11 => q11 | 12 => q12 | 13 => q13 | 14 => q14 | 15 => q15 | 20 => q20 | _ => q22), (fun k => match k with | 1 => c1 | 2 => c2 | 3 => c3 | 4 => c4 | 5 => c5 | 9 => c9 | 10 => c10 | 11 => c11 | 12 => c12 | 13 => c13 | 14 => c14 | 15 => c15 | 20 => c20 | _ => c22)), rfl, trivial, by rw [ht]; exact hP9, va_K.moved hW.alike hK9, hD9⟩, hS.F ht⟩) hS.2.2 d_Sv_init_121
def nvar (a : Int) : Int := if a < 1 then 1 else if 16 < a then 16 else a
theorem nvar_in (a : Int) : 1 ≤ nvar a ∧ nvar a ≤ 16 := by unfold nvar; split <;> (try split) <;> omega
set_option maxHeartbeats 4000000 in
set_option maxRecDepth 100000 in
theorem c_Mo_init (l : Launch) (D : va_G) (h0 : Nat) (sz : Nat) (a : Int) (ha : rg a) : Met l y_Mo_init (Cond.code y_Mo_init b_Mo_init 2 none :: tblG) { frames := 1, cells := 3, slots := 816, locals := 40 } (va_Pc [.ref h0, jv a] (fun U => U.heap.size = sz ∧ va_P D classes [(h0, .inr (2, [.int 0, .null, .null, .null, .int 0, .int 0, .int 0, .int 0, .int 0]))] U.heap ∧ va_K D classes [] U ∧ va_D (fun _ => True) [(h0, .inr (2, [.int 0, .null, .null, .null, .int 0, .int 0, .int 0, .int 0, .int 0]))])) (va_Qv (fun _ : (Nat → Nat) × (Nat → ClassId) => True) (fun (u : (Nat → Nat) × (Nat → ClassId)) t => va_P D classes (ow Y_Mo h0 u.1 u.2 (u2 zS 0 0 (nvar a))) t.heap ∧ va_K D classes (oty Y_Mo u.2) t ∧ va_D (va_A [(h0, .inr (2, [.int 0, .null, .null, .null, .int 0, .int 0, .int 0, .int 0, .int 0]))] sz) (ow Y_Mo h0 u.1 u.2 (u2 zS 0 0 (nvar a)))) (va_A [(h0, .inr (2, [.int 0, .null, .null, .null, .int 0, .int 0, .int 0, .int 0, .int 0]))] sz)) 3 816 (va_A [(h0, .inr (2, [.int 0, .null, .null, .null, .int 0, .int 0, .int 0, .int 0, .int 0]))] sz) := by
  refine Met.ofW (cc := b_Mo_init) (maxL := 2) (ret := none) (by decide) rfl ?_
  intro p e s m args below meth c s₁ B hml hv
  obtain ⟨rfl, hsz, hP, hK, hD0⟩ := hv
  have hx := B.exec
  have hb := B.bytes
  have hr := B.returns
  have hts0 := atoms_spec (ws := Cond.code y_Mo_init b_Mo_init 2 none :: tblG) B.pre
  have hts : ∀ w ∈ tblG, w.before ([.ref h0, jv a] : List Value).toArray s = true := fun w hw => hts0 w (List.mem_cons_of_mem _ hw)
  have hown : s.vm.findClass R_Mo = some m.cls := findClass_of_methodNamed B.named
  have hlocks := B.notSynchronized
  have hin : meth.name = "<init>" := (name_of_methodNamed B.named B.method).1
  subst hsz
  have hD := hD0.self (sz := s.heap.size)
  generalize hAe : va_A [(h0, .inr (2, [.int 0, .null, .null, .null, .int 0, .int 0, .int 0, .int 0, .int 0]))] s.heap.size = A at hD ⊢
  have hA : ∀ q : Nat, s.heap.size ≤ q → A q := fun q h => by rw [← hAe]; exact Or.inr h
  have hS : va_S A s.heap s.heap [] := va_S.rf
  have hl := lv_entry ([.ref h0, jv a]) (n := 2) (Nat.le_of_ble_eq_true rfl)
  rw [lg_entry_eq]
  generalize (lg_sl ([.ref h0, jv a]) ++ List.replicate (2 - (lg_sl ([.ref h0, jv a])).length) Slot.unset).toArray = ls at hl ⊢
  have hl : lv_has ls 2 [(0, .ref h0), (1, jv a)] := hl
  refine lv_aload_n hx hb d_Mo_init_0 rfl (lv_at hl 0 rfl) ?_
  refine W.objInit hx hb hown (hts (.methodLink R_Mo 1 objectInit) ol_Mo) (hts (.instanceMethod objectInit) ob_1) (hts _ ob_2) rfl (by rw [hml]; exact hl.1) rfl d_Mo_init_1 (Nat.le_of_ble_eq_true rfl) (Nat.le_of_ble_eq_true rfl) ?_
  refine W.eq (g2 := F0 m 4 ls []) rfl ?_
  refine lv_aload_n hx hb d_Mo_init_4 rfl (lv_at hl 0 rfl) ?_
  refine lv_bipush (v := 16) hx hb d_Mo_init_5 (by decide) ?_
  refine va_newa (atype := .boolean) (ty := .boolean) (a0 := (16, .inl (fun _ => jI 0))) (N' := 16) hx hb (hts (.arrayClass .boolean) arr_boolean) rfl hK hP hD hS hA (fun _ => rfl) (by decide) (by decide) (by decide) (Nat.le_of_ble_eq_true rfl) (Nat.le_of_ble_eq_true rfl) d_Mo_init_7 (fun q1 c1 H hK hP hD hS => ?_)
  refine W.widen (k := 1) (n := 16) (Nat.le_refl _) (Nat.le_refl _) ?_
  have hP : va_P D classes [(h0, .inr (2, [.int 0, .null, .null, .null, .int 0, .int 0, .int 0, .int 0, .int 0])), (q1, .inl (c1, 16, .inl (fun _ : Nat => jI 0)))] H := hP
  have hD : va_D A [(h0, .inr (2, [.int 0, .null, .null, .null, .int 0, .int 0, .int 0, .int 0, .int 0])), (q1, .inl (c1, 16, .inl (fun _ : Nat => jI 0)))] := hD
  have hK : va_K D classes [(c1, .boolean)] s := hK
  refine va_putF (D := D) (ci := 2) (v := .ref q1) (ty := t_Mo 1) (C := R_Mo) (T := F_Mo) (N := 9) hx hb hts i_Mo t_Mo t_Mo_ok n_Mo hown hK hP hD hS 0 rfl rfl 1 (by decide) (hts _ (k_Mo 1 (by decide))) (fun _ h9 => h9) rfl hin rfl (t_Mo_ok 1 (by decide)) rfl rfl (Nat.le_of_ble_eq_true rfl) d_Mo_init_9 (fun H locs hP hD hS => ?_)
  have hP : va_P D classes [(h0, .inr (2, [.int 0, .ref q1, .null, .null, .int 0, .int 0, .int 0, .int 0, .int 0])), (q1, .inl (c1, 16, .inl (fun _ : Nat => jI 0)))] H := hP
  have hD : va_D A [(h0, .inr (2, [.int 0, .ref q1, .null, .null, .int 0, .int 0, .int 0, .int 0, .int 0])), (q1, .inl (c1, 16, .inl (fun _ : Nat => jI 0)))] := hD
  refine lv_aload_n hx hb d_Mo_init_12 rfl (lv_at hl 0 rfl) ?_
  refine lv_sipush (v := 400) hx hb d_Mo_init_13 (by decide) ?_
  refine va_newa (atype := .int) (ty := .int) (a0 := (400, .inl (fun _ => jI 0))) (N' := 400) hx hb (hts (.arrayClass .int) arr_int) rfl hK hP hD hS hA (fun _ => rfl) (by decide) (by decide) (by decide) (Nat.le_of_ble_eq_true rfl) (Nat.le_of_ble_eq_true rfl) d_Mo_init_16 (fun q2 c2 H hK hP hD hS => ?_)
  refine W.widen (k := 2) (n := 416) (Nat.le_refl _) (Nat.le_refl _) ?_
  have hP : va_P D classes [(h0, .inr (2, [.int 0, .ref q1, .null, .null, .int 0, .int 0, .int 0, .int 0, .int 0])), (q1, .inl (c1, 16, .inl (fun _ : Nat => jI 0))), (q2, .inl (c2, 400, .inl (fun _ : Nat => jI 0)))] H := hP
  have hD : va_D A [(h0, .inr (2, [.int 0, .ref q1, .null, .null, .int 0, .int 0, .int 0, .int 0, .int 0])), (q1, .inl (c1, 16, .inl (fun _ : Nat => jI 0))), (q2, .inl (c2, 400, .inl (fun _ : Nat => jI 0)))] := hD
  have hK : va_K D classes [(c1, .boolean), (c2, .int)] s := hK
  refine va_putF (D := D) (ci := 2) (v := .ref q2) (ty := t_Mo 2) (C := R_Mo) (T := F_Mo) (N := 9) hx hb hts i_Mo t_Mo t_Mo_ok n_Mo hown hK hP hD hS 0 rfl rfl 2 (by decide) (hts _ (k_Mo 2 (by decide))) (fun _ h9 => h9) rfl hin rfl (t_Mo_ok 2 (by decide)) rfl rfl (Nat.le_of_ble_eq_true rfl) d_Mo_init_18 (fun H locs hP hD hS => ?_)
  have hP : va_P D classes [(h0, .inr (2, [.int 0, .ref q1, .ref q2, .null, .int 0, .int 0, .int 0, .int 0, .int 0])), (q1, .inl (c1, 16, .inl (fun _ : Nat => jI 0))), (q2, .inl (c2, 400, .inl (fun _ : Nat => jI 0)))] H := hP
  have hD : va_D A [(h0, .inr (2, [.int 0, .ref q1, .ref q2, .null, .int 0, .int 0, .int 0, .int 0, .int 0])), (q1, .inl (c1, 16, .inl (fun _ : Nat => jI 0))), (q2, .inl (c2, 400, .inl (fun _ : Nat => jI 0)))] := hD
  refine lv_aload_n hx hb d_Mo_init_21 rfl (lv_at hl 0 rfl) ?_
  refine lv_sipush (v := 400) hx hb d_Mo_init_22 (by decide) ?_
  refine va_newa (atype := .int) (ty := .int) (a0 := (400, .inl (fun _ => jI 0))) (N' := 400) hx hb (hts (.arrayClass .int) arr_int) rfl hK hP hD hS hA (fun _ => rfl) (by decide) (by decide) (by decide) (Nat.le_of_ble_eq_true rfl) (Nat.le_of_ble_eq_true rfl) d_Mo_init_25 (fun q3 c3 H hK hP hD hS => ?_)
  refine W.widen (k := 3) (n := 816) (Nat.le_refl _) (Nat.le_refl _) ?_
  have hP : va_P D classes [(h0, .inr (2, [.int 0, .ref q1, .ref q2, .null, .int 0, .int 0, .int 0, .int 0, .int 0])), (q1, .inl (c1, 16, .inl (fun _ : Nat => jI 0))), (q2, .inl (c2, 400, .inl (fun _ : Nat => jI 0))), (q3, .inl (c3, 400, .inl (fun _ : Nat => jI 0)))] H := hP
  have hD : va_D A [(h0, .inr (2, [.int 0, .ref q1, .ref q2, .null, .int 0, .int 0, .int 0, .int 0, .int 0])), (q1, .inl (c1, 16, .inl (fun _ : Nat => jI 0))), (q2, .inl (c2, 400, .inl (fun _ : Nat => jI 0))), (q3, .inl (c3, 400, .inl (fun _ : Nat => jI 0)))] := hD
  have hK : va_K D classes [(c1, .boolean), (c2, .int), (c3, .int)] s := hK
  refine va_putF (D := D) (ci := 2) (v := .ref q3) (ty := t_Mo 3) (C := R_Mo) (T := F_Mo) (N := 9) hx hb hts i_Mo t_Mo t_Mo_ok n_Mo hown hK hP hD hS 0 rfl rfl 3 (by decide) (hts _ (k_Mo 3 (by decide))) (fun _ h9 => h9) rfl hin rfl (t_Mo_ok 3 (by decide)) rfl rfl (Nat.le_of_ble_eq_true rfl) d_Mo_init_27 (fun H locs hP hD hS => ?_)
  have hP : va_P D classes [(h0, .inr (2, [.int 0, .ref q1, .ref q2, .ref q3, .int 0, .int 0, .int 0, .int 0, .int 0])), (q1, .inl (c1, 16, .inl (fun _ : Nat => jI 0))), (q2, .inl (c2, 400, .inl (fun _ : Nat => jI 0))), (q3, .inl (c3, 400, .inl (fun _ : Nat => jI 0)))] H := hP
  have hD : va_D A [(h0, .inr (2, [.int 0, .ref q1, .ref q2, .ref q3, .int 0, .int 0, .int 0, .int 0, .int 0])), (q1, .inl (c1, 16, .inl (fun _ : Nat => jI 0))), (q2, .inl (c2, 400, .inl (fun _ : Nat => jI 0))), (q3, .inl (c3, 400, .inl (fun _ : Nat => jI 0)))] := hD
  have fin : ∀ x : Int, x = nvar a → W p l e (headSpec (Cond.code y_Mo_init b_Mo_init 2 none :: tblG) { frames := 1, cells := 3, slots := 816, locals := 40 }).room s m ([.ref h0, jv a] : List Value).toArray below meth c H locs 3 816 (MQ below (va_Qv (fun _ : (Nat → Nat) × (Nat → ClassId) => True) (fun u t => va_P D classes (ow Y_Mo h0 u.1 u.2 (u2 zS 0 0 (nvar a))) t.heap ∧ va_K D classes (oty Y_Mo u.2) t ∧ va_D A (ow Y_Mo h0 u.1 u.2 (u2 zS 0 0 (nvar a)))) A) ([.ref h0, jv a] : List Value).toArray s 3 816 A) (F0 m 52 ls [jv x, .ref h0]) := by
    intro x hxv
    refine va_putF (D := D) (ci := 2) (v := jv x) (ty := t_Mo 0) (C := R_Mo) (T := F_Mo) (N := 9) hx hb hts i_Mo t_Mo t_Mo_ok n_Mo hown hK hP hD hS 0 rfl rfl 0 (by decide) (hts _ (k_Mo 0 (by decide))) (fun _ h9 => h9) rfl hin rfl (t_Mo_ok 0 (by decide)) rfl rfl (Nat.le_of_ble_eq_true rfl) d_Mo_init_52 (fun H locs hP hD hS => ?_)
    have hP : va_P D classes [(h0, .inr (2, [jv x, .ref q1, .ref q2, .ref q3, .int 0, .int 0, .int 0, .int 0, .int 0])), (q1, .inl (c1, 16, .inl (fun _ : Nat => jI 0))), (q2, .inl (c2, 400, .inl (fun _ : Nat => jI 0))), (q3, .inl (c3, 400, .inl (fun _ : Nat => jI 0)))] H := hP
    have hD : va_D A [(h0, .inr (2, [jv x, .ref q1, .ref q2, .ref q3, .int 0, .int 0, .int 0, .int 0, .int 0])), (q1, .inl (c1, 16, .inl (fun _ : Nat => jI 0))), (q2, .inl (c2, 400, .inl (fun _ : Nat => jI 0))), (q3, .inl (c3, 400, .inl (fun _ : Nat => jI 0)))] := hD
    subst hxv
    have hP9 : va_P D classes (ow Y_Mo h0 (fun k => match k with | 1 => q1 | 2 => q2 | _ => q3) (fun k => match k with | 1 => c1 | 2 => c2 | _ => c3) (u2 zS 0 0 (nvar a))) H := hP
    have hD9 : va_D A (ow Y_Mo h0 (fun k => match k with | 1 => q1 | 2 => q2 | _ => q3) (fun k => match k with | 1 => c1 | 2 => c2 | _ => c3) (u2 zS 0 0 (nvar a))) := hD
    have hK9 : va_K D classes (oty Y_Mo (fun k => match k with | 1 => c1 | 2 => c2 | _ => c3)) s := hK
    exact W.vret hx hb hr (fun t ht hW => ⟨⟨((fun k => match k with | 1 => q1 | 2 => q2 | _ => q3), (fun k => match k with | 1 => c1 | 2 => c2 | _ => c3)), rfl, trivial, by rw [ht]; exact hP9, va_K.moved hW.alike hK9, hD9⟩, hS.F ht⟩) hS.2.2 d_Mo_init_55
  subst hAe
  refine lv_aload_n hx hb d_Mo_init_30 rfl (lv_at hl 0 rfl) ?_
  refine lv_iload_n hx hb d_Mo_init_31 rfl (lv_at hl 1 rfl) ?_
  refine lv_iconst (v := jI 1) hx hb d_Mo_init_32 rfl ?_
  refine lv_icmp_ge (tgt := 40) hx hb d_Mo_init_33 (by decide) (fun c1 => ?_) (fun c1 => ?_)
  · have c1 := (jI_le (rgi (by omega) (by omega)) ha).mp c1
    refine lv_iload_n hx hb d_Mo_init_40 rfl (lv_at hl 1 rfl) ?_
    refine lv_bipush (v := jI 16) hx hb d_Mo_init_41 (by decide) ?_
    refine lv_icmp_le (tgt := 51) hx hb d_Mo_init_43 (by decide) (fun c2 => ?_) (fun c2 => ?_)
    · have c2 := (jI_le ha (rgi (by omega) (by omega))).mp c2
      refine lv_iload_n hx hb d_Mo_init_51 rfl (lv_at hl 1 rfl) ?_
      exact fin a (by unfold nvar; rw [if_neg (by omega), if_neg (by omega)])
    · have c2 : ¬ a ≤ 16 := fun q => c2 ((jI_le ha (rgi (by omega) (by omega))).mpr q)
      refine lv_bipush (v := jI 16) hx hb d_Mo_init_46 (by decide) ?_
      refine lv_goto (tgt := 52) hx hb d_Mo_init_48 (by decide) ?_
      exact fin 16 (by unfold nvar; rw [if_neg (by omega), if_pos (by omega)])
  · have c1 : ¬ 1 ≤ a := fun q => c1 ((jI_le (rgi (by omega) (by omega)) ha).mpr q)
    refine lv_iconst (v := jI 1) hx hb d_Mo_init_36 rfl ?_
    refine lv_goto (tgt := 52) hx hb d_Mo_init_37 (by decide) ?_
    exact fin 1 (by unfold nvar; rw [if_pos (by omega)])
set_option maxRecDepth 20000 in
theorem nl_1 : ∀ q ∈ ([.initialized R_Sv, .instanceMethod y_Sv_init, .classLink R_Ou 7 R_Sv, .instantiable R_Sv 23] : List Cond), q ∈ tblG := by decide +kernel
set_option maxHeartbeats 4000000 in
set_option maxRecDepth 100000 in
theorem c_Ou_init (l : Launch) (D : va_G) (h0 : Nat) (sz : Nat) (a : Int) (ha : rg a) : Met l y_Ou_init (Cond.code y_Ou_init b_Ou_init 2 none :: tblG) { frames := 3, cells := 18, slots := 13974, locals := 120 } (va_Pc [.ref h0, jv a] (fun U => U.heap.size = sz ∧ va_P D classes [(h0, .inr (1, [.null, .null, .null, .int 0, .int 0, .int 0, .int 0, .null, .int 0, .int 0]))] U.heap ∧ va_K D classes [] U ∧ va_D (fun _ => True) [(h0, .inr (1, [.null, .null, .null, .int 0, .int 0, .int 0, .int 0, .null, .int 0, .int 0]))] ∧ va_Nw (.methodLinkNest R_Ou 9 y_Sv_init R_Ou) U)) (va_Qv (fun _ : ((Nat → Nat) × (Nat → ClassId)) × ((Nat → Nat) × (Nat → ClassId)) => True) (fun (u : ((Nat → Nat) × (Nat → ClassId)) × ((Nat → Nat) × (Nat → ClassId))) t => va_P D classes (ww h0 u.1.1 u.1.2 u.2.1 u.2.2 (u2 zS 6 0 (nvar a), zS)) t.heap ∧ va_K D classes (wty u.1.2 u.2.2) t ∧ va_D (va_A [(h0, .inr (1, [.null, .null, .null, .int 0, .int 0, .int 0, .int 0, .null, .int 0, .int 0]))] sz) (ww h0 u.1.1 u.1.2 u.2.1 u.2.2 (u2 zS 6 0 (nvar a), zS))) (va_A [(h0, .inr (1, [.null, .null, .null, .int 0, .int 0, .int 0, .int 0, .null, .int 0, .int 0]))] sz)) 18 13974 (va_A [(h0, .inr (1, [.null, .null, .null, .int 0, .int 0, .int 0, .int 0, .null, .int 0, .int 0]))] sz) := by
  refine Met.ofW (cc := b_Ou_init) (maxL := 2) (ret := none) (by decide) rfl ?_
  intro p e s m args below meth c s₁ B hml hv
  obtain ⟨rfl, hsz, hP, hK, hD0, hNw⟩ := hv
  have hx := B.exec
  have hb := B.bytes
  have hr := B.returns
  have hts0 := atoms_spec (ws := Cond.code y_Ou_init b_Ou_init 2 none :: tblG) B.pre
  have hts : ∀ w ∈ tblG, w.before ([.ref h0, jv a] : List Value).toArray s = true := fun w hw => hts0 w (List.mem_cons_of_mem _ hw)
  have hown : s.vm.findClass R_Ou = some m.cls := findClass_of_methodNamed B.named
  have hlocks := B.notSynchronized
  have hin : meth.name = "<init>" := (name_of_methodNamed B.named B.method).1
  subst hsz
  have hD := hD0.self (sz := s.heap.size)
  generalize hAe : va_A [(h0, .inr (1, [.null, .null, .null, .int 0, .int 0, .int 0, .int 0, .null, .int 0, .int 0]))] s.heap.size = A at hD ⊢
  have hA : ∀ q : Nat, s.heap.size ≤ q → A q := fun q h => by rw [← hAe]; exact Or.inr h
  have hS : va_S A s.heap s.heap [] := va_S.rf
  have hl := lv_entry ([.ref h0, jv a]) (n := 2) (Nat.le_of_ble_eq_true rfl)
  rw [lg_entry_eq]
  generalize (lg_sl ([.ref h0, jv a]) ++ List.replicate (2 - (lg_sl ([.ref h0, jv a])).length) Slot.unset).toArray = ls at hl ⊢
  have hl : lv_has ls 2 [(0, .ref h0), (1, jv a)] := hl
  refine lv_aload_n hx hb d_Ou_init_0 rfl (lv_at hl 0 rfl) ?_
  refine W.objInit hx hb hown (hts (.methodLink R_Ou 1 objectInit) ol_Ou) (hts (.instanceMethod objectInit) ob_1) (hts _ ob_2) rfl (by rw [hml]; exact hl.1) rfl d_Ou_init_1 (Nat.le_of_ble_eq_true rfl) (Nat.le_of_ble_eq_true rfl) ?_
  refine W.eq (g2 := F0 m 4 ls []) rfl ?_
  refine lv_aload_n hx hb d_Ou_init_4 rfl (lv_at hl 0 rfl) ?_
  refine va_new (ci := 0) (fs := [.int 0, .null, .null, .null, .null, .null, .int 0, .int 0, .int 0, .null, .null, .null, .null, .null, .null, .null, .int 0, .int 0, .int 0, .int 0, .null, .int 0, .null]) (C := R_Sv) (T := F_Sv) (N := 23) hx hb hts i_Sv t_Sv t_Sv_ok hown (hts _ (nl_1 _ (by simp))) (hts _ (nl_1 _ (by simp))) (hts _ (nl_1 _ (by simp))) hK hP hD hS hA rfl (fun j hj => (by decide : ∀ j, j < 23 → defaultValue (t_Sv j) = vp_V [.int 0, .null, .null, .null, .null, .null, .int 0, .int 0, .int 0, .null, .null, .null, .null, .null, .null, .null, .int 0, .int 0, .int 0, .int 0, .null, .int 0, .null] j) j hj) (Nat.le_of_ble_eq_true rfl) (Nat.le_of_ble_eq_true rfl) d_Ou_init_5 (fun q0 H hP hD hS => ?_)
  refine W.widen (k := 1) (n := 23) (Nat.le_refl _) (Nat.le_refl _) ?_
  have hP : va_P D classes [(h0, .inr (1, [.null, .null, .null, .int 0, .int 0, .int 0, .int 0, .null, .int 0, .int 0])), (q0, .inr (0, [.int 0, .null, .null, .null, .null, .null, .int 0, .int 0, .int 0, .null, .null, .null, .null, .null, .null, .null, .int 0, .int 0, .int 0, .int 0, .null, .int 0, .null]))] H := hP
  have hD : va_D A [(h0, .inr (1, [.null, .null, .null, .int 0, .int 0, .int 0, .int 0, .null, .int 0, .int 0])), (q0, .inr (0, [.int 0, .null, .null, .null, .null, .null, .int 0, .int 0, .int 0, .null, .null, .null, .null, .null, .null, .null, .int 0, .int 0, .int 0, .int 0, .null, .int 0, .null]))] := hD
  refine lv_dup hx hb d_Ou_init_8 rfl ?_
  have hPc := hP.sub (ws' := [(q0, .inr (0, [.int 0, .null, .null, .null, .null, .null, .int 0, .int 0, .int 0, .null, .null, .null, .null, .null, .null, .null, .int 0, .int 0, .int 0, .int 0, .null, .int 0, .null]))]) [1] rfl
  have hDc := hD.sub (ws' := [(q0, .inr (0, [.int 0, .null, .null, .null, .null, .null, .int 0, .int 0, .int 0, .null, .null, .null, .null, .null, .null, .null, .int 0, .int 0, .int 0, .int 0, .null, .int 0, .null]))]) [1] (by decide) rfl
  have hKc := hK.sub (tys' := []) [] rfl
  have hFc := va_free (wc := [(q0, .inr (0, [.int 0, .null, .null, .null, .null, .null, .int 0, .int 0, .int 0, .null, .null, .null, .null, .null, .null, .null, .int 0, .int 0, .int 0, .int 0, .null, .int 0, .null]))]) hD hS hA [1] rfl
  refine va_callv (va_runIN (Ts := tblG) (host := R_Ou) (As := []) (rest := [.ref q0, .ref h0]) ⟨hx, hb, hml, hown, hts⟩ (c_Sv_init l D q0 H.size) ⟨va_cnB 0 hts (good_sub _ (mem_words mc_Sv_init) (fun _ h => h)) rfl rfl rfl hNw (hts _ (nl_1 _ (by simp [y_Sv_init]))) (by decide +kernel) ⟨Nat.le_of_ble_eq_true rfl, Nat.le_of_ble_eq_true rfl⟩, rfl, hts _ (nl_1 _ (by simp))⟩ ⟨fun a U g mk q => by obtain ⟨r0, r1, qP, qK, qD⟩ := q; exact ⟨r0, r1, qP, va_K.moved (u := U) (U := U.calling g mk a) (Vm.Alike.refl U.vm) qK, qD⟩, fun U hU hW => ⟨rfl, by rw [hU], by rw [hU]; exact hPc, va_K.moved hW.alike hKc, hDc.weaken (fun _ _ _ _ => trivial)⟩⟩ rfl rfl hl.1 rfl (lv_room (Nat.le_of_ble_eq_true rfl)) d_Ou_init_9 ⟨Nat.le_of_ble_eq_true rfl, Nat.le_of_ble_eq_true rfl⟩) hS (fun q _ h => hFc q h) hFc (fun u t H1 locs ht hvm hw hB hz1 hk1 hS => ?_)
  obtain ⟨ad2, cA2⟩ := u
  obtain ⟨hP1, hK1, hD1⟩ := hB
  rw [ht] at hP1
  have hK1 := va_K.moved hvm.symm hK1
  obtain ⟨hP, hD⟩ := va_join (wr := [(h0, .inr (1, [.null, .null, .null, .int 0, .int 0, .int 0, .int 0, .null, .int 0, .int 0]))]) (w1 := sw q0 ad2 cA2 zS) hP hD [1] [0] rfl rfl (by decide) (by decide) hk1 hFc hP1 hD1
  have hK := hK.app hK1
  generalize H1 = H at hP hS ⊢
  have hP : va_P D classes ((h0, .inr (1, [.null, .null, .null, .int 0, .int 0, .int 0, .int 0, .null, .int 0, .int 0])) :: (sw q0 ad2 cA2 zS)) H := hP
  have hD : va_D A ((h0, .inr (1, [.null, .null, .null, .int 0, .int 0, .int 0, .int 0, .null, .int 0, .int 0])) :: (sw q0 ad2 cA2 zS)) := hD
  have hK : va_K D classes (sty cA2) s := hK
  refine W.widen (k := 15) (n := 13158) (Nat.le_refl _) (Nat.le_refl _) ?_
  refine va_putF (D := D) (ci := 1) (v := .ref q0) (ty := t_Ou 0) (C := R_Ou) (T := F_Ou) (N := 10) hx hb hts i_Ou t_Ou t_Ou_ok n_Ou hown hK hP hD hS 0 rfl rfl 0 (by decide) (hts _ (k_Ou 0 (by decide))) (fun _ h9 => h9) rfl hin rfl (t_Ou_ok 0 (by decide)) rfl rfl (Nat.le_of_ble_eq_true rfl) d_Ou_init_12 (fun H locs hP hD hS => ?_)
  have hP : va_P D classes ((h0, .inr (1, [.ref q0, .null, .null, .int 0, .int 0, .int 0, .int 0, .null, .int 0, .int 0])) :: (sw q0 ad2 cA2 zS)) H := hP
  have hD : va_D A ((h0, .inr (1, [.ref q0, .null, .null, .int 0, .int 0, .int 0, .int 0, .null, .int 0, .int 0])) :: (sw q0 ad2 cA2 zS)) := hD
  refine lv_aload_n hx hb d_Ou_init_15 rfl (lv_at hl 0 rfl) ?_
  refine lv_sipush (v := 400) hx hb d_Ou_init_16 (by decide) ?_
  refine va_newa (atype := .int) (ty := .int) (a0 := (400, .inl (fun _ => jI 0))) (N' := 400) hx hb (hts (.arrayClass .int) arr_int) rfl hK hP hD hS hA (fun _ => rfl) (by decide) (by decide) (by decide) (Nat.le_of_ble_eq_true rfl) (Nat.le_of_ble_eq_true rfl) d_Ou_init_19 (fun q1 c1 H hK hP hD hS => ?_)
  refine W.widen (k := 16) (n := 13558) (Nat.le_refl _) (Nat.le_refl _) ?_
  have hP : va_P D classes ((h0, .inr (1, [.ref q0, .null, .null, .int 0, .int 0, .int 0, .int 0, .null, .int 0, .int 0])) :: (sw q0 ad2 cA2 zS ++ [(q1, .inl (c1, 400, .inl (fun _ : Nat => jI 0)))])) H := hP
  have hD : va_D A ((h0, .inr (1, [.ref q0, .null, .null, .int 0, .int 0, .int 0, .int 0, .null, .int 0, .int 0])) :: (sw q0 ad2 cA2 zS ++ [(q1, .inl (c1, 400, .inl (fun _ : Nat => jI 0)))])) := hD
  refine va_putF (D := D) (ci := 1) (v := .ref q1) (ty := t_Ou 1) (C := R_Ou) (T := F_Ou) (N := 10) hx hb hts i_Ou t_Ou t_Ou_ok n_Ou hown hK hP hD hS 0 rfl rfl 1 (by decide) (hts _ (k_Ou 1 (by decide))) (fun _ h9 => h9) rfl hin rfl (t_Ou_ok 1 (by decide)) rfl rfl (Nat.le_of_ble_eq_true rfl) d_Ou_init_21 (fun H locs hP hD hS => ?_)
  have hP : va_P D classes ((h0, .inr (1, [.ref q0, .ref q1, .null, .int 0, .int 0, .int 0, .int 0, .null, .int 0, .int 0])) :: (sw q0 ad2 cA2 zS ++ [(q1, .inl (c1, 400, .inl (fun _ : Nat => jI 0)))])) H := hP
  have hD : va_D A ((h0, .inr (1, [.ref q0, .ref q1, .null, .int 0, .int 0, .int 0, .int 0, .null, .int 0, .int 0])) :: (sw q0 ad2 cA2 zS ++ [(q1, .inl (c1, 400, .inl (fun _ : Nat => jI 0)))])) := hD
  refine lv_aload_n hx hb d_Ou_init_24 rfl (lv_at hl 0 rfl) ?_
  refine lv_sipush (v := 400) hx hb d_Ou_init_25 (by decide) ?_
  refine va_newa (atype := .int) (ty := .int) (a0 := (400, .inl (fun _ => jI 0))) (N' := 400) hx hb (hts (.arrayClass .int) arr_int) rfl hK hP hD hS hA (fun _ => rfl) (by decide) (by decide) (by decide) (Nat.le_of_ble_eq_true rfl) (Nat.le_of_ble_eq_true rfl) d_Ou_init_28 (fun q2 c2 H hK hP hD hS => ?_)
  refine W.widen (k := 17) (n := 13958) (Nat.le_refl _) (Nat.le_refl _) ?_
  have hP : va_P D classes ((h0, .inr (1, [.ref q0, .ref q1, .null, .int 0, .int 0, .int 0, .int 0, .null, .int 0, .int 0])) :: (sw q0 ad2 cA2 zS ++ [(q1, .inl (c1, 400, .inl (fun _ : Nat => jI 0))), (q2, .inl (c2, 400, .inl (fun _ : Nat => jI 0)))])) H := hP
  have hD : va_D A ((h0, .inr (1, [.ref q0, .ref q1, .null, .int 0, .int 0, .int 0, .int 0, .null, .int 0, .int 0])) :: (sw q0 ad2 cA2 zS ++ [(q1, .inl (c1, 400, .inl (fun _ : Nat => jI 0))), (q2, .inl (c2, 400, .inl (fun _ : Nat => jI 0)))])) := hD
  refine va_putF (D := D) (ci := 1) (v := .ref q2) (ty := t_Ou 2) (C := R_Ou) (T := F_Ou) (N := 10) hx hb hts i_Ou t_Ou t_Ou_ok n_Ou hown hK hP hD hS 0 rfl rfl 2 (by decide) (hts _ (k_Ou 2 (by decide))) (fun _ h9 => h9) rfl hin rfl (t_Ou_ok 2 (by decide)) rfl rfl (Nat.le_of_ble_eq_true rfl) d_Ou_init_30 (fun H locs hP hD hS => ?_)
  have hP : va_P D classes ((h0, .inr (1, [.ref q0, .ref q1, .ref q2, .int 0, .int 0, .int 0, .int 0, .null, .int 0, .int 0])) :: (sw q0 ad2 cA2 zS ++ [(q1, .inl (c1, 400, .inl (fun _ : Nat => jI 0))), (q2, .inl (c2, 400, .inl (fun _ : Nat => jI 0)))])) H := hP
  have hD : va_D A ((h0, .inr (1, [.ref q0, .ref q1, .ref q2, .int 0, .int 0, .int 0, .int 0, .null, .int 0, .int 0])) :: (sw q0 ad2 cA2 zS ++ [(q1, .inl (c1, 400, .inl (fun _ : Nat => jI 0))), (q2, .inl (c2, 400, .inl (fun _ : Nat => jI 0)))])) := hD
  refine lv_aload_n hx hb d_Ou_init_33 rfl (lv_at hl 0 rfl) ?_
  refine lv_bipush (v := 16) hx hb d_Ou_init_34 (by decide) ?_
  refine va_newa (atype := .boolean) (ty := .boolean) (a0 := (16, .inl (fun _ => jI 0))) (N' := 16) hx hb (hts (.arrayClass .boolean) arr_boolean) rfl hK hP hD hS hA (fun _ => rfl) (by decide) (by decide) (by decide) (Nat.le_of_ble_eq_true rfl) (Nat.le_of_ble_eq_true rfl) d_Ou_init_36 (fun q7 c7 H hK hP hD hS => ?_)
  refine W.widen (k := 18) (n := 13974) (Nat.le_refl _) (Nat.le_refl _) ?_
  have hP : va_P D classes ((h0, .inr (1, [.ref q0, .ref q1, .ref q2, .int 0, .int 0, .int 0, .int 0, .null, .int 0, .int 0])) :: (sw q0 ad2 cA2 zS ++ [(q1, .inl (c1, 400, .inl (fun _ : Nat => jI 0))), (q2, .inl (c2, 400, .inl (fun _ : Nat => jI 0))), (q7, .inl (c7, 16, .inl (fun _ : Nat => jI 0)))])) H := hP
  have hD : va_D A ((h0, .inr (1, [.ref q0, .ref q1, .ref q2, .int 0, .int 0, .int 0, .int 0, .null, .int 0, .int 0])) :: (sw q0 ad2 cA2 zS ++ [(q1, .inl (c1, 400, .inl (fun _ : Nat => jI 0))), (q2, .inl (c2, 400, .inl (fun _ : Nat => jI 0))), (q7, .inl (c7, 16, .inl (fun _ : Nat => jI 0)))])) := hD
  refine va_putF (D := D) (ci := 1) (v := .ref q7) (ty := t_Ou 7) (C := R_Ou) (T := F_Ou) (N := 10) hx hb hts i_Ou t_Ou t_Ou_ok n_Ou hown hK hP hD hS 0 rfl rfl 7 (by decide) (hts _ (k_Ou 7 (by decide))) (fun _ h9 => h9) rfl hin rfl (t_Ou_ok 7 (by decide)) rfl rfl (Nat.le_of_ble_eq_true rfl) d_Ou_init_38 (fun H locs hP hD hS => ?_)
  have hP : va_P D classes ((h0, .inr (1, [.ref q0, .ref q1, .ref q2, .int 0, .int 0, .int 0, .int 0, .ref q7, .int 0, .int 0])) :: (sw q0 ad2 cA2 zS ++ [(q1, .inl (c1, 400, .inl (fun _ : Nat => jI 0))), (q2, .inl (c2, 400, .inl (fun _ : Nat => jI 0))), (q7, .inl (c7, 16, .inl (fun _ : Nat => jI 0)))])) H := hP
  have hD : va_D A ((h0, .inr (1, [.ref q0, .ref q1, .ref q2, .int 0, .int 0, .int 0, .int 0, .ref q7, .int 0, .int 0])) :: (sw q0 ad2 cA2 zS ++ [(q1, .inl (c1, 400, .inl (fun _ : Nat => jI 0))), (q2, .inl (c2, 400, .inl (fun _ : Nat => jI 0))), (q7, .inl (c7, 16, .inl (fun _ : Nat => jI 0)))])) := hD
  have hK : va_K D classes (sty cA2 ++ [(c1, .int), (c2, .int), (c7, .boolean)]) s := hK
  refine lv_aload_n hx hb d_Ou_init_41 rfl (lv_at hl 0 rfl) ?_
  refine lv_bipush (v := jI 16) hx hb d_Ou_init_42 (by decide) ?_
  refine lv_iconst (v := jI 1) hx hb d_Ou_init_44 rfl ?_
  refine lv_iload_n hx hb d_Ou_init_45 rfl (lv_at hl 1 rfl) ?_
  refine va_mmax hx hb (hml.trans hl.1.symm) hown (hts (.methodLink R_Ou 27 y_Ma_max) (lk_Ou_27.1 _ (by simp))) (hts (.static y_Ma_max) (lk_Ou_27.1 _ (by simp))) (hts (.initialized "java/lang/Math") (lk_Ou_27.1 _ (by simp [y_Ma_max]))) (hts _ mc_Ma_max) (Nat.le_of_ble_eq_true rfl) (Nat.le_of_ble_eq_true rfl) (Nat.le_of_ble_eq_true rfl) (Nat.le_of_ble_eq_true rfl) d_Ou_init_46 ?_
  refine va_mmin hx hb (hml.trans hl.1.symm) hown (hts (.methodLink R_Ou 33 y_Ma_min) (lk_Ou_33.1 _ (by simp))) (hts (.static y_Ma_min) (lk_Ou_33.1 _ (by simp))) (hts (.initialized "java/lang/Math") (lk_Ou_33.1 _ (by simp [y_Ma_min]))) (hts _ mc_Ma_min) (Nat.le_of_ble_eq_true rfl) (Nat.le_of_ble_eq_true rfl) (Nat.le_of_ble_eq_true rfl) (Nat.le_of_ble_eq_true rfl) d_Ou_init_49 ?_
  have hval : (if (if jI 1 < jI a then jI a else jI 1) < jI 16 then (if jI 1 < jI a then jI a else jI 1) else jI 16) = jI (nvar a) := by
    have r1 : rg 1 := rgi (by omega) (by omega)
    have r16 : rg 16 := rgi (by omega) (by omega)
    unfold nvar
    by_cases c1 : 1 < a
    · rw [if_pos ((jI_lt r1 ha).mpr c1), if_neg (by omega : ¬ a < 1)]
      by_cases c2 : a < 16
      · rw [if_pos ((jI_lt ha r16).mpr c2), if_neg (by omega)]
      · rw [if_neg (fun q => c2 ((jI_lt ha r16).mp q))]
        by_cases c3 : 16 < a
        · rw [if_pos c3]
        · rw [if_neg c3, show a = 16 by omega]
    · rw [if_neg (fun q => c1 ((jI_lt r1 ha).mp q)), if_pos ((jI_lt r1 r16).mpr (by omega))]
      by_cases c2 : a < 1
      · rw [if_pos c2]
      · rw [if_neg c2, if_neg (by omega), show a = 1 by omega]
  rw [hval]
  refine va_put (D := D) (ci := 1) (v := jv (nvar a)) (ty := t_Ou 6) (C := R_Ou) (T := F_Ou) (N := 10) hx hb hts i_Ou t_Ou t_Ou_ok n_Ou hown hK hP hD hS 0 rfl rfl 6 (by decide) (hts _ (k_Ou 6 (by decide))) (fun _ h9 => h9) rfl (t_Ou_ok 6 (by decide)) rfl rfl (Nat.le_of_ble_eq_true rfl) d_Ou_init_52 (fun H locs hP hD hS => ?_)
  have hP : va_P D classes ((h0, .inr (1, [.ref q0, .ref q1, .ref q2, .int 0, .int 0, .int 0, jv (nvar a), .ref q7, .int 0, .int 0])) :: (sw q0 ad2 cA2 zS ++ [(q1, .inl (c1, 400, .inl (fun _ : Nat => jI 0))), (q2, .inl (c2, 400, .inl (fun _ : Nat => jI 0))), (q7, .inl (c7, 16, .inl (fun _ : Nat => jI 0)))])) H := hP
  have hD : va_D A ((h0, .inr (1, [.ref q0, .ref q1, .ref q2, .int 0, .int 0, .int 0, jv (nvar a), .ref q7, .int 0, .int 0])) :: (sw q0 ad2 cA2 zS ++ [(q1, .inl (c1, 400, .inl (fun _ : Nat => jI 0))), (q2, .inl (c2, 400, .inl (fun _ : Nat => jI 0))), (q7, .inl (c7, 16, .inl (fun _ : Nat => jI 0)))])) := hD
  have hP9 : va_P D classes (ww h0 (fun k => match k with | 0 => q0 | 1 => q1 | 2 => q2 | _ => q7) (fun k => match k with | 1 => c1 | 2 => c2 | _ => c7) ad2 cA2 (u2 zS 6 0 (nvar a), zS)) H := hP.sub [0, 16, 17, 18, 1, 2, 3, 4, 5, 6, 7, 8, 9, 10, 11, 12, 13, 14, 15] rfl
  have hD9 : va_D A (ww h0 (fun k => match k with | 0 => q0 | 1 => q1 | 2 => q2 | _ => q7) (fun k => match k with | 1 => c1 | 2 => c2 | _ => c7) ad2 cA2 (u2 zS 6 0 (nvar a), zS)) := hD.sub [0, 16, 17, 18, 1, 2, 3, 4, 5, 6, 7, 8, 9, 10, 11, 12, 13, 14, 15] (by decide) rfl
  have hK9 : va_K D classes (wty (fun k => match k with | 1 => c1 | 2 => c2 | _ => c7) cA2) s := hK.sub [14, 15, 16, 0, 1, 2, 3, 4, 5, 6, 7, 8, 9, 10, 11, 12, 13] rfl
  subst hAe
  exact W.vret hx hb hr (fun t ht hW => ⟨⟨(((fun k => match k with | 0 => q0 | 1 => q1 | 2 => q2 | _ => q7), (fun k => match k with | 1 => c1 | 2 => c2 | _ => c7)), (ad2, cA2)), rfl, trivial, by rw [ht]; exact hP9, va_K.moved hW.alike hK9, hD9⟩, hS.F ht⟩) hS.2.2 d_Ou_init_55
end
section
/-! pure: the outer class and the model go on in step -/
def LI (S T M : Sv) : Prop := OI S ∧ M 0 0 = S 6 0 ∧ M 4 0 = S 3 0 ∧ (∀ k, 0 ≤ k → k < S 3 0 → M 2 k = S 1 k ∧ M 3 k = S 2 k) ∧ M 5 0 = S 4 0 ∧ M 6 0 = S 5 0 ∧ (∀ v, 0 ≤ v → v < 16 → M 1 v = S 7 v) ∧ (M 8 0 = 0 ∨ M 8 0 = 1) ∧ T 3 0 = 0 ∧ (S 8 0 = 1 → KN S T) ∧ (M 8 0 = 1 → MA M (M 7 0))
section
variable {S T M : Sv}
theorem LI.mi (h : LI S T M) : MI M := by
  obtain ⟨⟨o1, o2, o3, o4, o5, o6, o7, o8⟩, e1, e2, e3, e4, e5, e6, e7, -⟩ := h
  unfold MI
  rw [e1, e2, e4, e5]
  refine ⟨o1, o2, fun k a b => ?_, o4, o5, fun v a b => ?_, e7⟩
  · have q := e3 k a b
    rw [q.1, q.2]; exact o3 k a b
  · rw [e6 v a b]; exact o6 v a b
theorem LI.wish (h : LI S T M) {v b z z' : Int} {u u' : Sv} (hb : b = 0 ∨ b = 1) (hz : (0 ≤ v ∧ v < S 6 0 ∧ z = S 7 v ∧ u = u2 (u2 S 8 0 0) 7 v b) ∨ (¬ (0 ≤ v ∧ v < S 6 0) ∧ z = 0 ∧ u = S)) (hz' : (0 ≤ v ∧ v < M 0 0 ∧ z' = M 1 v ∧ u' = u2 (u2 M 1 v b) 8 0 0) ∨ (¬ (0 ≤ v ∧ v < M 0 0) ∧ z' = 0 ∧ u' = M)) : z = z' ∧ LI u T u' := by
  have h0 := h
  obtain ⟨⟨o1, o2, o3, o4, o5, o6, o7, o8⟩, e1, e2, e3, e4, e5, e6, e7, e8, e9, e10⟩ := h
  rw [e1] at hz'
  rcases hz with ⟨q1, q2, q3, rfl⟩ | ⟨q1, rfl, rfl⟩
  · rcases hz' with ⟨r1, r2, r3, rfl⟩ | ⟨r1, -⟩
    · refine ⟨by rw [q3, r3, e6 v q1 (by omega)], ⟨o1, o2, o3, o4, o5, fun x a b' => ?_, Or.inl (show up (S 8) 0 0 0 = 0 by rw [up_s]), o8⟩, e1, e2, e3, e4, e5, fun x a b' => ?_, Or.inl (show up (M 8) 0 0 0 = 0 by rw [up_s]), e8, fun q => ?_, fun q => ?_⟩
      · show up (S 7) v b x = 0 ∨ up (S 7) v b x = 1
        by_cases e : x = v
        · rw [e, up_s]; exact hb
        · rw [up_n _ _ e]; exact o6 x a b'
      · show up (M 1) v b x = up (S 7) v b x
        by_cases e : x = v
        · rw [e, up_s, up_s]
        · rw [up_n _ _ e, up_n _ _ e]; exact e6 x a b'
      · have q : up (S 8) 0 0 0 = 1 := q
        rw [up_s] at q; omega
      · have q : up (M 8) 0 0 0 = 1 := q
        rw [up_s] at q; omega
    · exact absurd ⟨q1, q2⟩ r1
  · rcases hz' with ⟨r1, r2, -⟩ | ⟨-, rfl, rfl⟩
    · exact absurd ⟨r1, r2⟩ q1
    · exact ⟨rfl, h0⟩
theorem LI.literal (h : LI S T M) {v b z z' : Int} {u u' : Sv} (hz : (0 ≤ v ∧ v < S 6 0 ∧ u = (if b = 0 then u2 S 5 0 (orI (S 5 0) (p2 v)) else u2 S 4 0 (orI (S 4 0) (p2 v))) ∧ z = pcnt (u 4 0) + pcnt (u 5 0)) ∨ (¬ (0 ≤ v ∧ v < S 6 0) ∧ z = -1 ∧ u = S)) (hz' : (0 ≤ v ∧ v < M 0 0 ∧ u' = (if b = 0 then u2 M 6 0 (orI (M 6 0) (p2 v)) else u2 M 5 0 (orI (M 5 0) (p2 v))) ∧ z' = pcnt (u' 5 0) + pcnt (u' 6 0)) ∨ (¬ (0 ≤ v ∧ v < M 0 0) ∧ z' = -1 ∧ u' = M)) : z = z' ∧ LI u T u' := by
  have h0 := h
  obtain ⟨⟨o1, o2, o3, o4, o5, o6, o7, o8⟩, e1, e2, e3, e4, e5, e6, e7, e8, e9, e10⟩ := h
  rw [e1] at hz'
  rcases hz with ⟨q1, q2, q3, q4⟩ | ⟨q1, rfl, rfl⟩
  · rcases hz' with ⟨r1, r2, r3, r4⟩ | ⟨r1, -⟩
    · have vl : 0 ≤ p2 v ∧ p2 v < p2 (S 6 0) := by
        have h1 := p2_pos v
        have h2 := p2_le (a := v + 1) (b := S 6 0) (by omega)
        rw [p2_s q1] at h2
        omega
      by_cases hb : b = 0
      · rw [if_pos hb] at q3 r3
        subst q3; subst r3
        have on := orI_lt o5.1 o5.2 vl.1 vl.2
        have f1 : (u2 S 5 0 (orI (S 5 0) (p2 v))) 5 0 = orI (S 5 0) (p2 v) := u2_ss _ _ _ _
        have f2 : (u2 M 6 0 (orI (M 6 0) (p2 v))) 6 0 = orI (M 6 0) (p2 v) := u2_ss _ _ _ _
        refine ⟨?_, ⟨o1, o2, o3, o4, by rw [f1]; exact on, o6, o7, o8⟩, e1, e2, e3, e4, by rw [f1, f2, e5], e6, e7, e8, e9, e10⟩
        rw [q4, r4, f1, f2, e5]
        show pcnt (S 4 0) + _ = pcnt (M 5 0) + _
        rw [e4]
      · rw [if_neg hb] at q3 r3
        subst q3; subst r3
        have oy := orI_lt o4.1 o4.2 vl.1 vl.2
        have f1 : (u2 S 4 0 (orI (S 4 0) (p2 v))) 4 0 = orI (S 4 0) (p2 v) := u2_ss _ _ _ _
        have f2 : (u2 M 5 0 (orI (M 5 0) (p2 v))) 5 0 = orI (M 5 0) (p2 v) := u2_ss _ _ _ _
        refine ⟨?_, ⟨o1, o2, o3, by rw [f1]; exact oy, o5, o6, o7, o8⟩, e1, e2, e3, by rw [f1, f2, e4], e5, e6, e7, e8, e9, e10⟩
        rw [q4, r4, f1, f2, e4]
        show _ + pcnt (S 5 0) = _ + pcnt (M 6 0)
        rw [e5]
    · exact absurd ⟨q1, q2⟩ r1
  · rcases hz' with ⟨r1, r2, -⟩ | ⟨-, rfl, rfl⟩
    · exact absurd ⟨r1, r2⟩ q1
    · exact ⟨rfl, h0⟩
/-- a clause is added on both sides; what was made up goes on as oy, on -/
theorem LI.add (h : LI S T M) (hc : S 3 0 < 400) {y n oy on : Int} (hy : 0 ≤ y ∧ y < p2 (S 6 0)) (hn : 0 ≤ n ∧ n < p2 (S 6 0)) (hoy : 0 ≤ oy ∧ oy < p2 (S 6 0)) (hon : 0 ≤ on ∧ on < p2 (S 6 0)) {u u' : Sv} (hu : u = u2 (u2 (oKeep S y n) 4 0 oy) 5 0 on) (hu' : ∀ k, k ≠ 2 → k ≠ 3 → k ≠ 4 → k ≠ 5 → k ≠ 6 → k ≠ 8 → u' k = M k) (m2 : u' 2 = up (M 2) (M 4 0) y) (m3 : u' 3 = up (M 3) (M 4 0) n) (m4 : u' 4 0 = M 4 0 + 1) (m5 : u' 5 0 = oy) (m6 : u' 6 0 = on) (m8 : u' 8 0 = 0) : LI u T u' := by
  obtain ⟨⟨o1, o2, o3, o4, o5, o6, o7, o8⟩, e1, e2, e3, e4, e5, e6, e7, e8, e9, e10⟩ := h
  subst hu
  have f3 : (u2 (u2 (oKeep S y n) 4 0 oy) 5 0 on) 3 0 = S 3 0 + 1 := (show up (S 3) 0 (S 3 0 + 1) 0 = _ by rw [up_s])
  have f4 : (u2 (u2 (oKeep S y n) 4 0 oy) 5 0 on) 4 0 = oy := (show up (up (S 4) 0 0) 0 oy 0 = _ by rw [up_s])
  have f5 : (u2 (u2 (oKeep S y n) 4 0 oy) 5 0 on) 5 0 = on := u2_ss _ _ _ _
  have f8 : (u2 (u2 (oKeep S y n) 4 0 oy) 5 0 on) 8 0 = 0 := (show up (S 8) 0 0 0 = _ by rw [up_s])
  refine ⟨⟨o1, ?_, fun k a b => ?_, ?_, ?_, o6, Or.inl f8, o8⟩, ?_, ?_, fun k a b => ?_, ?_, ?_, fun v a b => ?_, ?_, e8, fun q => ?_, fun q => ?_⟩
  · rw [f3]; omega
  · rw [f3] at b
    show (0 ≤ up (S 1) (S 3 0) y k ∧ up (S 1) (S 3 0) y k < p2 (S 6 0)) ∧ (0 ≤ up (S 2) (S 3 0) n k ∧ up (S 2) (S 3 0) n k < p2 (S 6 0))
    by_cases e : k = S 3 0
    · rw [e, up_s, up_s]; exact ⟨hy, hn⟩
    · rw [up_n _ _ e, up_n _ _ e]; exact o3 k a (by omega)
  · rw [f4]; exact hoy
  · rw [f5]; exact hon
  · rw [hu' 0 (by decide) (by decide) (by decide) (by decide) (by decide) (by decide)]; exact e1
  · rw [f3, m4, e2]
  · rw [f3] at b
    rw [m2, m3, e2]
    show up (M 2) (S 3 0) y k = up (S 1) (S 3 0) y k ∧ up (M 3) (S 3 0) n k = up (S 2) (S 3 0) n k
    by_cases e : k = S 3 0
    · rw [e, up_s, up_s, up_s, up_s]; exact ⟨rfl, rfl⟩
    · rw [up_n _ _ e, up_n _ _ e, up_n _ _ e, up_n _ _ e]; exact e3 k a (by omega)
  · rw [f4, m5]
  · rw [f5, m6]
  · rw [hu' 1 (by decide) (by decide) (by decide) (by decide) (by decide) (by decide)]; exact e6 v a b
  · exact Or.inl m8
  · rw [f8] at q; omega
  · rw [m8] at q; omega
theorem emod_in {x n : Int} : 0 ≤ x % p2 n ∧ x % p2 n < p2 n := ⟨Int.emod_nonneg _ (by have := p2_pos n; omega), Int.emod_lt_of_pos _ (by have := p2_pos n; omega)⟩
theorem LI.clause (h : LI S T M) {z z' : Int} {u u' : Sv} (hz : (S 3 0 = 400 ∧ z = -3 ∧ u = S) ∨ (S 3 0 < 400 ∧ z = S 3 0 + 1 ∧ u = oKeep S (S 4 0) (S 5 0))) (hz' : (M 4 0 = 400 ∧ z' = -3 ∧ u' = M) ∨ (M 4 0 < 400 ∧ z' = M 4 0 + 1 ∧ u' = u2 (u2 (mSome M (M 5 0) (M 6 0)) 5 0 0) 6 0 0)) : z = z' ∧ LI u T u' := by
  have e2 := h.2.2.1
  have e1 := h.2.1
  have e4 := h.2.2.2.2.1
  have e5 := h.2.2.2.2.2.1
  rcases hz with ⟨q1, rfl, rfl⟩ | ⟨q1, rfl, q3⟩
  · rcases hz' with ⟨-, rfl, rfl⟩ | ⟨r1, -⟩
    · exact ⟨rfl, h⟩
    · omega
  · rcases hz' with ⟨r1, -⟩ | ⟨-, rfl, rfl⟩
    · omega
    · have o4 := h.1.2.2.2.1
      have o5 := h.1.2.2.2.2.1
      have p := p2_pos (S 6 0)
      refine ⟨by omega, h.add q1 (y := S 4 0) (n := S 5 0) (oy := 0) (on := 0) o4 o5 (by omega) (by omega) ?_ (fun k k2 k3 k4 k5 k6 k8 => ?_) ?_ ?_ ?_ ?_ (u2_ss _ _ _ _) ?_⟩
      · rw [q3]; unfold oKeep
        funext k i
        by_cases k5 : k = 5
        · subst k5
          show up (S 5) 0 0 i = up (up (S 5) 0 0) 0 0 i
          by_cases ei : i = 0
          · rw [ei, up_s, up_s]
          · rw [up_n _ _ ei, up_n _ _ ei, up_n _ _ ei]
        · by_cases k4 : k = 4
          · subst k4
            show up (S 4) 0 0 i = up (up (S 4) 0 0) 0 0 i
            by_cases ei : i = 0
            · rw [ei, up_s, up_s]
            · rw [up_n _ _ ei, up_n _ _ ei, up_n _ _ ei]
          · rw [u2_n _ _ _ k5, u2_n _ _ _ k4]
      · unfold mSome
        rw [u2_n _ _ _ k6, u2_n _ _ _ k5, u2_n _ _ _ k8, u2_n _ _ _ k4, u2_n _ _ _ k3, u2_n _ _ _ k2]
      · show up (M 2) (M 4 0) (M 5 0 % p2 (M 0 0)) = _
        rw [e4, e1, Int.emod_eq_of_lt o4.1 o4.2]
      · show up (M 3) (M 4 0) (M 6 0 % p2 (M 0 0)) = _
        rw [e5, e1, Int.emod_eq_of_lt o5.1 o5.2]
      · show up (M 4) 0 (M 4 0 + 1) 0 = _; rw [up_s]
      · show up (M 5) 0 0 0 = _; rw [up_s]
      · show up (M 8) 0 0 0 = _; rw [up_s]
theorem LI.some (h : LI S T M) {y n z z' : Int} {u u' : Sv} (hz : (S 3 0 = 400 ∧ z = -3 ∧ u = S) ∨ (S 3 0 < 400 ∧ z = S 3 0 + 1 ∧ u = oSome S y n)) (hz' : (M 4 0 = 400 ∧ z' = -3 ∧ u' = M) ∨ (M 4 0 < 400 ∧ z' = M 4 0 + 1 ∧ u' = mSome M y n)) : z = z' ∧ LI u T u' := by
  have e2 := h.2.2.1
  have e1 := h.2.1
  have e4 := h.2.2.2.2.1
  have e5 := h.2.2.2.2.2.1
  rcases hz with ⟨q1, rfl, rfl⟩ | ⟨q1, rfl, q3⟩
  · rcases hz' with ⟨-, rfl, rfl⟩ | ⟨r1, -⟩
    · exact ⟨rfl, h⟩
    · omega
  · rcases hz' with ⟨r1, -⟩ | ⟨-, rfl, rfl⟩
    · omega
    · refine ⟨by omega, h.add q1 (y := y % p2 (S 6 0)) (n := n % p2 (S 6 0)) (oy := S 4 0) (on := S 5 0) emod_in emod_in h.1.2.2.2.1 h.1.2.2.2.2.1 q3 (fun k k2 k3 k4 k5 k6 k8 => ?_) ?_ ?_ ?_ e4 e5 ?_⟩
      · unfold mSome
        rw [u2_n _ _ _ k8, u2_n _ _ _ k4, u2_n _ _ _ k3, u2_n _ _ _ k2]
      · show up (M 2) (M 4 0) (y % p2 (M 0 0)) = _; rw [e1]
      · show up (M 3) (M 4 0) (n % p2 (M 0 0)) = _; rw [e1]
      · show up (M 4) 0 (M 4 0 + 1) 0 = _; rw [up_s]
      · show up (M 8) 0 0 0 = _; rw [up_s]
theorem LI.drop (h : LI S T M) {k z z' : Int} {u u' : Sv} (hz : (0 ≤ k ∧ k < S 3 0 ∧ z = S 3 0 - 1 ∧ u = oDrop S k) ∨ (¬ (0 ≤ k ∧ k < S 3 0) ∧ z = -2 ∧ u = S)) (hz' : (0 ≤ k ∧ k < M 4 0 ∧ z' = M 4 0 - 1 ∧ u' = mDrop M k) ∨ (¬ (0 ≤ k ∧ k < M 4 0) ∧ z' = -2 ∧ u' = M)) : z = z' ∧ LI u T u' := by
  have h0 := h
  obtain ⟨⟨o1, o2, o3, o4, o5, o6, o7, o8⟩, e1, e2, e3, e4, e5, e6, e7, e8, e9, e10⟩ := h
  rw [e2] at hz'
  rcases hz with ⟨q1, q2, q3, rfl⟩ | ⟨q1, rfl, rfl⟩
  · rcases hz' with ⟨r1, r2, r3, rfl⟩ | ⟨r1, -⟩
    · have f3 : (oDrop S k) 3 0 = S 3 0 - 1 := (show up (S 3) 0 (S 3 0 - 1) 0 = _ by rw [up_s])
      have f8 : (oDrop S k) 8 0 = 0 := (show up (S 8) 0 0 0 = _ by rw [up_s])
      have g4 : (mDrop M k) 4 0 = S 3 0 - 1 := (show up (M 4) 0 (M 4 0 - 1) 0 = _ by rw [up_s, e2])
      have g8 : (mDrop M k) 8 0 = 0 := (show up (M 8) 0 0 0 = _ by rw [up_s])
      refine ⟨by omega, ⟨o1, by rw [f3]; omega, fun i a b => ?_, o4, o5, o6, Or.inl f8, o8⟩, e1, by rw [f3, g4], fun i a b => ?_, e4, e5, e6, Or.inl g8, e8, fun q => by rw [f8] at q; omega, fun q => by rw [g8] at q; omega⟩
      · rw [f3] at b
        show (0 ≤ up (S 1) k (S 1 (S 3 0 - 1)) i ∧ up (S 1) k (S 1 (S 3 0 - 1)) i < p2 (S 6 0)) ∧ (0 ≤ up (S 2) k (S 2 (S 3 0 - 1)) i ∧ up (S 2) k (S 2 (S 3 0 - 1)) i < p2 (S 6 0))
        by_cases e : i = k
        · rw [e, up_s, up_s]; exact o3 (S 3 0 - 1) (by omega) (by omega)
        · rw [up_n _ _ e, up_n _ _ e]; exact o3 i a (by omega)
      · rw [f3] at b
        show up (M 2) k (M 2 (M 4 0 - 1)) i = up (S 1) k (S 1 (S 3 0 - 1)) i ∧ up (M 3) k (M 3 (M 4 0 - 1)) i = up (S 2) k (S 2 (S 3 0 - 1)) i
        rw [e2]
        by_cases e : i = k
        · rw [e, up_s, up_s, up_s, up_s]; exact e3 (S 3 0 - 1) (by omega) (by omega)
        · rw [up_n _ _ e, up_n _ _ e, up_n _ _ e, up_n _ _ e]; exact e3 i a (by omega)
    · exact absurd ⟨q1, q2⟩ r1
  · rcases hz' with ⟨r1, r2, -⟩ | ⟨-, rfl, rfl⟩
    · exact absurd ⟨r1, r2⟩ q1
    · exact ⟨rfl, h0⟩
theorem LI.count (h : LI S T M) {x z z' : Int} (hz : z = if x = 0 then S 6 0 else if x = 1 then S 3 0 else if x = 2 then pcnt (S 4 0) + pcnt (S 5 0) else -1) (hz' : z' = if x = 0 then M 0 0 else if x = 1 then M 4 0 else if x = 2 then pcnt (M 5 0) + pcnt (M 6 0) else -1) : z = z' := by
  rw [hz, hz', h.2.1, h.2.2.1, h.2.2.2.2.1, h.2.2.2.2.2.1]
/-- the two formulas are one -/
theorem LI.frm (h : LI S T M) : mF M = Fm (S 1) (S 2) (S 6 0) (S 3 0) := by
  obtain ⟨-, e1, e2, e3, -⟩ := h
  unfold mF
  rw [e1, e2]
  funext μ
  refine propext ⟨fun q k a b => ?_, fun q k a b => ?_⟩
  · have := q k a b; rw [(e3 k a b).1, (e3 k a b).2] at this; exact this
  · rw [(e3 k a b).1, (e3 k a b).2]; exact q k a b
/-- what both sides know -/
theorem LI.agree (h : LI S T M) {U V : Sv} (ho : ∀ k, k ≠ 8 → k ≠ 9 → U k = S k) (hK : KN U V) {a : Int} (ha : MA M a) : (U 9 0 = 0 ∧ a = -2) ∨ (U 9 0 = 1 ∧ 0 ≤ a ∧ a = bs (fun v => decide (0 < V 11 v)) (S 6 0).toNat) := by
  have ef := h.frm
  have ew := h.2.2.2.2.2.2.1
  have en := h.1.1
  have u1 := ho 1 (by decide) (by decide)
  have u2' := ho 2 (by decide) (by decide)
  have u3 := ho 3 (by decide) (by decide)
  have u6 := ho 6 (by decide) (by decide)
  have u7 := ho 7 (by decide) (by decide)
  unfold KN at hK
  rw [u1, u2', u3, u6, u7] at hK
  obtain ⟨ha, -⟩ := ha
  rw [ef, h.2.1] at ha
  rcases hK with ⟨k1, k2⟩ | ⟨k1, k2, -⟩
  · rcases ha with ⟨a1, -⟩ | ⟨M', a1, -⟩
    · exact Or.inl ⟨k1, a1⟩
    · exact absurd a1.1 (k2 M')
  · rcases ha with ⟨-, a2⟩ | ⟨M', a1, a2⟩
    · exact absurd k2.1 (a2 _)
    · have a3 := a1.wish (w' := S 7) (fun v x y => (ew v x (by omega)).symm)
      have eb := bs_congr (M := M') (M' := fun v => decide (0 < V 11 v)) (S 6 0).toNat (fun v x y => First.one a3 k2 (v + 1).toNat v (by omega) x (by omega))
      refine Or.inr ⟨k1, ?_, by rw [a2, eb]⟩
      rw [a2]; exact (bs_lt M' _).1
/-- the outer side has solved -/
theorem LI.outer (h : LI S T M) {U V : Sv} (h3 : V 3 0 = 0) (h8 : U 8 0 = 1) (h9 : U 9 0 = 0 ∨ U 9 0 = 1) (hK : KN U V) (ho : ∀ k, k ≠ 8 → k ≠ 9 → U k = S k) : LI U V M := by
  obtain ⟨⟨o1, o2, o3, o4, o5, o6, o7, o8⟩, e1, e2, e3, e4, e5, e6, e7, e8, e9, e10⟩ := h
  unfold LI OI
  rw [ho 1 (by decide) (by decide), ho 2 (by decide) (by decide), ho 3 (by decide) (by decide), ho 4 (by decide) (by decide), ho 5 (by decide) (by decide), ho 6 (by decide) (by decide), ho 7 (by decide) (by decide)]
  exact ⟨⟨o1, o2, o3, o4, o5, o6, Or.inr h8, h9⟩, e1, e2, e3, e4, e5, e6, e7, h3, fun _ => hK, e10⟩
/-- the model has solved -/
theorem LI.model (h : LI S T M) {a : Int} {U : Sv} (hu : AM M a U) : LI S T U := by
  obtain ⟨⟨o1, o2, o3, o4, o5, o6, o7, o8⟩, e1, e2, e3, e4, e5, e6, e7, e8, e9, e10⟩ := h
  obtain ⟨a1, a2, a3, ho⟩ := hu
  have hma : MA U (U 7 0) := by
    rw [a3]
    unfold MA mF at a1 ⊢
    rw [ho 0 (by decide) (by decide), ho 1 (by decide) (by decide), ho 2 (by decide) (by decide), ho 3 (by decide) (by decide), ho 4 (by decide) (by decide)]
    exact a1
  unfold LI
  rw [ho 0 (by decide) (by decide), ho 1 (by decide) (by decide), ho 2 (by decide) (by decide), ho 3 (by decide) (by decide), ho 4 (by decide) (by decide), ho 5 (by decide) (by decide), ho 6 (by decide) (by decide)]
  exact ⟨⟨o1, o2, o3, o4, o5, o6, o7, o8⟩, e1, e2, e3, e4, e5, e6, Or.inr a2, e8, e9, fun _ => hma⟩
/-- the start -/
theorem LI.start (a : Int) : LI (u2 zS 6 0 (nvar a)) zS (u2 zS 0 0 (nvar a)) := by
  have h6 : (u2 zS 6 0 (nvar a)) 6 0 = nvar a := u2_ss _ _ _ _
  have h0 : (u2 zS 0 0 (nvar a)) 0 0 = nvar a := u2_ss _ _ _ _
  have nv := nvar_in a
  have p := p2_pos (nvar a)
  refine ⟨⟨by rw [h6]; exact nv, ⟨Int.le_refl 0, (by decide : (0 : Int) ≤ 400)⟩, fun k x y => ?_, ?_, ?_, fun v _ _ => Or.inl rfl, Or.inl rfl, Or.inl rfl⟩, by rw [h6, h0], rfl, fun k _ _ => ⟨rfl, rfl⟩, rfl, rfl, fun v _ _ => rfl, Or.inl rfl, rfl, fun q => ?_, fun q => ?_⟩
  · have y : k < 0 := y
    omega
  · rw [h6]; exact ⟨Int.le_refl 0, show (0 : Int) < _ by omega⟩
  · rw [h6]; exact ⟨Int.le_refl 0, show (0 : Int) < _ by omega⟩
  · have q : (0 : Int) = 1 := q
    omega
  · have q : (0 : Int) = 1 := q
    omega
end
end
section
/-! the law: decode rows; the skeleton's words (STARTING TEXT) -/
theorem d_La_law_0 : decode b_La_law 0 = .ok (.new 7, 3) := by decide +kernel
theorem d_La_law_3 : decode b_La_law 3 = .ok (.dup, 1) := by decide +kernel
theorem d_La_law_4 : decode b_La_law 4 = .ok (.aload_n 0, 1) := by decide +kernel
theorem d_La_law_5 : decode b_La_law 5 = .ok (.iconst 0, 1) := by decide +kernel
theorem d_La_law_6 : decode b_La_law 6 = .ok (.invokestatic 9, 3) := by decide +kernel
theorem d_La_law_9 : decode b_La_law 9 = .ok (.invokespecial 15, 3) := by decide +kernel
theorem d_La_law_12 : decode b_La_law 12 = .ok (.astore_n 1, 1) := by decide +kernel
theorem d_La_law_13 : decode b_La_law 13 = .ok (.new 18, 3) := by decide +kernel
theorem d_La_law_16 : decode b_La_law 16 = .ok (.dup, 1) := by decide +kernel
theorem d_La_law_17 : decode b_La_law 17 = .ok (.aload_n 0, 1) := by decide +kernel
theorem d_La_law_18 : decode b_La_law 18 = .ok (.iconst 0, 1) := by decide +kernel
theorem d_La_law_19 : decode b_La_law 19 = .ok (.invokestatic 9, 3) := by decide +kernel
theorem d_La_law_22 : decode b_La_law 22 = .ok (.invokespecial 20, 3) := by decide +kernel
theorem d_La_law_25 : decode b_La_law 25 = .ok (.astore_n 2, 1) := by decide +kernel
theorem d_La_law_26 : decode b_La_law 26 = .ok (.iconst 1, 1) := by decide +kernel
theorem d_La_law_27 : decode b_La_law 27 = .ok (.istore_n 3, 1) := by decide +kernel
theorem d_La_law_28 : decode b_La_law 28 = .ok (.iload_n 3, 1) := by decide +kernel
theorem d_La_law_29 : decode b_La_law 29 = .ok (.aload_n 0, 1) := by decide +kernel
theorem d_La_law_30 : decode b_La_law 30 = .ok (.arraylength, 1) := by decide +kernel
theorem d_La_law_31 : decode b_La_law 31 = .ok (.iconst 3, 1) := by decide +kernel
theorem d_La_law_32 : decode b_La_law 32 = .ok (.isub, 1) := by decide +kernel
theorem d_La_law_33 : decode b_La_law 33 = .ok (.if_icmp .gt 277, 3) := by decide +kernel
theorem d_La_law_36 : decode b_La_law 36 = .ok (.aload_n 0, 1) := by decide +kernel
theorem d_La_law_37 : decode b_La_law 37 = .ok (.iload_n 3, 1) := by decide +kernel
theorem d_La_law_38 : decode b_La_law 38 = .ok (.iaload, 1) := by decide +kernel
theorem d_La_law_39 : decode b_La_law 39 = .ok (.bipush 7, 2) := by decide +kernel
theorem d_La_law_41 : decode b_La_law 41 = .ok (.iand, 1) := by decide +kernel
theorem d_La_law_42 : decode b_La_law 42 = .ok (.tableswitch 262 0 7 #[46, 95, 144, 157, 190, 213, 226, 239], 46) := by decide +kernel
theorem d_La_law_88 : decode b_La_law 88 = .ok (.aload_n 1, 1) := by decide +kernel
theorem d_La_law_89 : decode b_La_law 89 = .ok (.aload_n 0, 1) := by decide +kernel
theorem d_La_law_90 : decode b_La_law 90 = .ok (.iload_n 3, 1) := by decide +kernel
theorem d_La_law_91 : decode b_La_law 91 = .ok (.iconst 1, 1) := by decide +kernel
theorem d_La_law_92 : decode b_La_law 92 = .ok (.iadd, 1) := by decide +kernel
theorem d_La_law_93 : decode b_La_law 93 = .ok (.iaload, 1) := by decide +kernel
theorem d_La_law_94 : decode b_La_law 94 = .ok (.aload_n 0, 1) := by decide +kernel
theorem d_La_law_95 : decode b_La_law 95 = .ok (.iload_n 3, 1) := by decide +kernel
theorem d_La_law_96 : decode b_La_law 96 = .ok (.iconst 2, 1) := by decide +kernel
theorem d_La_law_97 : decode b_La_law 97 = .ok (.iadd, 1) := by decide +kernel
theorem d_La_law_98 : decode b_La_law 98 = .ok (.iaload, 1) := by decide +kernel
theorem d_La_law_99 : decode b_La_law 99 = .ok (.ifCond .eq 7, 3) := by decide +kernel
theorem d_La_law_102 : decode b_La_law 102 = .ok (.iconst 1, 1) := by decide +kernel
theorem d_La_law_103 : decode b_La_law 103 = .ok (.goto 4, 3) := by decide +kernel
theorem d_La_law_106 : decode b_La_law 106 = .ok (.iconst 0, 1) := by decide +kernel
theorem d_La_law_107 : decode b_La_law 107 = .ok (.invokevirtual 21, 3) := by decide +kernel
theorem d_La_law_110 : decode b_La_law 110 = .ok (.aload_n 2, 1) := by decide +kernel
theorem d_La_law_111 : decode b_La_law 111 = .ok (.aload_n 0, 1) := by decide +kernel
theorem d_La_law_112 : decode b_La_law 112 = .ok (.iload_n 3, 1) := by decide +kernel
theorem d_La_law_113 : decode b_La_law 113 = .ok (.iconst 1, 1) := by decide +kernel
theorem d_La_law_114 : decode b_La_law 114 = .ok (.iadd, 1) := by decide +kernel
theorem d_La_law_115 : decode b_La_law 115 = .ok (.iaload, 1) := by decide +kernel
theorem d_La_law_116 : decode b_La_law 116 = .ok (.aload_n 0, 1) := by decide +kernel
theorem d_La_law_117 : decode b_La_law 117 = .ok (.iload_n 3, 1) := by decide +kernel
theorem d_La_law_118 : decode b_La_law 118 = .ok (.iconst 2, 1) := by decide +kernel
theorem d_La_law_119 : decode b_La_law 119 = .ok (.iadd, 1) := by decide +kernel
theorem d_La_law_120 : decode b_La_law 120 = .ok (.iaload, 1) := by decide +kernel
theorem d_La_law_121 : decode b_La_law 121 = .ok (.ifCond .eq 7, 3) := by decide +kernel
theorem d_La_law_124 : decode b_La_law 124 = .ok (.iconst 1, 1) := by decide +kernel
theorem d_La_law_125 : decode b_La_law 125 = .ok (.goto 4, 3) := by decide +kernel
theorem d_La_law_128 : decode b_La_law 128 = .ok (.iconst 0, 1) := by decide +kernel
theorem d_La_law_129 : decode b_La_law 129 = .ok (.invokevirtual 25, 3) := by decide +kernel
theorem d_La_law_132 : decode b_La_law 132 = .ok (.if_icmp .eq 172, 3) := by decide +kernel
theorem d_La_law_135 : decode b_La_law 135 = .ok (.iconst 0, 1) := by decide +kernel
theorem d_La_law_136 : decode b_La_law 136 = .ok (.ireturn, 1) := by decide +kernel
theorem d_La_law_137 : decode b_La_law 137 = .ok (.aload_n 1, 1) := by decide +kernel
theorem d_La_law_138 : decode b_La_law 138 = .ok (.aload_n 0, 1) := by decide +kernel
theorem d_La_law_139 : decode b_La_law 139 = .ok (.iload_n 3, 1) := by decide +kernel
theorem d_La_law_140 : decode b_La_law 140 = .ok (.iconst 1, 1) := by decide +kernel
theorem d_La_law_141 : decode b_La_law 141 = .ok (.iadd, 1) := by decide +kernel
theorem d_La_law_142 : decode b_La_law 142 = .ok (.iaload, 1) := by decide +kernel
theorem d_La_law_143 : decode b_La_law 143 = .ok (.aload_n 0, 1) := by decide +kernel
theorem d_La_law_144 : decode b_La_law 144 = .ok (.iload_n 3, 1) := by decide +kernel
theorem d_La_law_145 : decode b_La_law 145 = .ok (.iconst 2, 1) := by decide +kernel
theorem d_La_law_146 : decode b_La_law 146 = .ok (.iadd, 1) := by decide +kernel
theorem d_La_law_147 : decode b_La_law 147 = .ok (.iaload, 1) := by decide +kernel
theorem d_La_law_148 : decode b_La_law 148 = .ok (.ifCond .eq 7, 3) := by decide +kernel
theorem d_La_law_151 : decode b_La_law 151 = .ok (.iconst 1, 1) := by decide +kernel
theorem d_La_law_152 : decode b_La_law 152 = .ok (.goto 4, 3) := by decide +kernel
theorem d_La_law_155 : decode b_La_law 155 = .ok (.iconst 0, 1) := by decide +kernel
theorem d_La_law_156 : decode b_La_law 156 = .ok (.invokevirtual 26, 3) := by decide +kernel
theorem d_La_law_159 : decode b_La_law 159 = .ok (.aload_n 2, 1) := by decide +kernel
theorem d_La_law_160 : decode b_La_law 160 = .ok (.aload_n 0, 1) := by decide +kernel
theorem d_La_law_161 : decode b_La_law 161 = .ok (.iload_n 3, 1) := by decide +kernel
theorem d_La_law_162 : decode b_La_law 162 = .ok (.iconst 1, 1) := by decide +kernel
theorem d_La_law_163 : decode b_La_law 163 = .ok (.iadd, 1) := by decide +kernel
theorem d_La_law_164 : decode b_La_law 164 = .ok (.iaload, 1) := by decide +kernel
theorem d_La_law_165 : decode b_La_law 165 = .ok (.aload_n 0, 1) := by decide +kernel
theorem d_La_law_166 : decode b_La_law 166 = .ok (.iload_n 3, 1) := by decide +kernel
theorem d_La_law_167 : decode b_La_law 167 = .ok (.iconst 2, 1) := by decide +kernel
theorem d_La_law_168 : decode b_La_law 168 = .ok (.iadd, 1) := by decide +kernel
theorem d_La_law_169 : decode b_La_law 169 = .ok (.iaload, 1) := by decide +kernel
theorem d_La_law_170 : decode b_La_law 170 = .ok (.ifCond .eq 7, 3) := by decide +kernel
theorem d_La_law_173 : decode b_La_law 173 = .ok (.iconst 1, 1) := by decide +kernel
theorem d_La_law_174 : decode b_La_law 174 = .ok (.goto 4, 3) := by decide +kernel
theorem d_La_law_177 : decode b_La_law 177 = .ok (.iconst 0, 1) := by decide +kernel
theorem d_La_law_178 : decode b_La_law 178 = .ok (.invokevirtual 30, 3) := by decide +kernel
theorem d_La_law_181 : decode b_La_law 181 = .ok (.if_icmp .eq 123, 3) := by decide +kernel
theorem d_La_law_184 : decode b_La_law 184 = .ok (.iconst 0, 1) := by decide +kernel
theorem d_La_law_185 : decode b_La_law 185 = .ok (.ireturn, 1) := by decide +kernel
theorem d_La_law_186 : decode b_La_law 186 = .ok (.aload_n 1, 1) := by decide +kernel
theorem d_La_law_187 : decode b_La_law 187 = .ok (.invokevirtual 31, 3) := by decide +kernel
theorem d_La_law_190 : decode b_La_law 190 = .ok (.aload_n 2, 1) := by decide +kernel
theorem d_La_law_191 : decode b_La_law 191 = .ok (.invokevirtual 35, 3) := by decide +kernel
theorem d_La_law_194 : decode b_La_law 194 = .ok (.if_icmp .eq 110, 3) := by decide +kernel
theorem d_La_law_197 : decode b_La_law 197 = .ok (.iconst 0, 1) := by decide +kernel
theorem d_La_law_198 : decode b_La_law 198 = .ok (.ireturn, 1) := by decide +kernel
theorem d_La_law_199 : decode b_La_law 199 = .ok (.aload_n 1, 1) := by decide +kernel
theorem d_La_law_200 : decode b_La_law 200 = .ok (.aload_n 0, 1) := by decide +kernel
theorem d_La_law_201 : decode b_La_law 201 = .ok (.iload_n 3, 1) := by decide +kernel
theorem d_La_law_202 : decode b_La_law 202 = .ok (.iconst 1, 1) := by decide +kernel
theorem d_La_law_203 : decode b_La_law 203 = .ok (.iadd, 1) := by decide +kernel
theorem d_La_law_204 : decode b_La_law 204 = .ok (.iaload, 1) := by decide +kernel
theorem d_La_law_205 : decode b_La_law 205 = .ok (.aload_n 0, 1) := by decide +kernel
theorem d_La_law_206 : decode b_La_law 206 = .ok (.iload_n 3, 1) := by decide +kernel
theorem d_La_law_207 : decode b_La_law 207 = .ok (.iconst 2, 1) := by decide +kernel
theorem d_La_law_208 : decode b_La_law 208 = .ok (.iadd, 1) := by decide +kernel
theorem d_La_law_209 : decode b_La_law 209 = .ok (.iaload, 1) := by decide +kernel
theorem d_La_law_210 : decode b_La_law 210 = .ok (.invokevirtual 36, 3) := by decide +kernel
theorem d_La_law_213 : decode b_La_law 213 = .ok (.aload_n 2, 1) := by decide +kernel
theorem d_La_law_214 : decode b_La_law 214 = .ok (.aload_n 0, 1) := by decide +kernel
theorem d_La_law_215 : decode b_La_law 215 = .ok (.iload_n 3, 1) := by decide +kernel
theorem d_La_law_216 : decode b_La_law 216 = .ok (.iconst 1, 1) := by decide +kernel
theorem d_La_law_217 : decode b_La_law 217 = .ok (.iadd, 1) := by decide +kernel
theorem d_La_law_218 : decode b_La_law 218 = .ok (.iaload, 1) := by decide +kernel
theorem d_La_law_219 : decode b_La_law 219 = .ok (.aload_n 0, 1) := by decide +kernel
theorem d_La_law_220 : decode b_La_law 220 = .ok (.iload_n 3, 1) := by decide +kernel
theorem d_La_law_221 : decode b_La_law 221 = .ok (.iconst 2, 1) := by decide +kernel
theorem d_La_law_222 : decode b_La_law 222 = .ok (.iadd, 1) := by decide +kernel
theorem d_La_law_223 : decode b_La_law 223 = .ok (.iaload, 1) := by decide +kernel
theorem d_La_law_224 : decode b_La_law 224 = .ok (.invokevirtual 40, 3) := by decide +kernel
theorem d_La_law_227 : decode b_La_law 227 = .ok (.if_icmp .eq 77, 3) := by decide +kernel
theorem d_La_law_230 : decode b_La_law 230 = .ok (.iconst 0, 1) := by decide +kernel
theorem d_La_law_231 : decode b_La_law 231 = .ok (.ireturn, 1) := by decide +kernel
theorem d_La_law_232 : decode b_La_law 232 = .ok (.aload_n 1, 1) := by decide +kernel
theorem d_La_law_233 : decode b_La_law 233 = .ok (.aload_n 0, 1) := by decide +kernel
theorem d_La_law_234 : decode b_La_law 234 = .ok (.iload_n 3, 1) := by decide +kernel
theorem d_La_law_235 : decode b_La_law 235 = .ok (.iconst 1, 1) := by decide +kernel
theorem d_La_law_236 : decode b_La_law 236 = .ok (.iadd, 1) := by decide +kernel
theorem d_La_law_237 : decode b_La_law 237 = .ok (.iaload, 1) := by decide +kernel
theorem d_La_law_238 : decode b_La_law 238 = .ok (.invokevirtual 41, 3) := by decide +kernel
theorem d_La_law_241 : decode b_La_law 241 = .ok (.aload_n 2, 1) := by decide +kernel
theorem d_La_law_242 : decode b_La_law 242 = .ok (.aload_n 0, 1) := by decide +kernel
theorem d_La_law_243 : decode b_La_law 243 = .ok (.iload_n 3, 1) := by decide +kernel
theorem d_La_law_244 : decode b_La_law 244 = .ok (.iconst 1, 1) := by decide +kernel
theorem d_La_law_245 : decode b_La_law 245 = .ok (.iadd, 1) := by decide +kernel
theorem d_La_law_246 : decode b_La_law 246 = .ok (.iaload, 1) := by decide +kernel
theorem d_La_law_247 : decode b_La_law 247 = .ok (.invokevirtual 45, 3) := by decide +kernel
theorem d_La_law_250 : decode b_La_law 250 = .ok (.if_icmp .eq 54, 3) := by decide +kernel
theorem d_La_law_253 : decode b_La_law 253 = .ok (.iconst 0, 1) := by decide +kernel
theorem d_La_law_254 : decode b_La_law 254 = .ok (.ireturn, 1) := by decide +kernel
theorem d_La_law_255 : decode b_La_law 255 = .ok (.aload_n 1, 1) := by decide +kernel
theorem d_La_law_256 : decode b_La_law 256 = .ok (.invokevirtual 46, 3) := by decide +kernel
theorem d_La_law_259 : decode b_La_law 259 = .ok (.aload_n 2, 1) := by decide +kernel
theorem d_La_law_260 : decode b_La_law 260 = .ok (.invokevirtual 50, 3) := by decide +kernel
theorem d_La_law_263 : decode b_La_law 263 = .ok (.if_icmp .eq 41, 3) := by decide +kernel
theorem d_La_law_266 : decode b_La_law 266 = .ok (.iconst 0, 1) := by decide +kernel
theorem d_La_law_267 : decode b_La_law 267 = .ok (.ireturn, 1) := by decide +kernel
theorem d_La_law_268 : decode b_La_law 268 = .ok (.aload_n 1, 1) := by decide +kernel
theorem d_La_law_269 : decode b_La_law 269 = .ok (.invokevirtual 51, 3) := by decide +kernel
theorem d_La_law_272 : decode b_La_law 272 = .ok (.aload_n 2, 1) := by decide +kernel
theorem d_La_law_273 : decode b_La_law 273 = .ok (.invokevirtual 54, 3) := by decide +kernel
theorem d_La_law_276 : decode b_La_law 276 = .ok (.if_icmp .eq 28, 3) := by decide +kernel
theorem d_La_law_279 : decode b_La_law 279 = .ok (.iconst 0, 1) := by decide +kernel
theorem d_La_law_280 : decode b_La_law 280 = .ok (.ireturn, 1) := by decide +kernel
theorem d_La_law_281 : decode b_La_law 281 = .ok (.aload_n 1, 1) := by decide +kernel
theorem d_La_law_282 : decode b_La_law 282 = .ok (.aload_n 0, 1) := by decide +kernel
theorem d_La_law_283 : decode b_La_law 283 = .ok (.iload_n 3, 1) := by decide +kernel
theorem d_La_law_284 : decode b_La_law 284 = .ok (.iconst 1, 1) := by decide +kernel
theorem d_La_law_285 : decode b_La_law 285 = .ok (.iadd, 1) := by decide +kernel
theorem d_La_law_286 : decode b_La_law 286 = .ok (.iaload, 1) := by decide +kernel
theorem d_La_law_287 : decode b_La_law 287 = .ok (.invokevirtual 55, 3) := by decide +kernel
theorem d_La_law_290 : decode b_La_law 290 = .ok (.aload_n 2, 1) := by decide +kernel
theorem d_La_law_291 : decode b_La_law 291 = .ok (.aload_n 0, 1) := by decide +kernel
theorem d_La_law_292 : decode b_La_law 292 = .ok (.iload_n 3, 1) := by decide +kernel
theorem d_La_law_293 : decode b_La_law 293 = .ok (.iconst 1, 1) := by decide +kernel
theorem d_La_law_294 : decode b_La_law 294 = .ok (.iadd, 1) := by decide +kernel
theorem d_La_law_295 : decode b_La_law 295 = .ok (.iaload, 1) := by decide +kernel
theorem d_La_law_296 : decode b_La_law 296 = .ok (.invokevirtual 58, 3) := by decide +kernel
theorem d_La_law_299 : decode b_La_law 299 = .ok (.if_icmp .eq 5, 3) := by decide +kernel
theorem d_La_law_302 : decode b_La_law 302 = .ok (.iconst 0, 1) := by decide +kernel
theorem d_La_law_303 : decode b_La_law 303 = .ok (.ireturn, 1) := by decide +kernel
theorem d_La_law_304 : decode b_La_law 304 = .ok (.iinc 3 3, 3) := by decide +kernel
theorem d_La_law_307 : decode b_La_law 307 = .ok (.goto (-279), 3) := by decide +kernel
theorem d_La_law_310 : decode b_La_law 310 = .ok (.iconst 1, 1) := by decide +kernel
theorem d_La_law_311 : decode b_La_law 311 = .ok (.ireturn, 1) := by decide +kernel
/-! THE CLAIM OUT OF ONE WALK OF THE LAW'S BODY. Your part is whole_start (and what it stands on); all else here is the same for every law, but numbers. -/
def lw_P (b : Addr) (xs : List Int32) (args : Array Value) (s : State) : Prop := args = #[.ref b] ∧ s.IntsAt b xs ∧ xs.length ≤ 1537 ∧ (Jvm.Cond.and given_1 narrow_1).before args s = true
def lw_Q (_ : Array Value) (s : State) (o : Outcome) (t : State) : Prop := o = .returned (some (.int 1)) ∧ Framed s o t [] 600000 7302250
def lw_Z (below : List Frame) (a : Array Value) (s : State) : State → Prop := fun t => ∃ o, t.status = .running ∧ Ended t below o ∧ lw_Q a s o t
/-- the law's own end, with 1 on the stack, nothing written that was there before, its room as the claim has it -/
theorem lw_ret {p : Program} {l : Launch} {e : Env} {s : State} {m : MethodId} {below : List Frame} {meth : Method} {c : Code} {b : Nat} (hx : p.tables.exec = Jvm.exec) (hb : c.code = code) (hr : meth.sig.returnType = ret) (hlocks : meth.locks = false) {pc : Nat} {H : Heap} {ls : Array Slot} (hdg : decode code pc = .ok (.ireturn, 1)) : W p l e room_1 s m #[Value.ref b] below meth c H [] 600000 7302250 (lw_Z below #[Value.ref b] s) (F0 m pc ls [.int 1]) := by
  intro T hT X
  obtain ⟨fs, hret, hrun, hended, hW, hframe⟩ := X.leave (v := some (.int 1)) (hlocks := hlocks) (fun h => by rw [hr] at h; cases h)
  have hmeth' : T.vm.method? m = some meth := X.method'
  refine ⟨T.setFrames fs, ?_, .returned (some (.int 1)), hrun, hended, rfl, ⟨_, rfl⟩, hW, hframe⟩
  jvm_step X.here [X.here.top, hx, hb, hdg, hmeth', hr, ret, narrow_b1]
  (try refine ⟨rfl, ?_⟩); (try refine ⟨rfl, ?_⟩)
  first | (intro acts; rw [hret _ acts rfl rfl rfl]) | rw [hret _ _ rfl rfl rfl]
  exact Steps.refl _
/-- what holds at the law's entry: the machine, the code, the tables' words (any of lw_tbl by 'hts w (by decide +kernel)'), the script of L ints xs at the cell b, what the Statement gives of the start (any of its parts by flat_of_before) -/
def lw_At (p : Program) (s : State) (m : MethodId) (meth : Method) (c : Code) (b L : Nat) (xs : Nat → Int32) : Prop :=
  p.tables.exec = Jvm.exec ∧ c.code = code ∧ meth.sig.returnType = ret ∧ c.maxLocals = 4 ∧ s.vm.findClass R_law = some m.cls ∧ (∀ w ∈ lw_tbl, w.before #[Value.ref b] s = true) ∧ va_X b L xs s s.heap ∧ b < s.heap.size ∧ meth.locks = false ∧ (Jvm.Cond.and given_1 narrow_1).before #[Value.ref b] s = true
end
section
/-! the law's loop -/
/-- the script's ints as whole numbers -/
def sX (xs : Nat → Int32) (i : Int) : Int := (xs i.toNat).toInt
theorem sX_rg (xs : Nat → Int32) (i : Int) : rg (sX xs i) := ⟨Int32.le_toInt _, Int32.toInt_lt _⟩
theorem sX_jI (xs : Nat → Int32) (i : Int) : jI (sX xs i) = xs i.toNat := Int32.ofInt_toInt _
section ROWS
variable {K : Cx} {own : String} {cc : ByteArray} {ws : va_W} {pc : Nat} {lv : List (Nat × Value)} {st : List Value} {b L : Nat} {xv : Nat → Int32}
/-- the script, in the law's context -/
def SC (K : Cx) (b L : Nat) (xv : Nat → Int32) : Prop := va_X b L xv (xs K) (xs K).heap ∧ b < (xs K).heap.size ∧ ¬ xA K b
theorem j_slen (C : Ok K own cc) (X : SC K b L xv) (hd : decode cc pc = .ok (.arraylength, 1)) (kk : J K ws (pc + 1) lv (jv (L : Int) :: st)) : J K ws pc lv (.ref b :: st) := fun H locs ls hP hD hS hl => va_slen C.1 C.2.1 X.1 X.2.1 X.2.2 hS hd (kk H locs ls hP hD hS hl)
theorem j_sld (C : Ok K own cc) (X : SC K b L xv) (hL : L < 2147483648) {i : Int} (h1 : 0 ≤ i) (h2 : i < L) (hd : decode cc pc = .ok (.iaload, 1)) (kk : J K ws (pc + 1) lv (jv (sX xv i) :: st)) : J K ws pc lv (jv i :: .ref b :: st) := fun H locs ls hP hD hS hl => va_sld C.1 C.2.1 X.1 X.2.1 X.2.2 hS (jI_in h1 h2 hL) hd (by
  rw [jI_cl h1 (by omega), ← sX_jI xv i]
  exact kk H locs ls hP hD hS hl)
theorem j_swap {a c d : va_W} (kk : J K ((a ++ d) ++ c) pc lv st) : J K ((a ++ c) ++ d) pc lv st := fun H locs ls hP hD hS hl => kk H locs ls hP.swap hD.swap hS hl
theorem j_asc {a c d : va_W} (kk : J K (a ++ (c ++ d)) pc lv st) : J K ((a ++ c) ++ d) pc lv st := by rw [List.append_assoc]; exact kk
theorem j_asc' {a c d : va_W} (kk : J K ((a ++ c) ++ d) pc lv st) : J K (a ++ (c ++ d)) pc lv st := by rw [← List.append_assoc]; exact kk
theorem j_com {a c : va_W} (kk : J K (c ++ a) pc lv st) : J K (a ++ c) pc lv st := j_swap (a := []) kk
/-- the law's own end -/
theorem j_lawret (C : Ok K R_law code) (hA : ∀ q : Nat, xA K q → (xs K).heap.size ≤ q) (hR : xR K = room_1) (hn : xn K = 600000) (hk : xk K = 7302250) (ha : xa K = #[Value.ref b]) (hQ : xQ K = lw_Z (xb K) (xa K) (xs K)) (hr : (xM K).sig.returnType = ret) (hd : decode code pc = .ok (.ireturn, 1)) : J K ws pc lv [jv 1] := by
  intro H locs ls hP hD hS hl
  rw [hR, hn, hk, hQ, ha]
  refine va_forget (fun q hq => hA _ (hS.2.2 q hq)) ?_
  exact lw_ret C.1 C.2.1 hr C.2.2.2.2.2.2.1 hd
end ROWS
/-- the law's context -/
def LK (K : Cx) (b L : Nat) (xv : Nat → Int32) (cA cA2 cAm : Nat → ClassId) : Prop := Ok K R_law code ∧ SC K b L xv ∧ (∀ q : Nat, xA K q → (xs K).heap.size ≤ q) ∧ xR K = room_1 ∧ xn K = 600000 ∧ xk K = 7302250 ∧ xa K = #[Value.ref b] ∧ xQ K = lw_Z (xb K) (xa K) (xs K) ∧ (xM K).sig.returnType = ret ∧ xL K = 4 ∧ xt K = wty cA cA2 ++ oty Y_Mo cAm
theorem cnt_le2 (f : Int → Int) (h : ∀ i, 0 ≤ i → 0 ≤ f i ∧ f i ≤ 1) : ∀ k : Nat, 0 ≤ cnt f k ∧ cnt f k ≤ k
  | 0 => by simp [cnt]
  | k + 1 => by have := cnt_le2 f h k; have := h k (by omega); simp only [cnt]; omega
theorem pcnt_rg (a b : Int) : rg (pcnt a + pcnt b) := by
  have h : ∀ x, 0 ≤ pcnt x ∧ pcnt x ≤ 16 := fun x => cnt_le2 _ (fun i _ => by show 0 ≤ x / p2 i % 2 ∧ x / p2 i % 2 ≤ 1; omega) 16
  have h1 := h a
  have h2 := h b
  exact rgi (by omega) (by omega)
set_option maxHeartbeats 4000000 in
theorem law_loop {K : Cx} {b L : Nat} {xv : Nat → Int32} {ho hm : Nat} {ad ad2 adm : Nat → Nat} {cA cA2 cAm : Nat → ClassId} (hLL : L ≤ 1537) (hLK : LK K b L xv cA cA2 cAm) :
    ∀ (n : Nat) (S T M : Sv) (i : Int), (L : Int) + 3 - i < n → 1 ≤ i → i ≤ (L : Int) + 3 → LI S T M → J K ((ow Y_Mo hm adm cAm M ++ ow Y_Ou ho ad cA S) ++ sw (ad 0) ad2 cA2 T) 28 [(0, .ref b), (1, .ref ho), (2, .ref hm), (3, jv i)] [] := by
  obtain ⟨C, X, hA, hR, hn_, hk_, ha_, hQ, hr, hL, ht⟩ := hLK
  have hcs : xn K ≤ (xR K).cells ∧ xk K ≤ (xR K).slots := by rw [hR, hn_, hk_]; exact ⟨Nat.le_refl _, Nat.le_refl _⟩
  have hto : ∀ q ∈ oty Y_Ou cA, q ∈ xt K := fun q h => by rw [ht]; exact List.mem_append_left _ (List.mem_append_left _ h)
  have htw : ∀ q ∈ wty cA cA2, q ∈ xt K := fun q h => by rw [ht]; exact List.mem_append_left _ h
  have htm : ∀ q ∈ oty Y_Mo cAm, q ∈ xt K := fun q h => by rw [ht]; exact List.mem_append_right _ h
  intro n
  induction n with
  | zero => intro S T M i q1 q2 q3; omega
  | succ n ih =>
    intro S T M i q1 q2 q3 hI
    refine j_iload_n C 3 d_La_law_28 rfl rfl ?_
    refine j_aload_n C 0 d_La_law_29 rfl rfl ?_
    refine j_slen C X d_La_law_30 ?_
    refine j_iconst C d_La_law_31 ?_
    refine j_isub C d_La_law_32 ?_
    refine j_icmp_gt (tgt := 310) C d_La_law_33 (by decide) (rgi (by omega) (by omega)) (rgi (by omega) (by omega)) (fun c => ?_) (fun c => ?_)
    · refine j_iconst C d_La_law_310 ?_
      exact j_lawret C hA hR hn_ hk_ ha_ hQ hr d_La_law_311
    · have hmi := hI.mi
      have hoi := hI.1
      have r1 := sX_rg xv (i + 1)
      have r2 := sX_rg xv (i + 2)
      have nxt : ∀ (S1 T1 M1 : Sv), LI S1 T1 M1 → J K ((ow Y_Mo hm adm cAm M1 ++ ow Y_Ou ho ad cA S1) ++ sw (ad 0) ad2 cA2 T1) 304 [(0, .ref b), (1, .ref ho), (2, .ref hm), (3, jv i)] [] := fun S1 T1 M1 h1 => by
        refine j_iinc (lv' := [(0, .ref b), (1, .ref ho), (2, .ref hm), (3, jv (i + 3))]) C 3 d_La_law_304 rfl (by rw [hL]; decide) rfl rfl ?_
        refine j_goto (tgt := 28) C d_La_law_307 (by decide) ?_
        exact ih S1 T1 M1 (i + 3) (by omega) (by omega) (by omega) h1
      refine j_aload_n C 0 d_La_law_36 rfl rfl ?_
      refine j_iload_n C 3 d_La_law_37 rfl rfl ?_
      refine j_sld C X (by omega) (by omega) (by omega) d_La_law_38 ?_
      refine j_bipush C d_La_law_39 (by decide) ?_
      refine j_iand C d_La_law_41 (z := sX xv i % 8) (show jI (sX xv i) &&& jI (p2 3 - 1) = jI (sX xv i % p2 3) from jI_mask (by omega) (by omega) _) ?_
      have w0 : 0 ≤ sX xv i % 8 ∧ sX xv i % 8 < 8 := by omega
      rcases (show sX xv i % 8 = 0 ∨ sX xv i % 8 = 1 ∨ sX xv i % 8 = 2 ∨ sX xv i % 8 = 3 ∨ sX xv i % 8 = 4 ∨ sX xv i % 8 = 5 ∨ sX xv i % 8 = 6 ∨ sX xv i % 8 = 7 by omega) with e | e | e | e | e | e | e | e
      · rw [e]
        refine j_tabIn (tgt := 88) (off := 46) C d_La_law_42 (rgi (by omega) (by omega)) (by decide) (by decide) (by decide) (by decide) ?_
        refine j_aload_n C 1 d_La_law_88 rfl rfl ?_
        refine j_aload_n C 0 d_La_law_89 rfl rfl ?_
        refine j_iload_n C 3 d_La_law_90 rfl rfl ?_
        refine j_iconst C d_La_law_91 ?_
        refine j_iadd C d_La_law_92 ?_
        refine j_sld C X (by omega) (by omega) (by omega) d_La_law_93 ?_
        refine j_aload_n C 0 d_La_law_94 rfl rfl ?_
        refine j_iload_n C 3 d_La_law_95 rfl rfl ?_
        refine j_iconst C d_La_law_96 ?_
        refine j_iadd C d_La_law_97 ?_
        refine j_sld C X (by omega) (by omega) (by omega) d_La_law_98 ?_
        refine j_if_eq (tgt := 106) C d_La_law_99 (by decide) r2 (fun e1 => ?_) (fun e1 => ?_)
        · refine j_iconst C d_La_law_106 ?_
          refine j_swap ?_
          refine j_callI (wr := ow Y_Mo hm adm cAm M ++ sw (ad 0) ad2 cA2 T) (As := [jv (sX xv (i + 1)), jv 0]) (rest := []) (w := ow Y_Ou ho ad cA) (u0 := S) C (c_Ou_wish _ _ ho ad cA S hoi (sX xv (i + 1)) 0 r1 (by omega)) hto lk_La_21 rfl (q0 := 0) rfl rfl (by rw [hR]; decide) hcs d_La_law_107 rfl (Nat.le_of_ble_eq_true rfl) (fun z S1 hz => ?_)
          refine j_swap ?_
          refine j_aload_n C 2 d_La_law_110 rfl rfl ?_
          refine j_aload_n C 0 d_La_law_111 rfl rfl ?_
          refine j_iload_n C 3 d_La_law_112 rfl rfl ?_
          refine j_iconst C d_La_law_113 ?_
          refine j_iadd C d_La_law_114 ?_
          refine j_sld C X (by omega) (by omega) (by omega) d_La_law_115 ?_
          refine j_aload_n C 0 d_La_law_116 rfl rfl ?_
          refine j_iload_n C 3 d_La_law_117 rfl rfl ?_
          refine j_iconst C d_La_law_118 ?_
          refine j_iadd C d_La_law_119 ?_
          refine j_sld C X (by omega) (by omega) (by omega) d_La_law_120 ?_
          refine j_if_eq (tgt := 128) C d_La_law_121 (by decide) r2 (fun e2 => ?_) (fun e2 => ?_)
          · refine j_iconst C d_La_law_128 ?_
            refine j_asc (j_com ?_)
            refine j_callI (wr := ow Y_Ou ho ad cA S1 ++ sw (ad 0) ad2 cA2 T) (As := [jv (sX xv (i + 1)), jv 0]) (rest := [jv z]) (w := ow Y_Mo hm adm cAm) (u0 := M) C (c_Mo_wish _ _ hm adm cAm M hmi (sX xv (i + 1)) 0 r1 (by omega)) htm lk_La_25 rfl (q0 := 0) rfl rfl (by rw [hR]; decide) hcs d_La_law_129 rfl (Nat.le_of_ble_eq_true rfl) (fun z2 M1 hz2 => ?_)
            refine j_com (j_asc' ?_)
            have hst := hI.wish (by omega) hz hz2
            have rz1 : rg z := by
              rcases hz with ⟨x1, x2, x3, -⟩ | ⟨-, x3, -⟩
              · have := hoi.2.2.2.2.2.1 _ x1 (by have := hoi.1; omega); rw [x3]; exact rgi (by omega) (by omega)
              · rw [x3]; exact rg0
            have rz2 : rg z2 := by rw [← hst.1]; exact rz1
            refine j_icmp_eq (tgt := 304) C d_La_law_132 (by decide) rz1 rz2 (fun cc => ?_) (fun cc => ?_)
            · exact nxt S1 T M1 hst.2
            · exact absurd hst.1 cc
          · omega
        · refine j_iconst C d_La_law_102 ?_
          refine j_goto (tgt := 107) C d_La_law_103 (by decide) ?_
          refine j_swap ?_
          refine j_callI (wr := ow Y_Mo hm adm cAm M ++ sw (ad 0) ad2 cA2 T) (As := [jv (sX xv (i + 1)), jv 1]) (rest := []) (w := ow Y_Ou ho ad cA) (u0 := S) C (c_Ou_wish _ _ ho ad cA S hoi (sX xv (i + 1)) 1 r1 (by omega)) hto lk_La_21 rfl (q0 := 0) rfl rfl (by rw [hR]; decide) hcs d_La_law_107 rfl (Nat.le_of_ble_eq_true rfl) (fun z S1 hz => ?_)
          refine j_swap ?_
          refine j_aload_n C 2 d_La_law_110 rfl rfl ?_
          refine j_aload_n C 0 d_La_law_111 rfl rfl ?_
          refine j_iload_n C 3 d_La_law_112 rfl rfl ?_
          refine j_iconst C d_La_law_113 ?_
          refine j_iadd C d_La_law_114 ?_
          refine j_sld C X (by omega) (by omega) (by omega) d_La_law_115 ?_
          refine j_aload_n C 0 d_La_law_116 rfl rfl ?_
          refine j_iload_n C 3 d_La_law_117 rfl rfl ?_
          refine j_iconst C d_La_law_118 ?_
          refine j_iadd C d_La_law_119 ?_
          refine j_sld C X (by omega) (by omega) (by omega) d_La_law_120 ?_
          refine j_if_eq (tgt := 128) C d_La_law_121 (by decide) r2 (fun e2 => ?_) (fun e2 => ?_)
          · omega
          · refine j_iconst C d_La_law_124 ?_
            refine j_goto (tgt := 129) C d_La_law_125 (by decide) ?_
            refine j_asc (j_com ?_)
            refine j_callI (wr := ow Y_Ou ho ad cA S1 ++ sw (ad 0) ad2 cA2 T) (As := [jv (sX xv (i + 1)), jv 1]) (rest := [jv z]) (w := ow Y_Mo hm adm cAm) (u0 := M) C (c_Mo_wish _ _ hm adm cAm M hmi (sX xv (i + 1)) 1 r1 (by omega)) htm lk_La_25 rfl (q0 := 0) rfl rfl (by rw [hR]; decide) hcs d_La_law_129 rfl (Nat.le_of_ble_eq_true rfl) (fun z2 M1 hz2 => ?_)
            refine j_com (j_asc' ?_)
            have hst := hI.wish (by omega) hz hz2
            have rz1 : rg z := by
              rcases hz with ⟨x1, x2, x3, -⟩ | ⟨-, x3, -⟩
              · have := hoi.2.2.2.2.2.1 _ x1 (by have := hoi.1; omega); rw [x3]; exact rgi (by omega) (by omega)
              · rw [x3]; exact rg0
            have rz2 : rg z2 := by rw [← hst.1]; exact rz1
            refine j_icmp_eq (tgt := 304) C d_La_law_132 (by decide) rz1 rz2 (fun cc => ?_) (fun cc => ?_)
            · exact nxt S1 T M1 hst.2
            · exact absurd hst.1 cc
      · rw [e]
        refine j_tabIn (tgt := 137) (off := 95) C d_La_law_42 (rgi (by omega) (by omega)) (by decide) (by decide) (by decide) (by decide) ?_
        refine j_aload_n C 1 d_La_law_137 rfl rfl ?_
        refine j_aload_n C 0 d_La_law_138 rfl rfl ?_
        refine j_iload_n C 3 d_La_law_139 rfl rfl ?_
        refine j_iconst C d_La_law_140 ?_
        refine j_iadd C d_La_law_141 ?_
        refine j_sld C X (by omega) (by omega) (by omega) d_La_law_142 ?_
        refine j_aload_n C 0 d_La_law_143 rfl rfl ?_
        refine j_iload_n C 3 d_La_law_144 rfl rfl ?_
        refine j_iconst C d_La_law_145 ?_
        refine j_iadd C d_La_law_146 ?_
        refine j_sld C X (by omega) (by omega) (by omega) d_La_law_147 ?_
        refine j_if_eq (tgt := 155) C d_La_law_148 (by decide) r2 (fun e1 => ?_) (fun e1 => ?_)
        · refine j_iconst C d_La_law_155 ?_
          refine j_swap ?_
          refine j_callI (wr := ow Y_Mo hm adm cAm M ++ sw (ad 0) ad2 cA2 T) (As := [jv (sX xv (i + 1)), jv 0]) (rest := []) (w := ow Y_Ou ho ad cA) (u0 := S) C (c_Ou_literal _ _ ho ad cA S hoi (sX xv (i + 1)) 0 r1 (by omega)) hto lk_La_26 rfl (q0 := 0) rfl rfl (by rw [hR]; decide) hcs d_La_law_156 rfl (Nat.le_of_ble_eq_true rfl) (fun z S1 hz => ?_)
          refine j_swap ?_
          refine j_aload_n C 2 d_La_law_159 rfl rfl ?_
          refine j_aload_n C 0 d_La_law_160 rfl rfl ?_
          refine j_iload_n C 3 d_La_law_161 rfl rfl ?_
          refine j_iconst C d_La_law_162 ?_
          refine j_iadd C d_La_law_163 ?_
          refine j_sld C X (by omega) (by omega) (by omega) d_La_law_164 ?_
          refine j_aload_n C 0 d_La_law_165 rfl rfl ?_
          refine j_iload_n C 3 d_La_law_166 rfl rfl ?_
          refine j_iconst C d_La_law_167 ?_
          refine j_iadd C d_La_law_168 ?_
          refine j_sld C X (by omega) (by omega) (by omega) d_La_law_169 ?_
          refine j_if_eq (tgt := 177) C d_La_law_170 (by decide) r2 (fun e2 => ?_) (fun e2 => ?_)
          · refine j_iconst C d_La_law_177 ?_
            refine j_asc (j_com ?_)
            refine j_callI (wr := ow Y_Ou ho ad cA S1 ++ sw (ad 0) ad2 cA2 T) (As := [jv (sX xv (i + 1)), jv 0]) (rest := [jv z]) (w := ow Y_Mo hm adm cAm) (u0 := M) C (c_Mo_literal _ _ hm adm cAm M hmi (sX xv (i + 1)) 0 r1 (by omega)) htm lk_La_30 rfl (q0 := 0) rfl rfl (by rw [hR]; decide) hcs d_La_law_178 rfl (Nat.le_of_ble_eq_true rfl) (fun z2 M1 hz2 => ?_)
            refine j_com (j_asc' ?_)
            have hst := hI.literal hz hz2
            have rz1 : rg z := by
              rcases hz with ⟨x1, x2, x3, x4⟩ | ⟨-, x3, -⟩
              · rw [x4]; exact pcnt_rg _ _
              · rw [x3]; exact rgi (by omega) (by omega)
            have rz2 : rg z2 := by rw [← hst.1]; exact rz1
            refine j_icmp_eq (tgt := 304) C d_La_law_181 (by decide) rz1 rz2 (fun cc => ?_) (fun cc => ?_)
            · exact nxt S1 T M1 hst.2
            · exact absurd hst.1 cc
          · omega
        · refine j_iconst C d_La_law_151 ?_
          refine j_goto (tgt := 156) C d_La_law_152 (by decide) ?_
          refine j_swap ?_
          refine j_callI (wr := ow Y_Mo hm adm cAm M ++ sw (ad 0) ad2 cA2 T) (As := [jv (sX xv (i + 1)), jv 1]) (rest := []) (w := ow Y_Ou ho ad cA) (u0 := S) C (c_Ou_literal _ _ ho ad cA S hoi (sX xv (i + 1)) 1 r1 (by omega)) hto lk_La_26 rfl (q0 := 0) rfl rfl (by rw [hR]; decide) hcs d_La_law_156 rfl (Nat.le_of_ble_eq_true rfl) (fun z S1 hz => ?_)
          refine j_swap ?_
          refine j_aload_n C 2 d_La_law_159 rfl rfl ?_
          refine j_aload_n C 0 d_La_law_160 rfl rfl ?_
          refine j_iload_n C 3 d_La_law_161 rfl rfl ?_
          refine j_iconst C d_La_law_162 ?_
          refine j_iadd C d_La_law_163 ?_
          refine j_sld C X (by omega) (by omega) (by omega) d_La_law_164 ?_
          refine j_aload_n C 0 d_La_law_165 rfl rfl ?_
          refine j_iload_n C 3 d_La_law_166 rfl rfl ?_
          refine j_iconst C d_La_law_167 ?_
          refine j_iadd C d_La_law_168 ?_
          refine j_sld C X (by omega) (by omega) (by omega) d_La_law_169 ?_
          refine j_if_eq (tgt := 177) C d_La_law_170 (by decide) r2 (fun e2 => ?_) (fun e2 => ?_)
          · omega
          · refine j_iconst C d_La_law_173 ?_
            refine j_goto (tgt := 178) C d_La_law_174 (by decide) ?_
            refine j_asc (j_com ?_)
            refine j_callI (wr := ow Y_Ou ho ad cA S1 ++ sw (ad 0) ad2 cA2 T) (As := [jv (sX xv (i + 1)), jv 1]) (rest := [jv z]) (w := ow Y_Mo hm adm cAm) (u0 := M) C (c_Mo_literal _ _ hm adm cAm M hmi (sX xv (i + 1)) 1 r1 (by omega)) htm lk_La_30 rfl (q0 := 0) rfl rfl (by rw [hR]; decide) hcs d_La_law_178 rfl (Nat.le_of_ble_eq_true rfl) (fun z2 M1 hz2 => ?_)
            refine j_com (j_asc' ?_)
            have hst := hI.literal hz hz2
            have rz1 : rg z := by
              rcases hz with ⟨x1, x2, x3, x4⟩ | ⟨-, x3, -⟩
              · rw [x4]; exact pcnt_rg _ _
              · rw [x3]; exact rgi (by omega) (by omega)
            have rz2 : rg z2 := by rw [← hst.1]; exact rz1
            refine j_icmp_eq (tgt := 304) C d_La_law_181 (by decide) rz1 rz2 (fun cc => ?_) (fun cc => ?_)
            · exact nxt S1 T M1 hst.2
            · exact absurd hst.1 cc
      · rw [e]
        refine j_tabIn (tgt := 186) (off := 144) C d_La_law_42 (rgi (by omega) (by omega)) (by decide) (by decide) (by decide) (by decide) ?_
        refine j_aload_n C 1 d_La_law_186 rfl rfl ?_
        refine j_swap ?_
        refine j_callI (wr := ow Y_Mo hm adm cAm M ++ sw (ad 0) ad2 cA2 T) (As := []) (rest := []) (w := ow Y_Ou ho ad cA) (u0 := S) C (c_Ou_clause _ _ ho ad cA S hoi) hto lk_La_31 rfl (q0 := 0) rfl rfl (by rw [hR]; decide) hcs d_La_law_187 rfl (Nat.le_of_ble_eq_true rfl) (fun z S1 hz => ?_)
        refine j_swap ?_
        refine j_aload_n C 2 d_La_law_190 rfl rfl ?_
        refine j_asc (j_com ?_)
        refine j_callI (wr := ow Y_Ou ho ad cA S1 ++ sw (ad 0) ad2 cA2 T) (As := []) (rest := [jv z]) (w := ow Y_Mo hm adm cAm) (u0 := M) C (c_Mo_clause _ _ hm adm cAm M hmi) htm lk_La_35 rfl (q0 := 0) rfl rfl (by rw [hR]; decide) hcs d_La_law_191 rfl (Nat.le_of_ble_eq_true rfl) (fun z2 M1 hz2 => ?_)
        refine j_com (j_asc' ?_)
        have hst := hI.clause hz hz2
        have o2 := hoi.2.1
        have rz1 : rg z := by rcases hz with ⟨-, x3, -⟩ | ⟨-, x3, -⟩ <;> rw [x3] <;> exact rgi (by omega) (by omega)
        have rz2 : rg z2 := by rw [← hst.1]; exact rz1
        refine j_icmp_eq (tgt := 304) C d_La_law_194 (by decide) rz1 rz2 (fun cc => ?_) (fun cc => ?_)
        · exact nxt S1 T M1 hst.2
        · exact absurd hst.1 cc
      · rw [e]
        refine j_tabIn (tgt := 199) (off := 157) C d_La_law_42 (rgi (by omega) (by omega)) (by decide) (by decide) (by decide) (by decide) ?_
        refine j_aload_n C 1 d_La_law_199 rfl rfl ?_
        refine j_aload_n C 0 d_La_law_200 rfl rfl ?_
        refine j_iload_n C 3 d_La_law_201 rfl rfl ?_
        refine j_iconst C d_La_law_202 ?_
        refine j_iadd C d_La_law_203 ?_
        refine j_sld C X (by omega) (by omega) (by omega) d_La_law_204 ?_
        refine j_aload_n C 0 d_La_law_205 rfl rfl ?_
        refine j_iload_n C 3 d_La_law_206 rfl rfl ?_
        refine j_iconst C d_La_law_207 ?_
        refine j_iadd C d_La_law_208 ?_
        refine j_sld C X (by omega) (by omega) (by omega) d_La_law_209 ?_
        refine j_swap ?_
        refine j_callI (wr := ow Y_Mo hm adm cAm M ++ sw (ad 0) ad2 cA2 T) (As := [jv (sX xv (i + 1)), jv (sX xv (i + 2))]) (rest := []) (w := ow Y_Ou ho ad cA) (u0 := S) C (c_Ou_some _ _ ho ad cA S hoi (sX xv (i + 1)) (sX xv (i + 2))) hto lk_La_36 rfl (q0 := 0) rfl rfl (by rw [hR]; decide) hcs d_La_law_210 rfl (Nat.le_of_ble_eq_true rfl) (fun z S1 hz => ?_)
        refine j_swap ?_
        refine j_aload_n C 2 d_La_law_213 rfl rfl ?_
        refine j_aload_n C 0 d_La_law_214 rfl rfl ?_
        refine j_iload_n C 3 d_La_law_215 rfl rfl ?_
        refine j_iconst C d_La_law_216 ?_
        refine j_iadd C d_La_law_217 ?_
        refine j_sld C X (by omega) (by omega) (by omega) d_La_law_218 ?_
        refine j_aload_n C 0 d_La_law_219 rfl rfl ?_
        refine j_iload_n C 3 d_La_law_220 rfl rfl ?_
        refine j_iconst C d_La_law_221 ?_
        refine j_iadd C d_La_law_222 ?_
        refine j_sld C X (by omega) (by omega) (by omega) d_La_law_223 ?_
        refine j_asc (j_com ?_)
        refine j_callI (wr := ow Y_Ou ho ad cA S1 ++ sw (ad 0) ad2 cA2 T) (As := [jv (sX xv (i + 1)), jv (sX xv (i + 2))]) (rest := [jv z]) (w := ow Y_Mo hm adm cAm) (u0 := M) C (c_Mo_some _ _ hm adm cAm M hmi (sX xv (i + 1)) (sX xv (i + 2))) htm lk_La_40 rfl (q0 := 0) rfl rfl (by rw [hR]; decide) hcs d_La_law_224 rfl (Nat.le_of_ble_eq_true rfl) (fun z2 M1 hz2 => ?_)
        refine j_com (j_asc' ?_)
        have hst := hI.some hz hz2
        have o2 := hoi.2.1
        have rz1 : rg z := by rcases hz with ⟨-, x3, -⟩ | ⟨-, x3, -⟩ <;> rw [x3] <;> exact rgi (by omega) (by omega)
        have rz2 : rg z2 := by rw [← hst.1]; exact rz1
        refine j_icmp_eq (tgt := 304) C d_La_law_227 (by decide) rz1 rz2 (fun cc => ?_) (fun cc => ?_)
        · exact nxt S1 T M1 hst.2
        · exact absurd hst.1 cc
      · rw [e]
        refine j_tabIn (tgt := 232) (off := 190) C d_La_law_42 (rgi (by omega) (by omega)) (by decide) (by decide) (by decide) (by decide) ?_
        refine j_aload_n C 1 d_La_law_232 rfl rfl ?_
        refine j_aload_n C 0 d_La_law_233 rfl rfl ?_
        refine j_iload_n C 3 d_La_law_234 rfl rfl ?_
        refine j_iconst C d_La_law_235 ?_
        refine j_iadd C d_La_law_236 ?_
        refine j_sld C X (by omega) (by omega) (by omega) d_La_law_237 ?_
        refine j_swap ?_
        refine j_callI (wr := ow Y_Mo hm adm cAm M ++ sw (ad 0) ad2 cA2 T) (As := [jv (sX xv (i + 1))]) (rest := []) (w := ow Y_Ou ho ad cA) (u0 := S) C (c_Ou_drop _ _ ho ad cA S hoi (sX xv (i + 1)) r1) hto lk_La_41 rfl (q0 := 0) rfl rfl (by rw [hR]; decide) hcs d_La_law_238 rfl (Nat.le_of_ble_eq_true rfl) (fun z S1 hz => ?_)
        refine j_swap ?_
        refine j_aload_n C 2 d_La_law_241 rfl rfl ?_
        refine j_aload_n C 0 d_La_law_242 rfl rfl ?_
        refine j_iload_n C 3 d_La_law_243 rfl rfl ?_
        refine j_iconst C d_La_law_244 ?_
        refine j_iadd C d_La_law_245 ?_
        refine j_sld C X (by omega) (by omega) (by omega) d_La_law_246 ?_
        refine j_asc (j_com ?_)
        refine j_callI (wr := ow Y_Ou ho ad cA S1 ++ sw (ad 0) ad2 cA2 T) (As := [jv (sX xv (i + 1))]) (rest := [jv z]) (w := ow Y_Mo hm adm cAm) (u0 := M) C (c_Mo_drop _ _ hm adm cAm M hmi (sX xv (i + 1)) r1) htm lk_La_45 rfl (q0 := 0) rfl rfl (by rw [hR]; decide) hcs d_La_law_247 rfl (Nat.le_of_ble_eq_true rfl) (fun z2 M1 hz2 => ?_)
        refine j_com (j_asc' ?_)
        have hst := hI.drop hz hz2
        have o2 := hoi.2.1
        have rz1 : rg z := by rcases hz with ⟨-, -, x3, -⟩ | ⟨-, x3, -⟩ <;> rw [x3] <;> exact rgi (by omega) (by omega)
        have rz2 : rg z2 := by rw [← hst.1]; exact rz1
        refine j_icmp_eq (tgt := 304) C d_La_law_250 (by decide) rz1 rz2 (fun cc => ?_) (fun cc => ?_)
        · exact nxt S1 T M1 hst.2
        · exact absurd hst.1 cc
      · rw [e]
        refine j_tabIn (tgt := 255) (off := 213) C d_La_law_42 (rgi (by omega) (by omega)) (by decide) (by decide) (by decide) (by decide) ?_
        refine j_aload_n C 1 d_La_law_255 rfl rfl ?_
        refine j_asc ?_
        refine j_callI (wr := ow Y_Mo hm adm cAm M) (As := []) (rest := []) (w := ww ho ad cA ad2 cA2) (u0 := (S, T)) C (c_Ou_solve _ _ ho ad cA ad2 cA2 S T hoi hI.2.2.2.2.2.2.2.2.1 hI.2.2.2.2.2.2.2.2.2.1) htw lk_La_46 rfl (q0 := 0) rfl rfl (by rw [hR]; decide) hcs d_La_law_256 rfl (Nat.le_of_ble_eq_true rfl) (fun z u1 hz => ?_)
        obtain ⟨S1, T1⟩ := u1
        have hz : OZ S z (S1, T1) := hz
        show J K (ow Y_Mo hm adm cAm M ++ (ow Y_Ou ho ad cA S1 ++ sw (ad 0) ad2 cA2 T1)) _ _ _
        refine j_asc' ?_
        refine j_aload_n C 2 d_La_law_259 rfl rfl ?_
        refine j_asc (j_com ?_)
        refine j_callI (wr := ow Y_Ou ho ad cA S1 ++ sw (ad 0) ad2 cA2 T1) (As := []) (rest := [jv z]) (w := ow Y_Mo hm adm cAm) (u0 := M) C (c_Mo_solve _ _ hm adm cAm M hmi hI.2.2.2.2.2.2.2.2.2.2) htm lk_La_50 rfl (q0 := 0) rfl rfl (by rw [hR]; decide) hcs d_La_law_260 rfl (Nat.le_of_ble_eq_true rfl) (fun z2 M1 hz2 => ?_)
        refine j_com (j_asc' ?_)
        obtain ⟨x1, x2, x3, x4, x5, x6⟩ := hz
        have x1 : T1 3 0 = 0 := x1
        have x2 : S1 8 0 = 1 := x2
        have x3 : z = S1 9 0 := x3
        have x5 : KN S1 T1 := x5
        have x6 : ∀ k, k ≠ 8 → k ≠ 9 → S1 k = S k := x6
        obtain ⟨a, ham, e2⟩ := hz2
        have hl2 : LI S1 T1 M1 := (hI.outer x1 x2 (by rw [← x3]; exact x4) x5 x6).model ham
        have hst : z = z2 ∧ LI S1 T1 M1 := by
          refine ⟨?_, hl2⟩
          rcases hI.agree x6 x5 ham.1 with ⟨y1, y2⟩ | ⟨y1, y2, -⟩
          · rw [x3, e2, y1, if_pos (by omega)]
          · rw [x3, e2, y1, if_neg (by omega)]
        have rz1 : rg z := rgi (by omega) (by omega)
        have rz2 : rg z2 := by rw [← hst.1]; exact rz1
        refine j_icmp_eq (tgt := 304) C d_La_law_263 (by decide) rz1 rz2 (fun cc => ?_) (fun cc => ?_)
        · exact nxt S1 T1 M1 hst.2
        · exact absurd hst.1 cc
      · rw [e]
        refine j_tabIn (tgt := 268) (off := 226) C d_La_law_42 (rgi (by omega) (by omega)) (by decide) (by decide) (by decide) (by decide) ?_
        refine j_aload_n C 1 d_La_law_268 rfl rfl ?_
        refine j_asc ?_
        refine j_callI (wr := ow Y_Mo hm adm cAm M) (As := []) (rest := []) (w := ww ho ad cA ad2 cA2) (u0 := (S, T)) C (c_Ou_answer _ _ ho ad cA ad2 cA2 S T hoi hI.2.2.2.2.2.2.2.2.1 hI.2.2.2.2.2.2.2.2.2.1) htw lk_La_51 rfl (q0 := 0) rfl rfl (by rw [hR]; decide) hcs d_La_law_269 rfl (Nat.le_of_ble_eq_true rfl) (fun z u1 hz => ?_)
        obtain ⟨S1, T1⟩ := u1
        have hz : OA S z (S1, T1) := hz
        show J K (ow Y_Mo hm adm cAm M ++ (ow Y_Ou ho ad cA S1 ++ sw (ad 0) ad2 cA2 T1)) _ _ _
        refine j_asc' ?_
        refine j_aload_n C 2 d_La_law_272 rfl rfl ?_
        refine j_asc (j_com ?_)
        refine j_callI (wr := ow Y_Ou ho ad cA S1 ++ sw (ad 0) ad2 cA2 T1) (As := []) (rest := [jv z]) (w := ow Y_Mo hm adm cAm) (u0 := M) C (c_Mo_answer _ _ hm adm cAm M hmi hI.2.2.2.2.2.2.2.2.2.2) htm lk_La_54 rfl (q0 := 0) rfl rfl (by rw [hR]; decide) hcs d_La_law_273 rfl (Nat.le_of_ble_eq_true rfl) (fun z2 M1 hz2 => ?_)
        refine j_com (j_asc' ?_)
        obtain ⟨x1, x2, x5, x6, x7⟩ := hz
        have x1 : T1 3 0 = 0 := x1
        have x2 : S1 8 0 = 1 := x2
        have x5 : KN S1 T1 := x5
        have x6 : ∀ k, k ≠ 8 → k ≠ 9 → S1 k = S k := x6
        have x7 : (S1 9 0 = 0 ∧ z = -2) ∨ (S1 9 0 = 1 ∧ z = bs (fun v => decide (0 < T1 11 v)) (S 6 0).toNat) := x7
        have hl2 : LI S1 T1 M1 := (hI.outer x1 x2 (by rcases x7 with ⟨y, -⟩ | ⟨y, -⟩ <;> omega) x5 x6).model hz2
        have hst : z = z2 ∧ LI S1 T1 M1 := by
          refine ⟨?_, hl2⟩
          rcases hI.agree x6 x5 hz2.1 with ⟨y1, y2⟩ | ⟨y1, -, y2⟩
          · rcases x7 with ⟨-, y⟩ | ⟨y, -⟩
            · rw [y, y2]
            · omega
          · rcases x7 with ⟨y, -⟩ | ⟨-, y⟩
            · omega
            · rw [y, y2]
        have rz2 : rg z2 := by have := hz2.1.2; exact rgi (by omega) (by omega)
        have rz1 : rg z := by rw [hst.1]; exact rz2
        refine j_icmp_eq (tgt := 304) C d_La_law_276 (by decide) rz1 rz2 (fun cc => ?_) (fun cc => ?_)
        · exact nxt S1 T1 M1 hst.2
        · exact absurd hst.1 cc
      · rw [e]
        refine j_tabIn (tgt := 281) (off := 239) C d_La_law_42 (rgi (by omega) (by omega)) (by decide) (by decide) (by decide) (by decide) ?_
        refine j_aload_n C 1 d_La_law_281 rfl rfl ?_
        refine j_aload_n C 0 d_La_law_282 rfl rfl ?_
        refine j_iload_n C 3 d_La_law_283 rfl rfl ?_
        refine j_iconst C d_La_law_284 ?_
        refine j_iadd C d_La_law_285 ?_
        refine j_sld C X (by omega) (by omega) (by omega) d_La_law_286 ?_
        refine j_swap ?_
        refine j_callI (wr := ow Y_Mo hm adm cAm M ++ sw (ad 0) ad2 cA2 T) (As := [jv (sX xv (i + 1))]) (rest := []) (w := ow Y_Ou ho ad cA) (u0 := S) C (c_Ou_count _ _ ho ad cA S hoi (sX xv (i + 1)) r1) hto lk_La_55 rfl (q0 := 0) rfl rfl (by rw [hR]; decide) hcs d_La_law_287 rfl (Nat.le_of_ble_eq_true rfl) (fun z S1 hz => ?_)
        refine j_swap ?_
        refine j_aload_n C 2 d_La_law_290 rfl rfl ?_
        refine j_aload_n C 0 d_La_law_291 rfl rfl ?_
        refine j_iload_n C 3 d_La_law_292 rfl rfl ?_
        refine j_iconst C d_La_law_293 ?_
        refine j_iadd C d_La_law_294 ?_
        refine j_sld C X (by omega) (by omega) (by omega) d_La_law_295 ?_
        refine j_asc (j_com ?_)
        refine j_callI (wr := ow Y_Ou ho ad cA S1 ++ sw (ad 0) ad2 cA2 T) (As := [jv (sX xv (i + 1))]) (rest := [jv z]) (w := ow Y_Mo hm adm cAm) (u0 := M) C (c_Mo_count _ _ hm adm cAm M hmi (sX xv (i + 1)) r1) htm lk_La_58 rfl (q0 := 0) rfl rfl (by rw [hR]; decide) hcs d_La_law_296 rfl (Nat.le_of_ble_eq_true rfl) (fun z2 M1 hz2 => ?_)
        refine j_com (j_asc' ?_)
        obtain ⟨eS, hz⟩ := hz
        obtain ⟨eM, hz2⟩ := hz2
        subst S1; subst M1
        have hst : z = z2 ∧ LI S T M := ⟨hI.count hz hz2, hI⟩
        have rz1 : rg z := by
          have o1 := hoi.1
          have o2 := hoi.2.1
          rw [hz]
          split
          · exact rgi (by omega) (by omega)
          · split
            · exact rgi (by omega) (by omega)
            · split
              · exact pcnt_rg _ _
              · exact rgi (by omega) (by omega)
        have rz2 : rg z2 := by rw [← hst.1]; exact rz1
        refine j_icmp_eq (tgt := 304) C d_La_law_299 (by decide) rz1 rz2 (fun cc => ?_) (fun cc => ?_)
        · exact nxt S T M hst.2
        · exact absurd hst.1 cc
end
section
/-! the law's start -/
/-- cell: the script's first int, or 0 -/
theorem c_La_cell (l : Launch) (b L : Nat) (xv : Nat → Int32) (hL : L ≤ 1537) : Met l y_La_cell (Cond.code y_La_cell b_La_cell 2 (some .int) :: tblG) (rmL 0) (va_Pc [.ref b, jv 0] (fun U => b < U.heap.size ∧ va_X b L xv U U.heap)) (va_Qi (fun r (_ : Unit) => r = if 0 < L then xv 0 else 0) (fun _ _ => True) (fun _ => False)) 0 0 (fun _ => False) := by
  refine Met.ofW (cc := b_La_cell) (maxL := 2) (ret := some .int) (by decide) rfl ?_
  intro p e s m args below meth c s₁ B hml hv
  obtain ⟨rfl, hbl, hX⟩ := hv
  have hx := B.exec
  have hb := B.bytes
  have hr := B.returns
  have hlocks := B.notSynchronized
  have hS : va_S (fun _ => False) s.heap s.heap [] := va_S.rf
  have hbA : ¬ (fun _ : Nat => False) b := id
  have hl := lv_entry ([.ref b, jv 0]) (n := 2) (Nat.le_of_ble_eq_true rfl)
  rw [lg_entry_eq]
  generalize (lg_sl ([.ref b, jv 0]) ++ List.replicate (2 - (lg_sl ([.ref b, jv 0])).length) Slot.unset).toArray = ls at hl ⊢
  have hl : lv_has ls 2 [(0, .ref b), (1, jv 0)] := hl
  refine lv_iload_n hx hb d_La_cell_0 rfl (lv_at hl 1 rfl) ?_
  refine lv_aload_n hx hb d_La_cell_1 rfl (lv_at hl 0 rfl) ?_
  refine va_slen hx hb hX hbl hbA hS d_La_cell_2 ?_
  refine lv_icmp_ge (tgt := 12) hx hb d_La_cell_3 (by decide) (fun c => ?_) (fun c => ?_)
  · have h0 : ¬ 0 < L := fun q => by
      have := (jI_le (a := (L : Int)) (b := 0) (rgi (by omega) (by omega)) rg0).mp c
      omega
    refine lv_iconst (v := jI 0) hx hb d_La_cell_12 rfl ?_
    exact W.iret (v := jI 0) hx hb hr (fun t ht hW => ⟨⟨jI 0, (), rfl, by rw [if_neg h0]; rfl, trivial⟩, hS.F ht⟩) hS.2.2 d_La_cell_13
  · have h0 : 0 < L := by
      rcases Nat.eq_zero_or_pos L with q | q
      · exfalso; apply c; rw [q]; exact (jI_le rg0 rg0).mpr (Int.le_refl 0)
      · exact q
    refine lv_aload_n hx hb d_La_cell_6 rfl (lv_at hl 0 rfl) ?_
    refine lv_iload_n hx hb d_La_cell_7 rfl (lv_at hl 1 rfl) ?_
    refine va_sld hx hb hX hbl hbA hS (jI_in (by omega) (by omega) (by omega)) d_La_cell_8 ?_
    refine lv_goto (tgt := 13) hx hb d_La_cell_9 (by decide) ?_
    exact W.iret (v := xv (jI 0).toNatClampNeg) hx hb hr (fun t ht hW => ⟨⟨_, (), rfl, by rw [if_pos h0]; rfl, trivial⟩, hS.F ht⟩) hS.2.2 d_La_cell_13
set_option maxRecDepth 20000 in
theorem nl_2 : ∀ q ∈ ([.initialized R_Ou, .instanceMethod y_Ou_init, .classLink R_law 7 R_Ou, .instantiable R_Ou 10, .methodLink R_law 15 y_Ou_init, .initialized R_Mo, .instanceMethod y_Mo_init, .classLink R_law 18 R_Mo, .instantiable R_Mo 9, .methodLink R_law 20 y_Mo_init, .instantiable R_Sv 23] : List Cond), q ∈ tblG := by decide +kernel
set_option maxRecDepth 20000 in
theorem nl_3 : Cond.methodLinkNest R_Ou 9 y_Sv_init R_Ou ∈ lw_tbl := by decide +kernel
set_option maxHeartbeats 8000000 in
set_option maxRecDepth 100000 in
/-- THE LAW, from its entry -/
theorem whole_start {p : Program} {e : Env} {s : State} {m : MethodId} {below : List Frame} {meth : Method} {c : Code} (l : Launch) {b L : Nat} {xs : Nat → Int32} (hL : L ≤ 1537) (C0 : lw_At p s m meth c b L xs) : W p l e room_1 s m #[Value.ref b] below meth c s.heap [] 0 0 (lw_Z below #[Value.ref b] s) (entryFrame m ([Value.ref b] : List Value).toArray 4) := by
  obtain ⟨hx, hb, hr, hml, hown, hts1, hX, hbl, hlocks, hgv⟩ := id C0
  have hts : ∀ w ∈ tblG, w.before #[Value.ref b] s = true := fun w hw => hts1 w (tblG_in w hw)
  have hNw : va_Nw (.methodLinkNest R_Ou 9 y_Sv_init R_Ou) s := va_Nw.of rfl (hts1 _ nl_3)
  have hA : ∀ q : Nat, s.heap.size ≤ q → (fun q : Nat => s.heap.size ≤ q) q := fun _ h => h
  have hbA : ¬ (fun q : Nat => s.heap.size ≤ q) b := Nat.not_le.mpr hbl
  obtain ⟨k0, iS0, hKn0⟩ := u_known (C := R_Sv) (T := F_Sv) (N := 23) (n := 23) hts i_Sv (hts _ (nl_2 _ (by simp)))
  obtain ⟨k1, iS1, hKn1⟩ := u_known (C := R_Ou) (T := F_Ou) (N := 10) (n := 10) hts i_Ou (hts _ (nl_2 _ (by simp)))
  obtain ⟨k2, iS2, hKn2⟩ := u_known (C := R_Mo) (T := F_Mo) (N := 9) (n := 9) hts i_Mo (hts _ (nl_2 _ (by simp)))
  obtain ⟨D, hKc⟩ : ∃ D : va_G, ∀ (k : Nat) (q : vw_C), classes[k]? = some q → u_Kn s q.1 q.2.1 q.2.2 (D.1 k) (D.2 k) := by
    refine ⟨(fun k => if k = 0 then k0 else if k = 1 then k1 else k2, fun k => if k = 0 then iS0 else if k = 1 then iS1 else iS2), ?_⟩
    intro k q hq
    match k, hq with
    | 0, hq => cases hq; exact hKn0
    | 1, hq => cases hq; exact hKn1
    | 2, hq => cases hq; exact hKn2
    | k + 3, hq => simp [classes] at hq
  have hS : va_S (fun q : Nat => s.heap.size ≤ q) s.heap s.heap [] := va_S.rf
  have hK : va_K D classes [] s := ⟨hKc, fun k q h => by simp at h⟩
  have hP : va_P D classes [] s.heap := fun k q h => by simp at h
  have hD : va_D (fun q : Nat => s.heap.size ≤ q) [] := ⟨fun i j p q h => by simp at h, fun k q h => by simp at h⟩
  have hl := lv_entry ([.ref b]) (n := 4) (Nat.le_of_ble_eq_true rfl)
  rw [lg_entry_eq]
  generalize (lg_sl ([.ref b]) ++ List.replicate (4 - (lg_sl ([.ref b])).length) Slot.unset).toArray = ls at hl ⊢
  have hl : lv_has ls 4 [(0, .ref b)] := hl
  obtain ⟨a, hae, har⟩ : ∃ a : Int, (if 0 < L then xs 0 else 0) = jI a ∧ rg a := ⟨(if 0 < L then xs 0 else 0).toInt, (Int32.ofInt_toInt _).symm, Int32.le_toInt _, Int32.toInt_lt _⟩
  refine va_new (ci := 1) (fs := [.null, .null, .null, .int 0, .int 0, .int 0, .int 0, .null, .int 0, .int 0]) (C := R_Ou) (T := F_Ou) (N := 10) hx hb hts i_Ou t_Ou t_Ou_ok hown (hts _ (nl_2 _ (by simp))) (hts _ (nl_2 _ (by simp))) (hts _ (nl_2 _ (by simp))) hK hP hD hS hA rfl (fun j hj => (by decide : ∀ j, j < 10 → defaultValue (t_Ou j) = vp_V [.null, .null, .null, .int 0, .int 0, .int 0, .int 0, .null, .int 0, .int 0] j) j hj) (Nat.le_of_ble_eq_true rfl) (Nat.le_of_ble_eq_true rfl) d_La_law_0 (fun q1 H hP hD hS => ?_)
  have hP : va_P D classes [(q1, .inr (1, [.null, .null, .null, .int 0, .int 0, .int 0, .int 0, .null, .int 0, .int 0]))] H := hP
  have hD : va_D (fun q : Nat => s.heap.size ≤ q) [(q1, .inr (1, [.null, .null, .null, .int 0, .int 0, .int 0, .int 0, .null, .int 0, .int 0]))] := hD
  refine W.widen (k := 1) (n := 10) (Nat.le_refl _) (Nat.le_refl _) ?_
  refine lv_dup hx hb d_La_law_3 rfl ?_
  refine lv_aload_n hx hb d_La_law_4 rfl (lv_at hl 0 rfl) ?_
  refine lv_iconst (v := jI 0) hx hb d_La_law_5 rfl ?_
  refine va_calli (va_runS (Ts := tblG) (As := [.ref b, jv 0]) (rest := [.ref q1, .ref q1]) ⟨hx, hb, hml, hown, hts⟩ (c_La_cell l b L xs hL) ⟨callB_of 2 hts (good_sub _ (mem_words mc_La_cell) (fun _ h => h)) rfl rfl rfl (hts _ (lk_La_9.1 _ (by simp [y_La_cell]))) (hts _ (lk_La_9.1 _ (by simp))) lk_La_9.2.2 ⟨Nat.le_of_ble_eq_true rfl, Nat.le_of_ble_eq_true rfl⟩, hts _ (lk_La_9.1 _ (by simp))⟩ ⟨fun a U g mk q => by obtain ⟨r0, r1, rX⟩ := q; exact ⟨r0, r1, va_X.moved (u := U) (U := U.calling g mk a) (Vm.Alike.refl U.vm) rX⟩, fun U hU hW => ⟨rfl, by rw [hU]; exact Nat.lt_of_lt_of_le hbl hS.1, by rw [hU]; exact (hX.kept (hS.2.1 b hbl hbA)).moved hW.alike⟩⟩ rfl rfl hl.1 rfl (lv_room (Nat.le_of_ble_eq_true rfl)) d_La_law_6 ⟨Nat.le_of_ble_eq_true rfl, Nat.le_of_ble_eq_true rfl⟩) hS (fun q _ h => absurd h id) (fun q h => absurd h id) (fun r_ u t H1 locs ht hvm hw hB hz1 hk1 hS => ?_)
  have hw : r_ = jI a := hw.trans hae
  subst hw
  have hP := hP.kept (fun k q hq => hk1 q.1 ((hP k q hq).lt) id)
  generalize H1 = H at hP hS ⊢
  have hFc := va_free (wc := [(q1, .inr (1, [.null, .null, .null, .int 0, .int 0, .int 0, .int 0, .null, .int 0, .int 0]))]) hD hS hA [0] rfl
  refine va_callv (va_runI (Ts := tblG) (As := [jv a]) (rest := [.ref q1]) ⟨hx, hb, hml, hown, hts⟩ (c_Ou_init l D q1 H.size a har) (cwI 1 hts (good_sub _ (mem_words mc_Ou_init) (fun _ h => h)) rfl rfl rfl (hts _ (nl_2 _ (by simp [y_Ou_init]))) (hts _ (nl_2 _ (by simp))) (hts _ (nl_2 _ (by simp))) rfl (by decide +kernel) ⟨Nat.le_of_ble_eq_true rfl, Nat.le_of_ble_eq_true rfl⟩) ⟨fun a U g mk q => by obtain ⟨r0, r1, qP, qK, qD, qN⟩ := q; exact ⟨r0, r1, qP, va_K.moved (u := U) (U := U.calling g mk a) (Vm.Alike.refl U.vm) qK, qD, va_Nw.same (u := U) (U := U.calling g mk a) rfl rfl qN⟩, fun U hU hW => ⟨rfl, by rw [hU], by rw [hU]; exact hP, va_K.moved hW.alike hK, hD.weaken (fun _ _ _ _ => trivial), va_Nw.warmM hW hNw⟩⟩ rfl rfl hl.1 rfl (lv_room (Nat.le_of_ble_eq_true rfl)) d_La_law_9 ⟨Nat.le_of_ble_eq_true rfl, Nat.le_of_ble_eq_true rfl⟩) hS (fun q _ h => hFc q h) hFc (fun u t H1 locs ht hvm hw hB hz1 hk1 hS => ?_)
  obtain ⟨⟨ad, cA⟩, ad2, cA2⟩ := u
  obtain ⟨hP1, hK1, hD1⟩ := hB
  rw [ht] at hP1
  have hK := va_K.moved hvm.symm hK1
  obtain ⟨hP, hD⟩ := va_join (wr := []) (w1 := ww q1 ad cA ad2 cA2 (u2 zS 6 0 (nvar a), zS)) hP hD [0] [] rfl rfl (by decide) (by decide) hk1 hFc hP1 hD1
  generalize H1 = H at hP hS ⊢
  have hP : va_P D classes (ww q1 ad cA ad2 cA2 (u2 zS 6 0 (nvar a), zS)) H := hP
  have hD : va_D (fun q : Nat => s.heap.size ≤ q) (ww q1 ad cA ad2 cA2 (u2 zS 6 0 (nvar a), zS)) := hD
  have hK : va_K D classes (wty cA cA2) s := hK
  clear hP1 hD1 hK1 hk1 hFc
  refine W.widen (k := 19) (n := 13984) (Nat.le_refl _) (Nat.le_refl _) ?_
  refine lv_astore_n (lv' := [(1, .ref q1), (0, .ref b)]) hx hb d_La_law_12 rfl hl (by decide) rfl (fun ls hl => ?_)
  refine va_new (ci := 2) (fs := [.int 0, .null, .null, .null, .int 0, .int 0, .int 0, .int 0, .int 0]) (C := R_Mo) (T := F_Mo) (N := 9) hx hb hts i_Mo t_Mo t_Mo_ok hown (hts _ (nl_2 _ (by simp))) (hts _ (nl_2 _ (by simp))) (hts _ (nl_2 _ (by simp))) hK hP hD hS hA rfl (fun j hj => (by decide : ∀ j, j < 9 → defaultValue (t_Mo j) = vp_V [.int 0, .null, .null, .null, .int 0, .int 0, .int 0, .int 0, .int 0] j) j hj) (Nat.le_of_ble_eq_true rfl) (Nat.le_of_ble_eq_true rfl) d_La_law_13 (fun q2 H hP hD hS => ?_)
  refine W.widen (k := 20) (n := 13993) (Nat.le_refl _) (Nat.le_refl _) ?_
  refine lv_dup hx hb d_La_law_16 rfl ?_
  refine lv_aload_n hx hb d_La_law_17 rfl (lv_at hl 1 rfl) ?_
  refine lv_iconst (v := jI 0) hx hb d_La_law_18 rfl ?_
  refine va_calli (va_runS (Ts := tblG) (As := [.ref b, jv 0]) (rest := [.ref q2, .ref q2]) ⟨hx, hb, hml, hown, hts⟩ (c_La_cell l b L xs hL) ⟨callB_of 2 hts (good_sub _ (mem_words mc_La_cell) (fun _ h => h)) rfl rfl rfl (hts _ (lk_La_9.1 _ (by simp [y_La_cell]))) (hts _ (lk_La_9.1 _ (by simp))) lk_La_9.2.2 ⟨Nat.le_of_ble_eq_true rfl, Nat.le_of_ble_eq_true rfl⟩, hts _ (lk_La_9.1 _ (by simp))⟩ ⟨fun a U g mk q => by obtain ⟨r0, r1, rX⟩ := q; exact ⟨r0, r1, va_X.moved (u := U) (U := U.calling g mk a) (Vm.Alike.refl U.vm) rX⟩, fun U hU hW => ⟨rfl, by rw [hU]; exact Nat.lt_of_lt_of_le hbl hS.1, by rw [hU]; exact (hX.kept (hS.2.1 b hbl hbA)).moved hW.alike⟩⟩ rfl rfl hl.1 rfl (lv_room (Nat.le_of_ble_eq_true rfl)) d_La_law_19 ⟨Nat.le_of_ble_eq_true rfl, Nat.le_of_ble_eq_true rfl⟩) hS (fun q _ h => absurd h id) (fun q h => absurd h id) (fun r_ u t H1 locs ht hvm hw hB hz1 hk1 hS => ?_)
  have hw : r_ = jI a := hw.trans hae
  subst hw
  have hP := hP.kept (fun k q hq => hk1 q.1 ((hP k q hq).lt) id)
  generalize H1 = H at hP hS ⊢
  have hFc := va_free (wc := [(q2, .inr (2, [.int 0, .null, .null, .null, .int 0, .int 0, .int 0, .int 0, .int 0]))]) hD hS hA _ (ix_C (ww q1 ad cA ad2 cA2 (u2 zS 6 0 (nvar a), zS)) [(q2, .inr (2, [.int 0, .null, .null, .null, .int 0, .int 0, .int 0, .int 0, .int 0]))])
  have hPc := P_right hP
  have hDc := D_right hD
  have hKc := kty (tys' := []) hK (fun _ h => absurd h List.not_mem_nil)
  refine va_callv (va_runI (Ts := tblG) (As := [jv a]) (rest := [.ref q2]) ⟨hx, hb, hml, hown, hts⟩ (c_Mo_init l D q2 H.size a har) (cwI 1 hts (good_sub _ (mem_words mc_Mo_init) (fun _ h => h)) rfl rfl rfl (hts _ (nl_2 _ (by simp [y_Mo_init]))) (hts _ (nl_2 _ (by simp))) (hts _ (nl_2 _ (by simp))) rfl (by decide +kernel) ⟨Nat.le_of_ble_eq_true rfl, Nat.le_of_ble_eq_true rfl⟩) ⟨fun a U g mk q => by obtain ⟨r0, r1, qP, qK, qD⟩ := q; exact ⟨r0, r1, qP, va_K.moved (u := U) (U := U.calling g mk a) (Vm.Alike.refl U.vm) qK, qD⟩, fun U hU hW => ⟨rfl, by rw [hU], by rw [hU]; exact hPc, va_K.moved hW.alike hKc, hDc.weaken (fun _ _ _ _ => trivial)⟩⟩ rfl rfl hl.1 rfl (lv_room (Nat.le_of_ble_eq_true rfl)) d_La_law_22 ⟨Nat.le_of_ble_eq_true rfl, Nat.le_of_ble_eq_true rfl⟩) hS (fun q _ h => hFc q h) hFc (fun u t H1 locs ht hvm hw hB hz1 hk1 hS => ?_)
  obtain ⟨adm, cAm⟩ := u
  obtain ⟨hP1, hK1, hD1⟩ := hB
  rw [ht] at hP1
  have hK1 := va_K.moved hvm.symm hK1
  obtain ⟨hP, hD⟩ := va_join (wr := ww q1 ad cA ad2 cA2 (u2 zS 6 0 (nvar a), zS)) (w1 := ow Y_Mo q2 adm cAm (u2 zS 0 0 (nvar a))) hP hD _ _ (ix_C _ _) (ix_R _ _) (nd_R _) (dis_RC _ _) hk1 hFc hP1 hD1
  have hK := hK.app hK1
  generalize H1 = H at hP hS ⊢
  refine W.widen (k := 600000) (n := 7302250) (Nat.le_of_ble_eq_true rfl) (Nat.le_of_ble_eq_true rfl) ?_
  refine lv_astore_n (lv' := [(2, .ref q2), (1, .ref q1), (0, .ref b)]) hx hb d_La_law_25 rfl hl (by decide) rfl (fun ls hl => ?_)
  refine lv_iconst (v := jI 1) hx hb d_La_law_26 rfl ?_
  refine lv_istore_n (lv' := [(3, jv 1), (2, .ref q2), (1, .ref q1), (0, .ref b)]) hx hb d_La_law_27 rfl hl (by decide) rfl (fun ls hl => ?_)
  have hl := lv_sub hl (l' := [(0, .ref b), (1, .ref q1), (2, .ref q2), (3, jv 1)]) [3, 2, 1, 0] rfl
  have hJ : J (p, l, e, room_1, s, m, #[Value.ref b], below, meth, c, D, wty cA cA2 ++ oty Y_Mo cAm, (fun q : Nat => s.heap.size ≤ q), 600000, 7302250, lw_Z below #[Value.ref b] s, 4) (ow Y_Mo q2 adm cAm (u2 zS 0 0 (nvar a)) ++ (ow Y_Ou q1 ad cA (u2 zS 6 0 (nvar a)) ++ sw (ad 0) ad2 cA2 zS)) 28 [(0, .ref b), (1, .ref q1), (2, .ref q2), (3, jv 1)] [] :=
    j_asc' (law_loop hL ⟨⟨hx, hb, hml, hown, hts, hK, hlocks, hA⟩, ⟨hX, hbl, hbA⟩, fun _ h => h, rfl, rfl, rfl, rfl, rfl, hr, rfl, rfl⟩ (L + 3) _ _ _ 1 (by omega) (by omega) (by omega) (LI.start a))
  exact j_com (a := ww q1 ad cA ad2 cA2 (u2 zS 6 0 (nvar a), zS)) (c := ow Y_Mo q2 adm cAm (u2 zS 0 0 (nvar a))) hJ H locs ls hP hD hS hl
end
section
/-! the skeleton's end (STARTING TEXT) -/
set_option maxHeartbeats 4000000 in
theorem lw_walk (l : Launch) (b : Addr) (xs : List Int32) : MetFree l x (headSpec (Jvm.Cond.code x code maxLocals ret :: tables_1) room_1) (lw_P b xs) (fun _ _ _ _ _ => True) lw_Q := by
  refine MetFree.of_bodyS (code := code) (maxLocals := maxLocals) (ret := ret) (by decide) ?_ ?_
  · intro args s m h hn
    obtain ⟨meth, c, h1, h2, h3, h4, h5, h6, -, -⟩ := Cond.code_spec hn (atoms_spec (ws := Jvm.Cond.code x code maxLocals ret :: tables_1) h _ List.mem_cons_self)
    exact ⟨meth, c, h1, h2, h3, h4, h5, h6⟩
  · intro p e s m args below meth c s₁ B hml0 hP _
    obtain ⟨rfl, hx, hbd, hgv⟩ := hP
    obtain ⟨scr, harrAt, hlist, hof, hsmall⟩ := hx
    obtain ⟨hcb, hkn, -, -⟩ := State.arrayAt?_spec harrAt
    have hown : s.vm.findClass R_law = some m.cls := findClass_of_methodNamed B.named
    have hts0 : ∀ c ∈ (Jvm.Cond.code x code maxLocals ret :: tables_1), c.before #[Value.ref b] s = true := atoms_spec (ws := Jvm.Cond.code x code maxLocals ret :: tables_1) B.pre
    have hts : ∀ w ∈ lw_tbl, w.before #[Value.ref b] s = true := k2_hts_sels lw_privs (fun w hw => hts0 w (List.mem_cons_of_mem _ hw)) lw_privs_ok
    have hml : c.maxLocals = 4 := B.maxLocals_eq (hts0 _ List.mem_cons_self)
    have X₀ : Stand p l e room_1 s m #[Value.ref b] below meth c s₁ [] 0 0 := Stand.of_body B
    have hh0 : s₁.heap = s.heap := by rw [B.state]; rfl
    have hsz : scr.slots.size = xs.length := by rw [← Array.length_toList, hlist, List.length_map]
    have hval : ∀ j : Nat, j < xs.length → scr.slots[j]? = some (.int (xs.getD j 0)) := fun j hj => by
      rw [← Array.getElem?_toList, hlist]
      simp [hj]
    have hbl : b < s.heap.size := (Array.getElem?_eq_some_iff.mp hcb).1
    have hX : va_X b xs.length (fun j => xs.getD j 0) s s.heap := ⟨scr, hcb, hof, hkn, hsz, hval⟩
    have K : W p l e room_1 s m #[Value.ref b] below meth c s₁.heap [] 0 0 (lw_Z below #[Value.ref b] s) (entryFrame m ([Value.ref b] : List Value).toArray 4) := by
      rw [hh0]
      exact whole_start l hbd ⟨B.exec, B.bytes, B.returns, hml, hown, hts, hX, hbl, B.notSynchronized, hgv⟩
    obtain ⟨t, a1, o, b1, b2, b3⟩ := K s₁ rfl X₀
    exact ⟨t, o, a1, b1, b2, b3⟩
theorem lw_pre_spec {args : Array Value} {s : State} (h : (Jvm.Cond.and given_1 narrow_1).before args s = true) (hr : rest_1_c.before args s = true) : ∃ (b : Addr) (xs : List Int32), lw_P b xs args s := by
  have hs := flat_of_before _ h
  have hq := flat_of_before _ hr
  have hc : (Cond.count 1).before args s = true := hs _ (by decide +kernel)
  have harr : (Cond.arrayOf (.arg 0) .int).before args s = true := hs _ (by decide +kernel)
  have hle : (Cond.le (.length (.arg 0)) (.int 1537)).before args s = true := hs _ (by decide +kernel)
  have hlen : (Cond.isInt (.length (.arg 0))).before args s = true := hq _ (by decide +kernel)
  have hall : (Cond.all (.arg 0) (.isInt (.elem (.arg 0) (.index 0)))).before args s = true := hq _ (by decide +kernel)
  obtain ⟨b, xs, hb, hx⟩ := State.ints_of_pre rfl harr hlen hall
  have hsm : xs.length < 2 ^ 31 := hx.choose_spec.2.2.2
  have hev : (Term.length (.arg 0)).eval args s none [] s = some (.int xs.length.toInt32) := hx.length_eval hb
  have hv := Cond.le_ints hev (show (Term.int 1537).eval args s none [] s = some (.int 1537) from rfl)
  have hd : xs.length.toInt32 ≤ 1537 := by
    simpa [Cond.before, Cond.holds, hv] using hle
  have hN : xs.length ≤ 1537 := (Int32.ofNat_le_ofNat hsm (by decide)).mp (show Int32.ofNat xs.length ≤ Int32.ofNat 1537 from hd)
  exact ⟨b, xs, Cond.one_arg hc (show args[0]? = some (.ref b) from hb), hx, hN, h⟩
theorem lw_comes (l : Launch) : Comes l x (Jvm.Cond.code x code maxLocals ret :: tables_1) room_1 (fun tb e args s => Calls_1 tb e args s ∧ rest_1 tb e args s ∧ Pre_1 tb e args s)
    (fun _ _ args s o t => lw_Q args s o t) := by
  intro p e ha hc hk s m args below hf hfit hheap happ hpre
  obtain ⟨b, xs, hP⟩ := lw_pre_spec hpre.2.2 hpre.2.1
  obtain ⟨k, o, h1, h2, h3, hQ⟩ := lw_walk l b xs p e ha hc hk s m args below hf ((Spec.applies_iff_loose hf).mp happ).1 hP trivial
  exact ⟨k, o, h1, h2, h3, hQ⟩
theorem lw_frame {s t : State} {o : Outcome} {args : Array Value} (h : Framed s o t [] 600000 7302250) :
    Framed s o t (fieldLocs frame_1_writes args s ++ arrayLocs frame_1_arrays args s ++ staticLocs frame_1_statics s) 600000 7302250 := h
theorem lw_limb (L : Cond) (hL : ∀ (args : Array Value) (s t : State), L.after args s (.returned (some (.int 1))) t = true) :
    ArmFor flags0 classFile x code maxLocals ret World_1 tables_1 room_1 Calls_1 rest_1 Pre_1
      (fun tb e a s o t => postC L tb e a s o t ∧ Framed s o t (fieldLocs frame_1_writes a s ++ arrayLocs frame_1_arrays a s ++ staticLocs frame_1_statics s) 600000 7302250) := by
  intro l _ _ _ p e ha hc hk s m args below hf hfit hheap happ hpre
  obtain ⟨k, o, h1, h2, h3, rfl, hF⟩ := lw_comes l p e ha hc hk s m args below hf hfit hheap happ hpre
  exact ⟨k, _, h1, h2, h3, hL args s _, lw_frame hF⟩
theorem i_vc : Claimed_1_1 ∧ Claimed_1_2 := ⟨lw_limb limb_1_1 (fun args s t => by simp [limb_1_1, Cond.after, Cond.holds, Cond.value]), lw_limb limb_1_2 (fun args s t => Cond.after_iff.mpr (by
  first | (rw [show limb_1_2 = Cond.eq .result (.int 1) from rfl, Cond.eq_ints (x := 1) (y := 1) rfl rfl]; simp; done) | (simp [limb_1_2, Cond.value, Term.eval]; done)))⟩
end
