section
-- ===== PART A: goes FIRST, ahead of the names: the tables' words, and 'selects' of the private methods out of them =====
/-- a private method of a class that the tables say can be made, by its rows of tables_1 -/
def lw_okq (q : MethodName × Nat) : Prop := (q.1.cls ≠ "java/lang/invoke/MethodHandle" ∧ q.1.cls ≠ "java/lang/invoke/VarHandle") ∧ Cond.instantiable q.1.cls q.2 ∈ tables_1 ∧ Cond.privateMethod q.1 ∈ tables_1 ∧ Cond.instanceMethod q.1 ∈ tables_1
theorem lw_p0 : lw_okq (⟨"LeastCost", "step", "()V"⟩, 30) := ⟨⟨by decide +kernel, by decide +kernel⟩, List.mem_of_getElem? (i := 6) (by decide +kernel), List.mem_of_getElem? (i := 174) (by decide +kernel), List.mem_of_getElem? (i := 175) (by decide +kernel)⟩
theorem lw_p1 : lw_okq (⟨"LeastCost", "write", "(I)Z"⟩, 30) := ⟨⟨by decide +kernel, by decide +kernel⟩, List.mem_of_getElem? (i := 6) (by decide +kernel), List.mem_of_getElem? (i := 182) (by decide +kernel), List.mem_of_getElem? (i := 183) (by decide +kernel)⟩
theorem lw_p2 : lw_okq (⟨"LeastCost", "turn", "()V"⟩, 30) := ⟨⟨by decide +kernel, by decide +kernel⟩, List.mem_of_getElem? (i := 6) (by decide +kernel), List.mem_of_getElem? (i := 186) (by decide +kernel), List.mem_of_getElem? (i := 187) (by decide +kernel)⟩
theorem lw_p3 : lw_okq (⟨"LeastCost$Board", "weigh", "(II)V"⟩, 9) := ⟨⟨by decide +kernel, by decide +kernel⟩, List.mem_of_getElem? (i := 14) (by decide +kernel), List.mem_of_getElem? (i := 194) (by decide +kernel), List.mem_of_getElem? (i := 195) (by decide +kernel)⟩
theorem lw_p4 : lw_okq (⟨"LeastCost$Board", "isOpen", "(I)Z"⟩, 9) := ⟨⟨by decide +kernel, by decide +kernel⟩, List.mem_of_getElem? (i := 14) (by decide +kernel), List.mem_of_getElem? (i := 209) (by decide +kernel), List.mem_of_getElem? (i := 210) (by decide +kernel)⟩
theorem lw_p5 : lw_okq (⟨"LeastCost", "anew", "()V"⟩, 30) := ⟨⟨by decide +kernel, by decide +kernel⟩, List.mem_of_getElem? (i := 6) (by decide +kernel), List.mem_of_getElem? (i := 245) (by decide +kernel), List.mem_of_getElem? (i := 246) (by decide +kernel)⟩
theorem lw_p6 : lw_okq (⟨"LeastCost", "begin", "()Z"⟩, 30) := ⟨⟨by decide +kernel, by decide +kernel⟩, List.mem_of_getElem? (i := 6) (by decide +kernel), List.mem_of_getElem? (i := 257) (by decide +kernel), List.mem_of_getElem? (i := 258) (by decide +kernel)⟩
theorem lw_p7 : lw_okq (⟨"LeastCost", "holds", "(II)Z"⟩, 30) := ⟨⟨by decide +kernel, by decide +kernel⟩, List.mem_of_getElem? (i := 6) (by decide +kernel), List.mem_of_getElem? (i := 261) (by decide +kernel), List.mem_of_getElem? (i := 262) (by decide +kernel)⟩
theorem lw_p8 : lw_okq (⟨"LeastCost", "settle", "(Z)V"⟩, 30) := ⟨⟨by decide +kernel, by decide +kernel⟩, List.mem_of_getElem? (i := 6) (by decide +kernel), List.mem_of_getElem? (i := 266) (by decide +kernel), List.mem_of_getElem? (i := 267) (by decide +kernel)⟩
theorem lw_p9 : lw_okq (⟨"LeastCost", "word", "()I"⟩, 30) := ⟨⟨by decide +kernel, by decide +kernel⟩, List.mem_of_getElem? (i := 6) (by decide +kernel), List.mem_of_getElem? (i := 270) (by decide +kernel), List.mem_of_getElem? (i := 271) (by decide +kernel)⟩
theorem lw_p10 : lw_okq (⟨"LeastCost", "close", "()I"⟩, 30) := ⟨⟨by decide +kernel, by decide +kernel⟩, List.mem_of_getElem? (i := 6) (by decide +kernel), List.mem_of_getElem? (i := 274) (by decide +kernel), List.mem_of_getElem? (i := 275) (by decide +kernel)⟩
theorem lw_p11 : lw_okq (⟨"LeastCost", "side", "(IZ)V"⟩, 30) := ⟨⟨by decide +kernel, by decide +kernel⟩, List.mem_of_getElem? (i := 6) (by decide +kernel), List.mem_of_getElem? (i := 278) (by decide +kernel), List.mem_of_getElem? (i := 279) (by decide +kernel)⟩
theorem lw_p12 : lw_okq (⟨"LeastCostModel", "step", "()V"⟩, 30) := ⟨⟨by decide +kernel, by decide +kernel⟩, List.mem_of_getElem? (i := 282) (by decide +kernel), List.mem_of_getElem? (i := 398) (by decide +kernel), List.mem_of_getElem? (i := 399) (by decide +kernel)⟩
theorem lw_p13 : lw_okq (⟨"LeastCostModel", "isBroken", "(ZI)Z"⟩, 30) := ⟨⟨by decide +kernel, by decide +kernel⟩, List.mem_of_getElem? (i := 282) (by decide +kernel), List.mem_of_getElem? (i := 402) (by decide +kernel), List.mem_of_getElem? (i := 403) (by decide +kernel)⟩
theorem lw_p14 : lw_okq (⟨"LeastCostModel", "cost", "()I"⟩, 30) := ⟨⟨by decide +kernel, by decide +kernel⟩, List.mem_of_getElem? (i := 282) (by decide +kernel), List.mem_of_getElem? (i := 406) (by decide +kernel), List.mem_of_getElem? (i := 407) (by decide +kernel)⟩
theorem lw_p15 : lw_okq (⟨"LeastCostModel", "isSet", "(I)Z"⟩, 30) := ⟨⟨by decide +kernel, by decide +kernel⟩, List.mem_of_getElem? (i := 282) (by decide +kernel), List.mem_of_getElem? (i := 410) (by decide +kernel), List.mem_of_getElem? (i := 411) (by decide +kernel)⟩
def lw_privs_1 : List (MethodName × Nat) := [(⟨"LeastCost", "step", "()V"⟩, 30), (⟨"LeastCost", "write", "(I)Z"⟩, 30), (⟨"LeastCost", "turn", "()V"⟩, 30), (⟨"LeastCost$Board", "weigh", "(II)V"⟩, 9), (⟨"LeastCost$Board", "isOpen", "(I)Z"⟩, 9), (⟨"LeastCost", "anew", "()V"⟩, 30), (⟨"LeastCost", "begin", "()Z"⟩, 30), (⟨"LeastCost", "holds", "(II)Z"⟩, 30), (⟨"LeastCost", "settle", "(Z)V"⟩, 30), (⟨"LeastCost", "word", "()I"⟩, 30), (⟨"LeastCost", "close", "()I"⟩, 30), (⟨"LeastCost", "side", "(IZ)V"⟩, 30), (⟨"LeastCostModel", "step", "()V"⟩, 30), (⟨"LeastCostModel", "isBroken", "(ZI)Z"⟩, 30), (⟨"LeastCostModel", "cost", "()I"⟩, 30), (⟨"LeastCostModel", "isSet", "(I)Z"⟩, 30)]
theorem lw_r1 : ∀ q ∈ lw_privs_1, lw_okq q := List.forall_mem_cons.mpr ⟨lw_p0, List.forall_mem_cons.mpr ⟨lw_p1, List.forall_mem_cons.mpr ⟨lw_p2, List.forall_mem_cons.mpr ⟨lw_p3, List.forall_mem_cons.mpr ⟨lw_p4, List.forall_mem_cons.mpr ⟨lw_p5, List.forall_mem_cons.mpr ⟨lw_p6, List.forall_mem_cons.mpr ⟨lw_p7, List.forall_mem_cons.mpr ⟨lw_p8, List.forall_mem_cons.mpr ⟨lw_p9, List.forall_mem_cons.mpr ⟨lw_p10, List.forall_mem_cons.mpr ⟨lw_p11, List.forall_mem_cons.mpr ⟨lw_p12, List.forall_mem_cons.mpr ⟨lw_p13, List.forall_mem_cons.mpr ⟨lw_p14, List.forall_mem_cons.mpr ⟨lw_p15, fun _ h => absurd h List.not_mem_nil⟩⟩⟩⟩⟩⟩⟩⟩⟩⟩⟩⟩⟩⟩⟩⟩
theorem lw_p16 : lw_okq (⟨"LeastCostModel", "isOne", "(I)Z"⟩, 30) := ⟨⟨by decide +kernel, by decide +kernel⟩, List.mem_of_getElem? (i := 282) (by decide +kernel), List.mem_of_getElem? (i := 414) (by decide +kernel), List.mem_of_getElem? (i := 415) (by decide +kernel)⟩
theorem lw_p17 : lw_okq (⟨"LeastCostModel", "slack", "(I)I"⟩, 30) := ⟨⟨by decide +kernel, by decide +kernel⟩, List.mem_of_getElem? (i := 282) (by decide +kernel), List.mem_of_getElem? (i := 418) (by decide +kernel), List.mem_of_getElem? (i := 419) (by decide +kernel)⟩
theorem lw_p18 : lw_okq (⟨"LeastCostModel", "isFalse", "(I)Z"⟩, 30) := ⟨⟨by decide +kernel, by decide +kernel⟩, List.mem_of_getElem? (i := 282) (by decide +kernel), List.mem_of_getElem? (i := 422) (by decide +kernel), List.mem_of_getElem? (i := 423) (by decide +kernel)⟩
theorem lw_p19 : lw_okq (⟨"LeastCostModel", "goBack", "()V"⟩, 30) := ⟨⟨by decide +kernel, by decide +kernel⟩, List.mem_of_getElem? (i := 282) (by decide +kernel), List.mem_of_getElem? (i := 426) (by decide +kernel), List.mem_of_getElem? (i := 427) (by decide +kernel)⟩
theorem lw_p20 : lw_okq (⟨"LeastCostModel", "write", "(I)Z"⟩, 30) := ⟨⟨by decide +kernel, by decide +kernel⟩, List.mem_of_getElem? (i := 282) (by decide +kernel), List.mem_of_getElem? (i := 430) (by decide +kernel), List.mem_of_getElem? (i := 431) (by decide +kernel)⟩
theorem lw_p21 : lw_okq (⟨"LeastCostModel", "lay", "(IZZ)V"⟩, 30) := ⟨⟨by decide +kernel, by decide +kernel⟩, List.mem_of_getElem? (i := 282) (by decide +kernel), List.mem_of_getElem? (i := 434) (by decide +kernel), List.mem_of_getElem? (i := 435) (by decide +kernel)⟩
theorem lw_p22 : lw_okq (⟨"LeastCostModel", "put", "(IZ)V"⟩, 30) := ⟨⟨by decide +kernel, by decide +kernel⟩, List.mem_of_getElem? (i := 282) (by decide +kernel), List.mem_of_getElem? (i := 438) (by decide +kernel), List.mem_of_getElem? (i := 439) (by decide +kernel)⟩
theorem lw_p23 : lw_okq (⟨"LeastCostModel", "forced", "(ZI)I"⟩, 30) := ⟨⟨by decide +kernel, by decide +kernel⟩, List.mem_of_getElem? (i := 282) (by decide +kernel), List.mem_of_getElem? (i := 442) (by decide +kernel), List.mem_of_getElem? (i := 443) (by decide +kernel)⟩
theorem lw_p24 : lw_okq (⟨"LeastCostModel", "anew", "()V"⟩, 30) := ⟨⟨by decide +kernel, by decide +kernel⟩, List.mem_of_getElem? (i := 282) (by decide +kernel), List.mem_of_getElem? (i := 466) (by decide +kernel), List.mem_of_getElem? (i := 467) (by decide +kernel)⟩
theorem lw_p25 : lw_okq (⟨"LeastCostModel", "look", "()V"⟩, 30) := ⟨⟨by decide +kernel, by decide +kernel⟩, List.mem_of_getElem? (i := 282) (by decide +kernel), List.mem_of_getElem? (i := 478) (by decide +kernel), List.mem_of_getElem? (i := 479) (by decide +kernel)⟩
theorem lw_p26 : lw_okq (⟨"LeastCostModel", "word", "()V"⟩, 30) := ⟨⟨by decide +kernel, by decide +kernel⟩, List.mem_of_getElem? (i := 282) (by decide +kernel), List.mem_of_getElem? (i := 483) (by decide +kernel), List.mem_of_getElem? (i := 484) (by decide +kernel)⟩
theorem lw_p27 : lw_okq (⟨"LeastCostModel", "hold", "(IIZ)V"⟩, 30) := ⟨⟨by decide +kernel, by decide +kernel⟩, List.mem_of_getElem? (i := 282) (by decide +kernel), List.mem_of_getElem? (i := 487) (by decide +kernel), List.mem_of_getElem? (i := 488) (by decide +kernel)⟩
def lw_privs_2 : List (MethodName × Nat) := [(⟨"LeastCostModel", "isOne", "(I)Z"⟩, 30), (⟨"LeastCostModel", "slack", "(I)I"⟩, 30), (⟨"LeastCostModel", "isFalse", "(I)Z"⟩, 30), (⟨"LeastCostModel", "goBack", "()V"⟩, 30), (⟨"LeastCostModel", "write", "(I)Z"⟩, 30), (⟨"LeastCostModel", "lay", "(IZZ)V"⟩, 30), (⟨"LeastCostModel", "put", "(IZ)V"⟩, 30), (⟨"LeastCostModel", "forced", "(ZI)I"⟩, 30), (⟨"LeastCostModel", "anew", "()V"⟩, 30), (⟨"LeastCostModel", "look", "()V"⟩, 30), (⟨"LeastCostModel", "word", "()V"⟩, 30), (⟨"LeastCostModel", "hold", "(IIZ)V"⟩, 30)]
theorem lw_r2 : ∀ q ∈ lw_privs_2, lw_okq q := List.forall_mem_cons.mpr ⟨lw_p16, List.forall_mem_cons.mpr ⟨lw_p17, List.forall_mem_cons.mpr ⟨lw_p18, List.forall_mem_cons.mpr ⟨lw_p19, List.forall_mem_cons.mpr ⟨lw_p20, List.forall_mem_cons.mpr ⟨lw_p21, List.forall_mem_cons.mpr ⟨lw_p22, List.forall_mem_cons.mpr ⟨lw_p23, List.forall_mem_cons.mpr ⟨lw_p24, List.forall_mem_cons.mpr ⟨lw_p25, List.forall_mem_cons.mpr ⟨lw_p26, List.forall_mem_cons.mpr ⟨lw_p27, fun _ h => absurd h List.not_mem_nil⟩⟩⟩⟩⟩⟩⟩⟩⟩⟩⟩⟩
def lw_privs : List (MethodName × Nat) := lw_privs_1 ++ (lw_privs_2)
def lw_tbl : List Cond := k2_sels lw_privs ++ tables_1
theorem lw_privs_ok : ∀ q ∈ lw_privs, lw_okq q := by
  show ∀ q ∈ lw_privs_1 ++ (lw_privs_2), lw_okq q
  exact List.forall_mem_append.mpr ⟨lw_r1, lw_r2⟩
def R_B : String := "LeastCost$Board"
def F_B : u_T := fun k => match k with
  | 0 => ("LeastCost$Board", "of", "LLeastCost;", true)
  | 1 => ("LeastCost$Board", "values", "[I", true)
  | 2 => ("LeastCost$Board", "trail", "[I", true)
  | 3 => ("LeastCost$Board", "length", "I", false)
  | 4 => ("LeastCost$Board", "slacks", "[J", true)
  | 5 => ("LeastCost$Board", "spent", "J", false)
  | 6 => ("LeastCost$Board", "limit", "J", false)
  | 7 => ("LeastCost$Board", "limited", "Z", false)
  | _ => ("LeastCost$Board", "forced", "I", false)
def t_B : Nat → FieldType := fun k => match k with
  | 0 => .object "LeastCost"
  | 1 => .array .int
  | 2 => .array .int
  | 3 => .int
  | 4 => .array .long
  | 5 => .long
  | 6 => .long
  | 7 => .boolean
  | _ => .int
abbrev w_B : List Cond := u_ws R_B F_B 9
def R_C : String := "LeastCost"
def F_C : u_T := fun k => match k with
  | 0 => ("LeastCost", "costs", "[I", true)
  | 1 => ("LeastCost", "starts", "[I", true)
  | 2 => ("LeastCost", "bounds", "[I", true)
  | 3 => ("LeastCost", "coefficients", "[I", true)
  | 4 => ("LeastCost", "literals", "[I", true)
  | 5 => ("LeastCost", "count", "I", false)
  | 6 => ("LeastCost", "terms", "I", false)
  | 7 => ("LeastCost", "begun", "Z", false)
  | 8 => ("LeastCost", "board", "LLeastCost$Board;", true)
  | 9 => ("LeastCost", "chosen", "[I", true)
  | 10 => ("LeastCost", "turned", "[Z", true)
  | 11 => ("LeastCost", "marks", "[I", true)
  | 12 => ("LeastCost", "choices", "I", false)
  | 13 => ("LeastCost", "log", "[I", true)
  | 14 => ("LeastCost", "logLength", "I", false)
  | 15 => ("LeastCost", "best", "I", false)
  | 16 => ("LeastCost", "bestBits", "I", false)
  | 17 => ("LeastCost", "done", "Z", false)
  | 18 => ("LeastCost", "lost", "Z", false)
  | 19 => ("LeastCost", "stepCount", "I", false)
  | 20 => ("LeastCost", "look", "LLeastCost$Board;", true)
  | 21 => ("LeastCost", "waiting", "[I", true)
  | 22 => ("LeastCost", "lengths", "[I", true)
  | 23 => ("LeastCost", "dead", "[Z", true)
  | 24 => ("LeastCost", "waits", "I", false)
  | 25 => ("LeastCost", "broken", "Z", false)
  | 26 => ("LeastCost", "closed", "Z", false)
  | 27 => ("LeastCost", "looked", "Z", false)
  | 28 => ("LeastCost", "at", "I", false)
  | _ => ("LeastCost", "verdict", "I", false)
def t_C : Nat → FieldType := fun k => match k with
  | 0 => .array .int
  | 1 => .array .int
  | 2 => .array .int
  | 3 => .array .int
  | 4 => .array .int
  | 5 => .int
  | 6 => .int
  | 7 => .boolean
  | 8 => .object "LeastCost$Board"
  | 9 => .array .int
  | 10 => .array .boolean
  | 11 => .array .int
  | 12 => .int
  | 13 => .array .int
  | 14 => .int
  | 15 => .int
  | 16 => .int
  | 17 => .boolean
  | 18 => .boolean
  | 19 => .int
  | 20 => .object "LeastCost$Board"
  | 21 => .array .int
  | 22 => .array .int
  | 23 => .array .boolean
  | 24 => .int
  | 25 => .boolean
  | 26 => .boolean
  | 27 => .boolean
  | 28 => .int
  | _ => .int
abbrev w_C : List Cond := u_ws R_C F_C 30
def R_M : String := "LeastCostModel"
def F_M : u_T := fun k => match k with
  | 0 => ("LeastCostModel", "thrown", "I", false)
  | 1 => ("LeastCostModel", "costs", "[I", true)
  | 2 => ("LeastCostModel", "factors", "[I", true)
  | 3 => ("LeastCostModel", "literals", "[I", true)
  | 4 => ("LeastCostModel", "begins", "[I", true)
  | 5 => ("LeastCostModel", "bounds", "[I", true)
  | 6 => ("LeastCostModel", "constraints", "I", false)
  | 7 => ("LeastCostModel", "terms", "I", false)
  | 8 => ("LeastCostModel", "begun", "Z", false)
  | 9 => ("LeastCostModel", "done", "Z", false)
  | 10 => ("LeastCostModel", "over", "Z", false)
  | 11 => ("LeastCostModel", "set", "I", false)
  | 12 => ("LeastCostModel", "ones", "I", false)
  | 13 => ("LeastCostModel", "trail", "[I", true)
  | 14 => ("LeastCostModel", "choice", "[Z", true)
  | 15 => ("LeastCostModel", "depth", "I", false)
  | 16 => ("LeastCostModel", "searchSet", "I", false)
  | 17 => ("LeastCostModel", "searchOnes", "I", false)
  | 18 => ("LeastCostModel", "best", "I", false)
  | 19 => ("LeastCostModel", "bestOnes", "I", false)
  | 20 => ("LeastCostModel", "made", "I", false)
  | 21 => ("LeastCostModel", "log", "[I", true)
  | 22 => ("LeastCostModel", "size", "I", false)
  | 23 => ("LeastCostModel", "answer", "I", false)
  | 24 => ("LeastCostModel", "looked", "Z", false)
  | 25 => ("LeastCostModel", "place", "I", false)
  | 26 => ("LeastCostModel", "waiting", "I", false)
  | 27 => ("LeastCostModel", "waitSet", "[I", true)
  | 28 => ("LeastCostModel", "waitOnes", "[I", true)
  | _ => ("LeastCostModel", "waitDead", "[Z", true)
def t_M : Nat → FieldType := fun k => match k with
  | 0 => .int
  | 1 => .array .int
  | 2 => .array .int
  | 3 => .array .int
  | 4 => .array .int
  | 5 => .array .int
  | 6 => .int
  | 7 => .int
  | 8 => .boolean
  | 9 => .boolean
  | 10 => .boolean
  | 11 => .int
  | 12 => .int
  | 13 => .array .int
  | 14 => .array .boolean
  | 15 => .int
  | 16 => .int
  | 17 => .int
  | 18 => .int
  | 19 => .int
  | 20 => .int
  | 21 => .array .int
  | 22 => .int
  | 23 => .int
  | 24 => .boolean
  | 25 => .int
  | 26 => .int
  | 27 => .array .int
  | 28 => .array .int
  | _ => .array .boolean
abbrev w_M : List Cond := u_ws R_M F_M 30
def R_law : String := "LeastCostLaw"
abbrev classes : List vw_C := [(R_B, F_B, 9), (R_C, F_C, 30), (R_M, F_M, 30)]
/-- the words that a call hands on; the links to a nest mate's fields, which it hands on as facts of the state -/
def lw_ok : List Cond := lw_tbl.filter goodWord
def lw_isN : Cond → Bool
  | .fieldLinkNest .. => true
  | _ => false
def lw_nest : List Cond := lw_tbl.filter lw_isN
theorem lw_mem {w : Cond} (i : Nat) (h : lw_tbl[i]? = some w) (hg : goodWord w = true) : w ∈ lw_ok := List.mem_filter.mpr ⟨List.mem_of_getElem? h, hg⟩
theorem lw_memN {w : Cond} (i : Nat) (h : lw_tbl[i]? = some w) (hg : lw_isN w = true) : w ∈ lw_nest := List.mem_filter.mpr ⟨List.mem_of_getElem? h, hg⟩
theorem lw_good : ∀ w ∈ lw_ok, goodWord w = true := fun w h => (List.mem_filter.mp h).2
theorem lw_sub : ∀ w ∈ lw_ok, w ∈ lw_tbl := fun w h => (List.mem_filter.mp h).1
theorem lw_subN : ∀ w ∈ lw_nest, w ∈ lw_tbl := fun w h => (List.mem_filter.mp h).1
theorem lw_warm {w : Cond} (h : w ∈ lw_nest) {s U : State} (hW : s.WarmedH U.vm) (hZ : va_Nw w s) : va_Nw w U := by
  have h1 := (List.mem_filter.mp h).2
  cases w <;> first | (simp [lw_isN] at h1; done) | exact va_Nw.warmF hW hZ
theorem lw_tabs {w : Cond} (h : w ∈ lw_nest) : w.onTables = true := by
  have h1 := (List.mem_filter.mp h).2
  cases w <;> first | (simp [lw_isN] at h1; done) | rfl
theorem n_B : ∀ a, a < 9 → ∀ b, b < 9 → a ≠ b → (F_B a).2.1 ≠ (F_B b).2.1 := by decide +kernel
theorem t_B_ok : ∀ k, k < 9 → parseFieldDescriptor (F_B k).2.2.1 = some (t_B k) := by decide +kernel
theorem i_B : ∀ w ∈ w_B, w ∈ lw_ok := by decide +kernel
theorem n_C : ∀ a, a < 30 → ∀ b, b < 30 → a ≠ b → (F_C a).2.1 ≠ (F_C b).2.1 := by decide +kernel
theorem t_C_ok : ∀ k, k < 30 → parseFieldDescriptor (F_C k).2.2.1 = some (t_C k) := by decide +kernel
theorem i_C : ∀ w ∈ w_C, w ∈ lw_ok := by decide +kernel
theorem n_M : ∀ a, a < 30 → ∀ b, b < 30 → a ≠ b → (F_M a).2.1 ≠ (F_M b).2.1 := by decide +kernel
theorem t_M_ok : ∀ k, k < 30 → parseFieldDescriptor (F_M k).2.2.1 = some (t_M k) := by decide +kernel
theorem i_M : ∀ w ∈ w_M, w ∈ lw_ok := by decide +kernel
abbrev b_C_init : ByteArray := prog_1_method_1_code
def y_C_init : MethodName := ⟨R_C, "<init>", "()V"⟩
theorem k_C_init : Cond.code y_C_init b_C_init 1 none ∈ lw_ok := lw_mem 37 rfl rfl
theorem im_C_init : Cond.instanceMethod y_C_init ∈ lw_ok := lw_mem 36 rfl rfl
abbrev b_B_init : ByteArray := prog_2_method_1_code
def y_B_init : MethodName := ⟨R_B, "<init>", "(LLeastCost;)V"⟩
theorem k_B_init : Cond.code y_B_init b_B_init 2 none ∈ lw_ok := lw_mem 45 rfl rfl
theorem im_B_init : Cond.instanceMethod y_B_init ∈ lw_ok := lw_mem 44 rfl rfl
abbrev b_C_setCost : ByteArray := prog_1_method_3_code
def y_C_setCost : MethodName := ⟨R_C, "setCost", "(II)I"⟩
theorem k_C_setCost : Cond.code y_C_setCost b_C_setCost 3 (some .int) ∈ lw_ok := lw_mem 180 rfl rfl
theorem im_C_setCost : Cond.instanceMethod y_C_setCost ∈ lw_ok := lw_mem 178 rfl rfl
theorem se_C_setCost : Cond.selects R_C y_C_setCost y_C_setCost ∈ lw_ok := lw_mem 179 rfl rfl
abbrev b_C_isVariable : ByteArray := prog_1_method_2_code
def y_C_isVariable : MethodName := ⟨R_C, "isVariable", "(I)Z"⟩
theorem k_C_isVariable : Cond.code y_C_isVariable b_C_isVariable 1 (some .boolean) ∈ lw_ok := lw_mem 183 rfl rfl
theorem is_C_isVariable : Cond.static y_C_isVariable ∈ lw_ok := lw_mem 182 rfl rfl
abbrev b_C_term : ByteArray := prog_1_method_4_code
def y_C_term : MethodName := ⟨R_C, "term", "(II)I"⟩
theorem k_C_term : Cond.code y_C_term b_C_term 5 (some .int) ∈ lw_ok := lw_mem 187 rfl rfl
theorem im_C_term : Cond.instanceMethod y_C_term ∈ lw_ok := lw_mem 185 rfl rfl
theorem se_C_term : Cond.selects R_C y_C_term y_C_term ∈ lw_ok := lw_mem 186 rfl rfl
abbrev b_C_end : ByteArray := prog_1_method_5_code
def y_C_end : MethodName := ⟨R_C, "end", "(I)I"⟩
theorem k_C_end : Cond.code y_C_end b_C_end 2 (some .int) ∈ lw_ok := lw_mem 191 rfl rfl
theorem im_C_end : Cond.instanceMethod y_C_end ∈ lw_ok := lw_mem 189 rfl rfl
theorem se_C_end : Cond.selects R_C y_C_end y_C_end ∈ lw_ok := lw_mem 190 rfl rfl
abbrev b_C_run : ByteArray := prog_1_method_7_code
def y_C_run : MethodName := ⟨R_C, "run", "(I)I"⟩
theorem k_C_run : Cond.code y_C_run b_C_run 3 (some .int) ∈ lw_ok := lw_mem 196 rfl rfl
theorem im_C_run : Cond.instanceMethod y_C_run ∈ lw_ok := lw_mem 194 rfl rfl
theorem se_C_run : Cond.selects R_C y_C_run y_C_run ∈ lw_ok := lw_mem 195 rfl rfl
abbrev b_B_begin : ByteArray := prog_2_method_2_code
def y_B_begin : MethodName := ⟨R_B, "begin", "()V"⟩
theorem k_B_begin : Cond.code y_B_begin b_B_begin 3 none ∈ lw_ok := lw_mem 200 rfl rfl
theorem im_B_begin : Cond.instanceMethod y_B_begin ∈ lw_ok := lw_mem 198 rfl rfl
theorem se_B_begin : Cond.selects R_B y_B_begin y_B_begin ∈ lw_ok := lw_mem 199 rfl rfl
abbrev b_C_step : ByteArray := prog_1_method_8_code
def y_C_step : MethodName := ⟨R_C, "step", "()V"⟩
theorem k_C_step : Cond.code y_C_step b_C_step 4 none ∈ lw_ok := lw_mem 204 rfl rfl
theorem im_C_step : Cond.instanceMethod y_C_step ∈ lw_ok := lw_mem 203 rfl rfl
theorem se_C_step : Cond.selects R_C y_C_step y_C_step ∈ lw_ok := lw_mem 0 rfl rfl
abbrev b_B_isBroken : ByteArray := prog_2_method_7_code
def y_B_isBroken : MethodName := ⟨R_B, "isBroken", "()Z"⟩
theorem k_B_isBroken : Cond.code y_B_isBroken b_B_isBroken 3 (some .boolean) ∈ lw_ok := lw_mem 208 rfl rfl
theorem im_B_isBroken : Cond.instanceMethod y_B_isBroken ∈ lw_ok := lw_mem 206 rfl rfl
theorem se_B_isBroken : Cond.selects R_B y_B_isBroken y_B_isBroken ∈ lw_ok := lw_mem 207 rfl rfl
abbrev b_C_write : ByteArray := prog_1_method_6_code
def y_C_write : MethodName := ⟨R_C, "write", "(I)Z"⟩
theorem k_C_write : Cond.code y_C_write b_C_write 2 (some .boolean) ∈ lw_ok := lw_mem 212 rfl rfl
theorem im_C_write : Cond.instanceMethod y_C_write ∈ lw_ok := lw_mem 211 rfl rfl
theorem se_C_write : Cond.selects R_C y_C_write y_C_write ∈ lw_ok := lw_mem 1 rfl rfl
abbrev b_C_turn : ByteArray := prog_1_method_9_code
def y_C_turn : MethodName := ⟨R_C, "turn", "()V"⟩
theorem k_C_turn : Cond.code y_C_turn b_C_turn 1 none ∈ lw_ok := lw_mem 216 rfl rfl
theorem im_C_turn : Cond.instanceMethod y_C_turn ∈ lw_ok := lw_mem 215 rfl rfl
theorem se_C_turn : Cond.selects R_C y_C_turn y_C_turn ∈ lw_ok := lw_mem 2 rfl rfl
abbrev b_B_back : ByteArray := prog_2_method_6_code
def y_B_back : MethodName := ⟨R_B, "back", "(I)V"⟩
theorem k_B_back : Cond.code y_B_back b_B_back 3 none ∈ lw_ok := lw_mem 220 rfl rfl
theorem im_B_back : Cond.instanceMethod y_B_back ∈ lw_ok := lw_mem 218 rfl rfl
theorem se_B_back : Cond.selects R_B y_B_back y_B_back ∈ lw_ok := lw_mem 219 rfl rfl
abbrev b_B_weigh : ByteArray := prog_2_method_5_code
def y_B_weigh : MethodName := ⟨R_B, "weigh", "(II)V"⟩
theorem k_B_weigh : Cond.code y_B_weigh b_B_weigh 5 none ∈ lw_ok := lw_mem 224 rfl rfl
theorem im_B_weigh : Cond.instanceMethod y_B_weigh ∈ lw_ok := lw_mem 223 rfl rfl
theorem se_B_weigh : Cond.selects R_B y_B_weigh y_B_weigh ∈ lw_ok := lw_mem 3 rfl rfl
abbrev b_B_set : ByteArray := prog_2_method_4_code
def y_B_set : MethodName := ⟨R_B, "set", "(I)V"⟩
theorem k_B_set : Cond.code y_B_set b_B_set 3 none ∈ lw_ok := lw_mem 228 rfl rfl
theorem im_B_set : Cond.instanceMethod y_B_set ∈ lw_ok := lw_mem 226 rfl rfl
theorem se_B_set : Cond.selects R_B y_B_set y_B_set ∈ lw_ok := lw_mem 227 rfl rfl
abbrev b_B_forces : ByteArray := prog_2_method_9_code
def y_B_forces : MethodName := ⟨R_B, "forces", "()I"⟩
theorem k_B_forces : Cond.code y_B_forces b_B_forces 3 (some .int) ∈ lw_ok := lw_mem 235 rfl rfl
theorem im_B_forces : Cond.instanceMethod y_B_forces ∈ lw_ok := lw_mem 233 rfl rfl
theorem se_B_forces : Cond.selects R_B y_B_forces y_B_forces ∈ lw_ok := lw_mem 234 rfl rfl
abbrev b_B_isOpen : ByteArray := prog_2_method_8_code
def y_B_isOpen : MethodName := ⟨R_B, "isOpen", "(I)Z"⟩
theorem k_B_isOpen : Cond.code y_B_isOpen b_B_isOpen 2 (some .boolean) ∈ lw_ok := lw_mem 239 rfl rfl
theorem im_B_isOpen : Cond.instanceMethod y_B_isOpen ∈ lw_ok := lw_mem 238 rfl rfl
theorem se_B_isOpen : Cond.selects R_B y_B_isOpen y_B_isOpen ∈ lw_ok := lw_mem 4 rfl rfl
abbrev b_B_firstOpen : ByteArray := prog_2_method_10_code
def y_B_firstOpen : MethodName := ⟨R_B, "firstOpen", "()I"⟩
theorem k_B_firstOpen : Cond.code y_B_firstOpen b_B_firstOpen 2 (some .int) ∈ lw_ok := lw_mem 243 rfl rfl
theorem im_B_firstOpen : Cond.instanceMethod y_B_firstOpen ∈ lw_ok := lw_mem 241 rfl rfl
theorem se_B_firstOpen : Cond.selects R_B y_B_firstOpen y_B_firstOpen ∈ lw_ok := lw_mem 242 rfl rfl
abbrev b_B_limit : ByteArray := prog_2_method_3_code
def y_B_limit : MethodName := ⟨R_B, "limit", "(J)V"⟩
theorem k_B_limit : Cond.code y_B_limit b_B_limit 3 none ∈ lw_ok := lw_mem 247 rfl rfl
theorem im_B_limit : Cond.instanceMethod y_B_limit ∈ lw_ok := lw_mem 245 rfl rfl
theorem se_B_limit : Cond.selects R_B y_B_limit y_B_limit ∈ lw_ok := lw_mem 246 rfl rfl
abbrev b_C_optimum : ByteArray := prog_1_method_10_code
def y_C_optimum : MethodName := ⟨R_C, "optimum", "()I"⟩
theorem k_C_optimum : Cond.code y_C_optimum b_C_optimum 1 (some .int) ∈ lw_ok := lw_mem 251 rfl rfl
theorem im_C_optimum : Cond.instanceMethod y_C_optimum ∈ lw_ok := lw_mem 249 rfl rfl
theorem se_C_optimum : Cond.selects R_C y_C_optimum y_C_optimum ∈ lw_ok := lw_mem 250 rfl rfl
abbrev b_C_value : ByteArray := prog_1_method_11_code
def y_C_value : MethodName := ⟨R_C, "value", "(I)I"⟩
theorem k_C_value : Cond.code y_C_value b_C_value 2 (some .int) ∈ lw_ok := lw_mem 255 rfl rfl
theorem im_C_value : Cond.instanceMethod y_C_value ∈ lw_ok := lw_mem 253 rfl rfl
theorem se_C_value : Cond.selects R_C y_C_value y_C_value ∈ lw_ok := lw_mem 254 rfl rfl
abbrev b_C_logSize : ByteArray := prog_1_method_12_code
def y_C_logSize : MethodName := ⟨R_C, "logSize", "()I"⟩
theorem k_C_logSize : Cond.code y_C_logSize b_C_logSize 1 (some .int) ∈ lw_ok := lw_mem 259 rfl rfl
theorem im_C_logSize : Cond.instanceMethod y_C_logSize ∈ lw_ok := lw_mem 257 rfl rfl
theorem se_C_logSize : Cond.selects R_C y_C_logSize y_C_logSize ∈ lw_ok := lw_mem 258 rfl rfl
abbrev b_C_logAt : ByteArray := prog_1_method_13_code
def y_C_logAt : MethodName := ⟨R_C, "logAt", "(I)I"⟩
theorem k_C_logAt : Cond.code y_C_logAt b_C_logAt 2 (some .int) ∈ lw_ok := lw_mem 263 rfl rfl
theorem im_C_logAt : Cond.instanceMethod y_C_logAt ∈ lw_ok := lw_mem 261 rfl rfl
theorem se_C_logAt : Cond.selects R_C y_C_logAt y_C_logAt ∈ lw_ok := lw_mem 262 rfl rfl
abbrev b_C_steps : ByteArray := prog_1_method_14_code
def y_C_steps : MethodName := ⟨R_C, "steps", "()I"⟩
theorem k_C_steps : Cond.code y_C_steps b_C_steps 1 (some .int) ∈ lw_ok := lw_mem 267 rfl rfl
theorem im_C_steps : Cond.instanceMethod y_C_steps ∈ lw_ok := lw_mem 265 rfl rfl
theorem se_C_steps : Cond.selects R_C y_C_steps y_C_steps ∈ lw_ok := lw_mem 266 rfl rfl
abbrev b_C_poke : ByteArray := prog_1_method_16_code
def y_C_poke : MethodName := ⟨R_C, "poke", "(II)I"⟩
theorem k_C_poke : Cond.code y_C_poke b_C_poke 3 (some .int) ∈ lw_ok := lw_mem 271 rfl rfl
theorem im_C_poke : Cond.instanceMethod y_C_poke ∈ lw_ok := lw_mem 269 rfl rfl
theorem se_C_poke : Cond.selects R_C y_C_poke y_C_poke ∈ lw_ok := lw_mem 270 rfl rfl
abbrev b_C_anew : ByteArray := prog_1_method_15_code
def y_C_anew : MethodName := ⟨R_C, "anew", "()V"⟩
theorem k_C_anew : Cond.code y_C_anew b_C_anew 1 none ∈ lw_ok := lw_mem 275 rfl rfl
theorem im_C_anew : Cond.instanceMethod y_C_anew ∈ lw_ok := lw_mem 274 rfl rfl
theorem se_C_anew : Cond.selects R_C y_C_anew y_C_anew ∈ lw_ok := lw_mem 5 rfl rfl
abbrev b_C_cut : ByteArray := prog_1_method_17_code
def y_C_cut : MethodName := ⟨R_C, "cut", "(I)I"⟩
theorem k_C_cut : Cond.code y_C_cut b_C_cut 2 (some .int) ∈ lw_ok := lw_mem 279 rfl rfl
theorem im_C_cut : Cond.instanceMethod y_C_cut ∈ lw_ok := lw_mem 277 rfl rfl
theorem se_C_cut : Cond.selects R_C y_C_cut y_C_cut ∈ lw_ok := lw_mem 278 rfl rfl
abbrev b_C_check : ByteArray := prog_1_method_21_code
def y_C_check : MethodName := ⟨R_C, "check", "(I)I"⟩
theorem k_C_check : Cond.code y_C_check b_C_check 3 (some .int) ∈ lw_ok := lw_mem 283 rfl rfl
theorem im_C_check : Cond.instanceMethod y_C_check ∈ lw_ok := lw_mem 281 rfl rfl
theorem se_C_check : Cond.selects R_C y_C_check y_C_check ∈ lw_ok := lw_mem 282 rfl rfl
abbrev b_C_begin : ByteArray := prog_1_method_19_code
def y_C_begin : MethodName := ⟨R_C, "begin", "()Z"⟩
theorem k_C_begin : Cond.code y_C_begin b_C_begin 1 (some .boolean) ∈ lw_ok := lw_mem 287 rfl rfl
theorem im_C_begin : Cond.instanceMethod y_C_begin ∈ lw_ok := lw_mem 286 rfl rfl
theorem se_C_begin : Cond.selects R_C y_C_begin y_C_begin ∈ lw_ok := lw_mem 6 rfl rfl
abbrev b_C_holds : ByteArray := prog_1_method_18_code
def y_C_holds : MethodName := ⟨R_C, "holds", "(II)Z"⟩
theorem k_C_holds : Cond.code y_C_holds b_C_holds 11 (some .boolean) ∈ lw_ok := lw_mem 291 rfl rfl
theorem im_C_holds : Cond.instanceMethod y_C_holds ∈ lw_ok := lw_mem 290 rfl rfl
theorem se_C_holds : Cond.selects R_C y_C_holds y_C_holds ∈ lw_ok := lw_mem 7 rfl rfl
abbrev b_C_settle : ByteArray := prog_1_method_20_code
def y_C_settle : MethodName := ⟨R_C, "settle", "(Z)V"⟩
theorem k_C_settle : Cond.code y_C_settle b_C_settle 3 none ∈ lw_ok := lw_mem 296 rfl rfl
theorem im_C_settle : Cond.instanceMethod y_C_settle ∈ lw_ok := lw_mem 295 rfl rfl
theorem se_C_settle : Cond.selects R_C y_C_settle y_C_settle ∈ lw_ok := lw_mem 8 rfl rfl
abbrev b_C_word : ByteArray := prog_1_method_22_code
def y_C_word : MethodName := ⟨R_C, "word", "()I"⟩
theorem k_C_word : Cond.code y_C_word b_C_word 2 (some .int) ∈ lw_ok := lw_mem 300 rfl rfl
theorem im_C_word : Cond.instanceMethod y_C_word ∈ lw_ok := lw_mem 299 rfl rfl
theorem se_C_word : Cond.selects R_C y_C_word y_C_word ∈ lw_ok := lw_mem 9 rfl rfl
abbrev b_C_close : ByteArray := prog_1_method_24_code
def y_C_close : MethodName := ⟨R_C, "close", "()I"⟩
theorem k_C_close : Cond.code y_C_close b_C_close 2 (some .int) ∈ lw_ok := lw_mem 304 rfl rfl
theorem im_C_close : Cond.instanceMethod y_C_close ∈ lw_ok := lw_mem 303 rfl rfl
theorem se_C_close : Cond.selects R_C y_C_close y_C_close ∈ lw_ok := lw_mem 10 rfl rfl
abbrev b_C_side : ByteArray := prog_1_method_23_code
def y_C_side : MethodName := ⟨R_C, "side", "(IZ)V"⟩
theorem k_C_side : Cond.code y_C_side b_C_side 5 none ∈ lw_ok := lw_mem 308 rfl rfl
theorem im_C_side : Cond.instanceMethod y_C_side ∈ lw_ok := lw_mem 307 rfl rfl
theorem se_C_side : Cond.selects R_C y_C_side y_C_side ∈ lw_ok := lw_mem 11 rfl rfl
abbrev b_M_init : ByteArray := prog_4_method_1_code
def y_M_init : MethodName := ⟨R_M, "<init>", "()V"⟩
theorem k_M_init : Cond.code y_M_init b_M_init 1 none ∈ lw_ok := lw_mem 313 rfl rfl
theorem im_M_init : Cond.instanceMethod y_M_init ∈ lw_ok := lw_mem 312 rfl rfl
abbrev b_M_setCost : ByteArray := prog_4_method_4_code
def y_M_setCost : MethodName := ⟨R_M, "setCost", "(II)I"⟩
set_option maxRecDepth 20000 in
theorem k_M_setCost : Cond.code y_M_setCost b_M_setCost 3 (some .int) ∈ lw_ok := lw_mem 408 rfl rfl
set_option maxRecDepth 20000 in
theorem im_M_setCost : Cond.instanceMethod y_M_setCost ∈ lw_ok := lw_mem 406 rfl rfl
set_option maxRecDepth 20000 in
theorem se_M_setCost : Cond.selects R_M y_M_setCost y_M_setCost ∈ lw_ok := lw_mem 407 rfl rfl
abbrev b_M_isIn : ByteArray := prog_4_method_3_code
def y_M_isIn : MethodName := ⟨R_M, "isIn", "(III)Z"⟩
set_option maxRecDepth 20000 in
theorem k_M_isIn : Cond.code y_M_isIn b_M_isIn 3 (some .boolean) ∈ lw_ok := lw_mem 411 rfl rfl
set_option maxRecDepth 20000 in
theorem is_M_isIn : Cond.static y_M_isIn ∈ lw_ok := lw_mem 410 rfl rfl
abbrev b_M_term : ByteArray := prog_4_method_5_code
def y_M_term : MethodName := ⟨R_M, "term", "(II)I"⟩
set_option maxRecDepth 20000 in
theorem k_M_term : Cond.code y_M_term b_M_term 6 (some .int) ∈ lw_ok := lw_mem 415 rfl rfl
set_option maxRecDepth 20000 in
theorem im_M_term : Cond.instanceMethod y_M_term ∈ lw_ok := lw_mem 413 rfl rfl
set_option maxRecDepth 20000 in
theorem se_M_term : Cond.selects R_M y_M_term y_M_term ∈ lw_ok := lw_mem 414 rfl rfl
abbrev b_M_end : ByteArray := prog_4_method_6_code
def y_M_end : MethodName := ⟨R_M, "end", "(I)I"⟩
set_option maxRecDepth 20000 in
theorem k_M_end : Cond.code y_M_end b_M_end 2 (some .int) ∈ lw_ok := lw_mem 419 rfl rfl
set_option maxRecDepth 20000 in
theorem im_M_end : Cond.instanceMethod y_M_end ∈ lw_ok := lw_mem 417 rfl rfl
set_option maxRecDepth 20000 in
theorem se_M_end : Cond.selects R_M y_M_end y_M_end ∈ lw_ok := lw_mem 418 rfl rfl
abbrev b_M_run : ByteArray := prog_4_method_19_code
def y_M_run : MethodName := ⟨R_M, "run", "(I)I"⟩
set_option maxRecDepth 20000 in
theorem k_M_run : Cond.code y_M_run b_M_run 3 (some .int) ∈ lw_ok := lw_mem 424 rfl rfl
set_option maxRecDepth 20000 in
theorem im_M_run : Cond.instanceMethod y_M_run ∈ lw_ok := lw_mem 422 rfl rfl
set_option maxRecDepth 20000 in
theorem se_M_run : Cond.selects R_M y_M_run y_M_run ∈ lw_ok := lw_mem 423 rfl rfl
abbrev b_M_step : ByteArray := prog_4_method_18_code
def y_M_step : MethodName := ⟨R_M, "step", "()V"⟩
set_option maxRecDepth 20000 in
theorem k_M_step : Cond.code y_M_step b_M_step 4 none ∈ lw_ok := lw_mem 428 rfl rfl
set_option maxRecDepth 20000 in
theorem im_M_step : Cond.instanceMethod y_M_step ∈ lw_ok := lw_mem 427 rfl rfl
theorem se_M_step : Cond.selects R_M y_M_step y_M_step ∈ lw_ok := lw_mem 12 rfl rfl
abbrev b_M_isBroken : ByteArray := prog_4_method_12_code
def y_M_isBroken : MethodName := ⟨R_M, "isBroken", "(ZI)Z"⟩
set_option maxRecDepth 20000 in
theorem k_M_isBroken : Cond.code y_M_isBroken b_M_isBroken 5 (some .boolean) ∈ lw_ok := lw_mem 432 rfl rfl
set_option maxRecDepth 20000 in
theorem im_M_isBroken : Cond.instanceMethod y_M_isBroken ∈ lw_ok := lw_mem 431 rfl rfl
theorem se_M_isBroken : Cond.selects R_M y_M_isBroken y_M_isBroken ∈ lw_ok := lw_mem 13 rfl rfl
abbrev b_M_cost : ByteArray := prog_4_method_11_code
def y_M_cost : MethodName := ⟨R_M, "cost", "()I"⟩
set_option maxRecDepth 20000 in
theorem k_M_cost : Cond.code y_M_cost b_M_cost 3 (some .int) ∈ lw_ok := lw_mem 436 rfl rfl
set_option maxRecDepth 20000 in
theorem im_M_cost : Cond.instanceMethod y_M_cost ∈ lw_ok := lw_mem 435 rfl rfl
theorem se_M_cost : Cond.selects R_M y_M_cost y_M_cost ∈ lw_ok := lw_mem 14 rfl rfl
abbrev b_M_isSet : ByteArray := prog_4_method_7_code
def y_M_isSet : MethodName := ⟨R_M, "isSet", "(I)Z"⟩
set_option maxRecDepth 20000 in
theorem k_M_isSet : Cond.code y_M_isSet b_M_isSet 2 (some .boolean) ∈ lw_ok := lw_mem 440 rfl rfl
set_option maxRecDepth 20000 in
theorem im_M_isSet : Cond.instanceMethod y_M_isSet ∈ lw_ok := lw_mem 439 rfl rfl
theorem se_M_isSet : Cond.selects R_M y_M_isSet y_M_isSet ∈ lw_ok := lw_mem 15 rfl rfl
abbrev b_M_isOne : ByteArray := prog_4_method_8_code
def y_M_isOne : MethodName := ⟨R_M, "isOne", "(I)Z"⟩
set_option maxRecDepth 20000 in
theorem k_M_isOne : Cond.code y_M_isOne b_M_isOne 2 (some .boolean) ∈ lw_ok := lw_mem 444 rfl rfl
set_option maxRecDepth 20000 in
theorem im_M_isOne : Cond.instanceMethod y_M_isOne ∈ lw_ok := lw_mem 443 rfl rfl
theorem se_M_isOne : Cond.selects R_M y_M_isOne y_M_isOne ∈ lw_ok := lw_mem 16 rfl rfl
abbrev b_M_slack : ByteArray := prog_4_method_10_code
def y_M_slack : MethodName := ⟨R_M, "slack", "(I)I"⟩
set_option maxRecDepth 20000 in
theorem k_M_slack : Cond.code y_M_slack b_M_slack 4 (some .int) ∈ lw_ok := lw_mem 448 rfl rfl
set_option maxRecDepth 20000 in
theorem im_M_slack : Cond.instanceMethod y_M_slack ∈ lw_ok := lw_mem 447 rfl rfl
theorem se_M_slack : Cond.selects R_M y_M_slack y_M_slack ∈ lw_ok := lw_mem 17 rfl rfl
abbrev b_M_isFalse : ByteArray := prog_4_method_9_code
def y_M_isFalse : MethodName := ⟨R_M, "isFalse", "(I)Z"⟩
set_option maxRecDepth 20000 in
theorem k_M_isFalse : Cond.code y_M_isFalse b_M_isFalse 3 (some .boolean) ∈ lw_ok := lw_mem 452 rfl rfl
set_option maxRecDepth 20000 in
theorem im_M_isFalse : Cond.instanceMethod y_M_isFalse ∈ lw_ok := lw_mem 451 rfl rfl
theorem se_M_isFalse : Cond.selects R_M y_M_isFalse y_M_isFalse ∈ lw_ok := lw_mem 18 rfl rfl
abbrev b_M_goBack : ByteArray := prog_4_method_17_code
def y_M_goBack : MethodName := ⟨R_M, "goBack", "()V"⟩
set_option maxRecDepth 20000 in
theorem k_M_goBack : Cond.code y_M_goBack b_M_goBack 3 none ∈ lw_ok := lw_mem 456 rfl rfl
set_option maxRecDepth 20000 in
theorem im_M_goBack : Cond.instanceMethod y_M_goBack ∈ lw_ok := lw_mem 455 rfl rfl
theorem se_M_goBack : Cond.selects R_M y_M_goBack y_M_goBack ∈ lw_ok := lw_mem 19 rfl rfl
abbrev b_M_write : ByteArray := prog_4_method_15_code
def y_M_write : MethodName := ⟨R_M, "write", "(I)Z"⟩
set_option maxRecDepth 20000 in
theorem k_M_write : Cond.code y_M_write b_M_write 2 (some .boolean) ∈ lw_ok := lw_mem 460 rfl rfl
set_option maxRecDepth 20000 in
theorem im_M_write : Cond.instanceMethod y_M_write ∈ lw_ok := lw_mem 459 rfl rfl
theorem se_M_write : Cond.selects R_M y_M_write y_M_write ∈ lw_ok := lw_mem 20 rfl rfl
abbrev b_M_lay : ByteArray := prog_4_method_16_code
def y_M_lay : MethodName := ⟨R_M, "lay", "(IZZ)V"⟩
set_option maxRecDepth 20000 in
theorem k_M_lay : Cond.code y_M_lay b_M_lay 4 none ∈ lw_ok := lw_mem 464 rfl rfl
set_option maxRecDepth 20000 in
theorem im_M_lay : Cond.instanceMethod y_M_lay ∈ lw_ok := lw_mem 463 rfl rfl
theorem se_M_lay : Cond.selects R_M y_M_lay y_M_lay ∈ lw_ok := lw_mem 21 rfl rfl
abbrev b_M_put : ByteArray := prog_4_method_14_code
def y_M_put : MethodName := ⟨R_M, "put", "(IZ)V"⟩
set_option maxRecDepth 20000 in
theorem k_M_put : Cond.code y_M_put b_M_put 3 none ∈ lw_ok := lw_mem 468 rfl rfl
set_option maxRecDepth 20000 in
theorem im_M_put : Cond.instanceMethod y_M_put ∈ lw_ok := lw_mem 467 rfl rfl
theorem se_M_put : Cond.selects R_M y_M_put y_M_put ∈ lw_ok := lw_mem 22 rfl rfl
abbrev b_M_forced : ByteArray := prog_4_method_13_code
def y_M_forced : MethodName := ⟨R_M, "forced", "(ZI)I"⟩
set_option maxRecDepth 20000 in
theorem k_M_forced : Cond.code y_M_forced b_M_forced 7 (some .int) ∈ lw_ok := lw_mem 472 rfl rfl
set_option maxRecDepth 20000 in
theorem im_M_forced : Cond.instanceMethod y_M_forced ∈ lw_ok := lw_mem 471 rfl rfl
theorem se_M_forced : Cond.selects R_M y_M_forced y_M_forced ∈ lw_ok := lw_mem 23 rfl rfl
abbrev b_M_optimum : ByteArray := prog_4_method_20_code
def y_M_optimum : MethodName := ⟨R_M, "optimum", "()I"⟩
set_option maxRecDepth 20000 in
theorem k_M_optimum : Cond.code y_M_optimum b_M_optimum 1 (some .int) ∈ lw_ok := lw_mem 476 rfl rfl
set_option maxRecDepth 20000 in
theorem im_M_optimum : Cond.instanceMethod y_M_optimum ∈ lw_ok := lw_mem 474 rfl rfl
set_option maxRecDepth 20000 in
theorem se_M_optimum : Cond.selects R_M y_M_optimum y_M_optimum ∈ lw_ok := lw_mem 475 rfl rfl
abbrev b_M_value : ByteArray := prog_4_method_21_code
def y_M_value : MethodName := ⟨R_M, "value", "(I)I"⟩
set_option maxRecDepth 20000 in
theorem k_M_value : Cond.code y_M_value b_M_value 2 (some .int) ∈ lw_ok := lw_mem 480 rfl rfl
set_option maxRecDepth 20000 in
theorem im_M_value : Cond.instanceMethod y_M_value ∈ lw_ok := lw_mem 478 rfl rfl
set_option maxRecDepth 20000 in
theorem se_M_value : Cond.selects R_M y_M_value y_M_value ∈ lw_ok := lw_mem 479 rfl rfl
abbrev b_M_logSize : ByteArray := prog_4_method_22_code
def y_M_logSize : MethodName := ⟨R_M, "logSize", "()I"⟩
set_option maxRecDepth 20000 in
theorem k_M_logSize : Cond.code y_M_logSize b_M_logSize 1 (some .int) ∈ lw_ok := lw_mem 484 rfl rfl
set_option maxRecDepth 20000 in
theorem im_M_logSize : Cond.instanceMethod y_M_logSize ∈ lw_ok := lw_mem 482 rfl rfl
set_option maxRecDepth 20000 in
theorem se_M_logSize : Cond.selects R_M y_M_logSize y_M_logSize ∈ lw_ok := lw_mem 483 rfl rfl
abbrev b_M_logAt : ByteArray := prog_4_method_23_code
def y_M_logAt : MethodName := ⟨R_M, "logAt", "(I)I"⟩
set_option maxRecDepth 20000 in
theorem k_M_logAt : Cond.code y_M_logAt b_M_logAt 2 (some .int) ∈ lw_ok := lw_mem 488 rfl rfl
set_option maxRecDepth 20000 in
theorem im_M_logAt : Cond.instanceMethod y_M_logAt ∈ lw_ok := lw_mem 486 rfl rfl
set_option maxRecDepth 20000 in
theorem se_M_logAt : Cond.selects R_M y_M_logAt y_M_logAt ∈ lw_ok := lw_mem 487 rfl rfl
abbrev b_M_poke : ByteArray := prog_4_method_24_code
def y_M_poke : MethodName := ⟨R_M, "poke", "(II)I"⟩
set_option maxRecDepth 20000 in
theorem k_M_poke : Cond.code y_M_poke b_M_poke 3 (some .int) ∈ lw_ok := lw_mem 492 rfl rfl
set_option maxRecDepth 20000 in
theorem im_M_poke : Cond.instanceMethod y_M_poke ∈ lw_ok := lw_mem 490 rfl rfl
set_option maxRecDepth 20000 in
theorem se_M_poke : Cond.selects R_M y_M_poke y_M_poke ∈ lw_ok := lw_mem 491 rfl rfl
abbrev b_M_anew : ByteArray := prog_4_method_26_code
def y_M_anew : MethodName := ⟨R_M, "anew", "()V"⟩
set_option maxRecDepth 20000 in
theorem k_M_anew : Cond.code y_M_anew b_M_anew 1 none ∈ lw_ok := lw_mem 496 rfl rfl
set_option maxRecDepth 20000 in
theorem im_M_anew : Cond.instanceMethod y_M_anew ∈ lw_ok := lw_mem 495 rfl rfl
theorem se_M_anew : Cond.selects R_M y_M_anew y_M_anew ∈ lw_ok := lw_mem 24 rfl rfl
abbrev b_M_cut : ByteArray := prog_4_method_25_code
def y_M_cut : MethodName := ⟨R_M, "cut", "(I)I"⟩
set_option maxRecDepth 20000 in
theorem k_M_cut : Cond.code y_M_cut b_M_cut 2 (some .int) ∈ lw_ok := lw_mem 500 rfl rfl
set_option maxRecDepth 20000 in
theorem im_M_cut : Cond.instanceMethod y_M_cut ∈ lw_ok := lw_mem 498 rfl rfl
set_option maxRecDepth 20000 in
theorem se_M_cut : Cond.selects R_M y_M_cut y_M_cut ∈ lw_ok := lw_mem 499 rfl rfl
abbrev b_M_check : ByteArray := prog_4_method_30_code
def y_M_check : MethodName := ⟨R_M, "check", "(I)I"⟩
set_option maxRecDepth 20000 in
theorem k_M_check : Cond.code y_M_check b_M_check 3 (some .int) ∈ lw_ok := lw_mem 504 rfl rfl
set_option maxRecDepth 20000 in
theorem im_M_check : Cond.instanceMethod y_M_check ∈ lw_ok := lw_mem 502 rfl rfl
set_option maxRecDepth 20000 in
theorem se_M_check : Cond.selects R_M y_M_check y_M_check ∈ lw_ok := lw_mem 503 rfl rfl
abbrev b_M_look : ByteArray := prog_4_method_27_code
def y_M_look : MethodName := ⟨R_M, "look", "()V"⟩
set_option maxRecDepth 20000 in
theorem k_M_look : Cond.code y_M_look b_M_look 2 none ∈ lw_ok := lw_mem 508 rfl rfl
set_option maxRecDepth 20000 in
theorem im_M_look : Cond.instanceMethod y_M_look ∈ lw_ok := lw_mem 507 rfl rfl
theorem se_M_look : Cond.selects R_M y_M_look y_M_look ∈ lw_ok := lw_mem 25 rfl rfl
abbrev b_M_word : ByteArray := prog_4_method_29_code
def y_M_word : MethodName := ⟨R_M, "word", "()V"⟩
set_option maxRecDepth 20000 in
theorem k_M_word : Cond.code y_M_word b_M_word 8 none ∈ lw_ok := lw_mem 513 rfl rfl
set_option maxRecDepth 20000 in
theorem im_M_word : Cond.instanceMethod y_M_word ∈ lw_ok := lw_mem 512 rfl rfl
theorem se_M_word : Cond.selects R_M y_M_word y_M_word ∈ lw_ok := lw_mem 26 rfl rfl
abbrev b_M_hold : ByteArray := prog_4_method_28_code
def y_M_hold : MethodName := ⟨R_M, "hold", "(IIZ)V"⟩
set_option maxRecDepth 20000 in
theorem k_M_hold : Cond.code y_M_hold b_M_hold 4 none ∈ lw_ok := lw_mem 517 rfl rfl
set_option maxRecDepth 20000 in
theorem im_M_hold : Cond.instanceMethod y_M_hold ∈ lw_ok := lw_mem 516 rfl rfl
theorem se_M_hold : Cond.selects R_M y_M_hold y_M_hold ∈ lw_ok := lw_mem 27 rfl rfl
abbrev b_M_steps : ByteArray := prog_4_method_31_code
def y_M_steps : MethodName := ⟨R_M, "steps", "()I"⟩
set_option maxRecDepth 20000 in
theorem k_M_steps : Cond.code y_M_steps b_M_steps 1 (some .int) ∈ lw_ok := lw_mem 521 rfl rfl
set_option maxRecDepth 20000 in
theorem im_M_steps : Cond.instanceMethod y_M_steps ∈ lw_ok := lw_mem 519 rfl rfl
set_option maxRecDepth 20000 in
theorem se_M_steps : Cond.selects R_M y_M_steps y_M_steps ∈ lw_ok := lw_mem 520 rfl rfl
theorem ml_law_9 : Cond.methodLink R_law 9 y_C_init ∈ lw_ok := lw_mem 35 rfl rfl
theorem ml_C_27 : Cond.methodLink R_C 27 y_B_init ∈ lw_ok := lw_mem 43 rfl rfl
theorem fl_B_22 : Cond.fieldLink R_B 22 (F_B 0).1 (F_B 0).2.1 (F_B 0).2.2.1 ∈ lw_ok := lw_mem 47 rfl rfl
theorem fl_B_9 : Cond.fieldLink R_B 9 (F_B 1).1 (F_B 1).2.1 (F_B 1).2.2.1 ∈ lw_ok := lw_mem 48 rfl rfl
theorem fn_C_127 : Cond.fieldLinkNest R_C 127 (F_B 1).1 (F_B 1).2.1 (F_B 1).2.2.1 "LeastCost" ∈ lw_nest := lw_memN 49 rfl rfl
theorem fl_B_15 : Cond.fieldLink R_B 15 (F_B 2).1 (F_B 2).2.1 (F_B 2).2.2.1 ∈ lw_ok := lw_mem 50 rfl rfl
theorem fl_B_26 : Cond.fieldLink R_B 26 (F_B 3).1 (F_B 3).2.1 (F_B 3).2.2.1 ∈ lw_ok := lw_mem 51 rfl rfl
theorem fn_C_137 : Cond.fieldLinkNest R_C 137 (F_B 3).1 (F_B 3).2.1 (F_B 3).2.2.1 "LeastCost" ∈ lw_nest := lw_memN 52 rfl rfl
theorem fl_B_18 : Cond.fieldLink R_B 18 (F_B 4).1 (F_B 4).2.1 (F_B 4).2.2.1 ∈ lw_ok := lw_mem 53 rfl rfl
theorem fl_B_30 : Cond.fieldLink R_B 30 (F_B 5).1 (F_B 5).2.1 (F_B 5).2.2.1 ∈ lw_ok := lw_mem 54 rfl rfl
theorem fn_C_120 : Cond.fieldLinkNest R_C 120 (F_B 5).1 (F_B 5).2.1 (F_B 5).2.2.1 "LeastCost" ∈ lw_nest := lw_memN 55 rfl rfl
theorem fl_B_50 : Cond.fieldLink R_B 50 (F_B 6).1 (F_B 6).2.1 (F_B 6).2.2.1 ∈ lw_ok := lw_mem 56 rfl rfl
theorem fl_B_34 : Cond.fieldLink R_B 34 (F_B 7).1 (F_B 7).2.1 (F_B 7).2.2.1 ∈ lw_ok := lw_mem 57 rfl rfl
theorem fl_C_9 : Cond.fieldLink R_C 9 (F_C 0).1 (F_C 0).2.1 (F_C 0).2.2.1 ∈ lw_ok := lw_mem 79 rfl rfl
theorem fn_B_63 : Cond.fieldLinkNest R_B 63 (F_C 0).1 (F_C 0).2.1 (F_C 0).2.2.1 "LeastCost" ∈ lw_nest := lw_memN 80 rfl rfl
theorem fl_C_13 : Cond.fieldLink R_C 13 (F_C 1).1 (F_C 1).2.1 (F_C 1).2.2.1 ∈ lw_ok := lw_mem 81 rfl rfl
theorem fn_B_44 : Cond.fieldLinkNest R_B 44 (F_C 1).1 (F_C 1).2.1 (F_C 1).2.2.1 "LeastCost" ∈ lw_nest := lw_memN 82 rfl rfl
theorem fl_C_16 : Cond.fieldLink R_C 16 (F_C 2).1 (F_C 2).2.1 (F_C 2).2.2.1 ∈ lw_ok := lw_mem 83 rfl rfl
theorem fn_B_41 : Cond.fieldLinkNest R_B 41 (F_C 2).1 (F_C 2).2.1 (F_C 2).2.2.1 "LeastCost" ∈ lw_nest := lw_memN 84 rfl rfl
theorem fl_C_19 : Cond.fieldLink R_C 19 (F_C 3).1 (F_C 3).2.1 (F_C 3).2.2.1 ∈ lw_ok := lw_mem 85 rfl rfl
theorem fn_B_47 : Cond.fieldLinkNest R_B 47 (F_C 3).1 (F_C 3).2.1 (F_C 3).2.2.1 "LeastCost" ∈ lw_nest := lw_memN 86 rfl rfl
theorem fl_C_22 : Cond.fieldLink R_C 22 (F_C 4).1 (F_C 4).2.1 (F_C 4).2.2.1 ∈ lw_ok := lw_mem 87 rfl rfl
theorem fn_B_66 : Cond.fieldLinkNest R_B 66 (F_C 4).1 (F_C 4).2.1 (F_C 4).2.2.1 "LeastCost" ∈ lw_nest := lw_memN 88 rfl rfl
theorem fn_B_38 : Cond.fieldLinkNest R_B 38 (F_C 5).1 (F_C 5).2.1 (F_C 5).2.2.1 "LeastCost" ∈ lw_nest := lw_memN 89 rfl rfl
theorem fl_C_74 : Cond.fieldLink R_C 74 (F_C 5).1 (F_C 5).2.1 (F_C 5).2.2.1 ∈ lw_ok := lw_mem 90 rfl rfl
theorem fl_C_77 : Cond.fieldLink R_C 77 (F_C 6).1 (F_C 6).2.1 (F_C 6).2.2.1 ∈ lw_ok := lw_mem 91 rfl rfl
theorem fl_C_66 : Cond.fieldLink R_C 66 (F_C 7).1 (F_C 7).2.1 (F_C 7).2.2.1 ∈ lw_ok := lw_mem 92 rfl rfl
theorem fl_C_30 : Cond.fieldLink R_C 30 (F_C 8).1 (F_C 8).2.1 (F_C 8).2.2.1 ∈ lw_ok := lw_mem 93 rfl rfl
theorem fl_C_34 : Cond.fieldLink R_C 34 (F_C 9).1 (F_C 9).2.1 (F_C 9).2.2.1 ∈ lw_ok := lw_mem 94 rfl rfl
theorem fl_C_37 : Cond.fieldLink R_C 37 (F_C 10).1 (F_C 10).2.1 (F_C 10).2.2.1 ∈ lw_ok := lw_mem 95 rfl rfl
theorem fl_C_41 : Cond.fieldLink R_C 41 (F_C 11).1 (F_C 11).2.1 (F_C 11).2.2.1 ∈ lw_ok := lw_mem 96 rfl rfl
theorem fl_C_134 : Cond.fieldLink R_C 134 (F_C 12).1 (F_C 12).2.1 (F_C 12).2.2.1 ∈ lw_ok := lw_mem 97 rfl rfl
theorem fl_C_44 : Cond.fieldLink R_C 44 (F_C 13).1 (F_C 13).2.1 (F_C 13).2.2.1 ∈ lw_ok := lw_mem 98 rfl rfl
theorem fl_C_81 : Cond.fieldLink R_C 81 (F_C 14).1 (F_C 14).2.1 (F_C 14).2.2.1 ∈ lw_ok := lw_mem 99 rfl rfl
theorem fl_C_47 : Cond.fieldLink R_C 47 (F_C 15).1 (F_C 15).2.1 (F_C 15).2.2.1 ∈ lw_ok := lw_mem 100 rfl rfl
theorem fl_C_124 : Cond.fieldLink R_C 124 (F_C 16).1 (F_C 16).2.1 (F_C 16).2.2.1 ∈ lw_ok := lw_mem 101 rfl rfl
theorem fl_C_90 : Cond.fieldLink R_C 90 (F_C 17).1 (F_C 17).2.1 (F_C 17).2.2.1 ∈ lw_ok := lw_mem 102 rfl rfl
theorem fl_C_84 : Cond.fieldLink R_C 84 (F_C 18).1 (F_C 18).2.1 (F_C 18).2.2.1 ∈ lw_ok := lw_mem 103 rfl rfl
theorem fl_C_93 : Cond.fieldLink R_C 93 (F_C 19).1 (F_C 19).2.1 (F_C 19).2.2.1 ∈ lw_ok := lw_mem 104 rfl rfl
theorem fl_C_51 : Cond.fieldLink R_C 51 (F_C 20).1 (F_C 20).2.1 (F_C 20).2.2.1 ∈ lw_ok := lw_mem 105 rfl rfl
theorem fl_C_54 : Cond.fieldLink R_C 54 (F_C 21).1 (F_C 21).2.1 (F_C 21).2.2.1 ∈ lw_ok := lw_mem 106 rfl rfl
theorem fl_C_57 : Cond.fieldLink R_C 57 (F_C 22).1 (F_C 22).2.1 (F_C 22).2.2.1 ∈ lw_ok := lw_mem 107 rfl rfl
theorem fl_C_60 : Cond.fieldLink R_C 60 (F_C 23).1 (F_C 23).2.1 (F_C 23).2.2.1 ∈ lw_ok := lw_mem 108 rfl rfl
theorem fl_C_158 : Cond.fieldLink R_C 158 (F_C 24).1 (F_C 24).2.1 (F_C 24).2.2.1 ∈ lw_ok := lw_mem 109 rfl rfl
theorem fl_C_172 : Cond.fieldLink R_C 172 (F_C 25).1 (F_C 25).2.1 (F_C 25).2.2.1 ∈ lw_ok := lw_mem 110 rfl rfl
theorem fl_C_161 : Cond.fieldLink R_C 161 (F_C 26).1 (F_C 26).2.1 (F_C 26).2.2.1 ∈ lw_ok := lw_mem 111 rfl rfl
theorem fl_C_143 : Cond.fieldLink R_C 143 (F_C 27).1 (F_C 27).2.1 (F_C 27).2.2.1 ∈ lw_ok := lw_mem 112 rfl rfl
theorem fl_C_155 : Cond.fieldLink R_C 155 (F_C 28).1 (F_C 28).2.1 (F_C 28).2.2.1 ∈ lw_ok := lw_mem 113 rfl rfl
theorem fl_C_63 : Cond.fieldLink R_C 63 (F_C 29).1 (F_C 29).2.1 (F_C 29).2.2.1 ∈ lw_ok := lw_mem 114 rfl rfl
theorem ml_law_13 : Cond.methodLink R_law 13 y_C_setCost ∈ lw_ok := lw_mem 177 rfl rfl
theorem ml_C_70 : Cond.methodLink R_C 70 y_C_isVariable ∈ lw_ok := lw_mem 181 rfl rfl
theorem ml_law_18 : Cond.methodLink R_law 18 y_C_term ∈ lw_ok := lw_mem 184 rfl rfl
theorem ml_law_22 : Cond.methodLink R_law 22 y_C_end ∈ lw_ok := lw_mem 188 rfl rfl
theorem ml_law_27 : Cond.methodLink R_law 27 y_C_run ∈ lw_ok := lw_mem 193 rfl rfl
theorem ml_C_87 : Cond.methodLink R_C 87 y_B_begin ∈ lw_ok := lw_mem 197 rfl rfl
theorem ml_C_96 : Cond.methodLink R_C 96 y_C_step ∈ lw_ok := lw_mem 201 rfl rfl
theorem ml_C_99 : Cond.methodLink R_C 99 y_B_isBroken ∈ lw_ok := lw_mem 205 rfl rfl
theorem ml_C_103 : Cond.methodLink R_C 103 y_C_write ∈ lw_ok := lw_mem 209 rfl rfl
theorem ml_C_106 : Cond.methodLink R_C 106 y_C_turn ∈ lw_ok := lw_mem 213 rfl rfl
theorem ml_C_140 : Cond.methodLink R_C 140 y_B_back ∈ lw_ok := lw_mem 217 rfl rfl
theorem ml_B_59 : Cond.methodLink R_B 59 y_B_weigh ∈ lw_ok := lw_mem 221 rfl rfl
theorem ml_C_116 : Cond.methodLink R_C 116 y_B_set ∈ lw_ok := lw_mem 225 rfl rfl
theorem ml_C_109 : Cond.methodLink R_C 109 y_B_forces ∈ lw_ok := lw_mem 232 rfl rfl
theorem ml_B_69 : Cond.methodLink R_B 69 y_B_isOpen ∈ lw_ok := lw_mem 236 rfl rfl
theorem ml_C_113 : Cond.methodLink R_C 113 y_B_firstOpen ∈ lw_ok := lw_mem 240 rfl rfl
theorem ml_C_130 : Cond.methodLink R_C 130 y_B_limit ∈ lw_ok := lw_mem 244 rfl rfl
theorem ml_law_31 : Cond.methodLink R_law 31 y_C_optimum ∈ lw_ok := lw_mem 248 rfl rfl
theorem ml_law_36 : Cond.methodLink R_law 36 y_C_value ∈ lw_ok := lw_mem 252 rfl rfl
theorem ml_law_40 : Cond.methodLink R_law 40 y_C_logSize ∈ lw_ok := lw_mem 256 rfl rfl
theorem ml_law_44 : Cond.methodLink R_law 44 y_C_logAt ∈ lw_ok := lw_mem 260 rfl rfl
theorem ml_law_60 : Cond.methodLink R_law 60 y_C_steps ∈ lw_ok := lw_mem 264 rfl rfl
theorem ml_law_48 : Cond.methodLink R_law 48 y_C_poke ∈ lw_ok := lw_mem 268 rfl rfl
theorem ml_C_146 : Cond.methodLink R_C 146 y_C_anew ∈ lw_ok := lw_mem 272 rfl rfl
theorem ml_law_52 : Cond.methodLink R_law 52 y_C_cut ∈ lw_ok := lw_mem 276 rfl rfl
theorem ml_law_56 : Cond.methodLink R_law 56 y_C_check ∈ lw_ok := lw_mem 280 rfl rfl
theorem ml_C_175 : Cond.methodLink R_C 175 y_C_begin ∈ lw_ok := lw_mem 284 rfl rfl
theorem ml_C_164 : Cond.methodLink R_C 164 y_C_holds ∈ lw_ok := lw_mem 288 rfl rfl
theorem ml_C_168 : Cond.methodLink R_C 168 y_C_settle ∈ lw_ok := lw_mem 293 rfl rfl
theorem ml_C_177 : Cond.methodLink R_C 177 y_C_word ∈ lw_ok := lw_mem 297 rfl rfl
theorem ml_C_180 : Cond.methodLink R_C 180 y_C_close ∈ lw_ok := lw_mem 301 rfl rfl
theorem ml_C_183 : Cond.methodLink R_C 183 y_C_side ∈ lw_ok := lw_mem 305 rfl rfl
theorem ml_law_12 : Cond.methodLink R_law 12 y_M_init ∈ lw_ok := lw_mem 311 rfl rfl
theorem fl_M_7 : Cond.fieldLink R_M 7 (F_M 1).1 (F_M 1).2.1 (F_M 1).2.2.1 ∈ lw_ok := lw_mem 315 rfl rfl
theorem fl_M_13 : Cond.fieldLink R_M 13 (F_M 2).1 (F_M 2).2.1 (F_M 2).2.2.1 ∈ lw_ok := lw_mem 316 rfl rfl
theorem fl_M_16 : Cond.fieldLink R_M 16 (F_M 3).1 (F_M 3).2.1 (F_M 3).2.2.1 ∈ lw_ok := lw_mem 317 rfl rfl
theorem fl_M_19 : Cond.fieldLink R_M 19 (F_M 4).1 (F_M 4).2.1 (F_M 4).2.2.1 ∈ lw_ok := lw_mem 318 rfl rfl
theorem fl_M_22 : Cond.fieldLink R_M 22 (F_M 5).1 (F_M 5).2.1 (F_M 5).2.2.1 ∈ lw_ok := lw_mem 319 rfl rfl
theorem fl_M_65 : Cond.fieldLink R_M 65 (F_M 6).1 (F_M 6).2.1 (F_M 6).2.2.1 ∈ lw_ok := lw_mem 320 rfl rfl
theorem fl_M_62 : Cond.fieldLink R_M 62 (F_M 7).1 (F_M 7).2.1 (F_M 7).2.2.1 ∈ lw_ok := lw_mem 321 rfl rfl
theorem fl_M_54 : Cond.fieldLink R_M 54 (F_M 8).1 (F_M 8).2.1 (F_M 8).2.2.1 ∈ lw_ok := lw_mem 322 rfl rfl
theorem fl_M_116 : Cond.fieldLink R_M 116 (F_M 9).1 (F_M 9).2.1 (F_M 9).2.2.1 ∈ lw_ok := lw_mem 323 rfl rfl
theorem fl_M_96 : Cond.fieldLink R_M 96 (F_M 10).1 (F_M 10).2.1 (F_M 10).2.2.1 ∈ lw_ok := lw_mem 324 rfl rfl
theorem fl_M_69 : Cond.fieldLink R_M 69 (F_M 11).1 (F_M 11).2.1 (F_M 11).2.2.1 ∈ lw_ok := lw_mem 325 rfl rfl
theorem fl_M_72 : Cond.fieldLink R_M 72 (F_M 12).1 (F_M 12).2.1 (F_M 12).2.2.1 ∈ lw_ok := lw_mem 326 rfl rfl
theorem fl_M_25 : Cond.fieldLink R_M 25 (F_M 13).1 (F_M 13).2.1 (F_M 13).2.2.1 ∈ lw_ok := lw_mem 327 rfl rfl
theorem fl_M_28 : Cond.fieldLink R_M 28 (F_M 14).1 (F_M 14).2.1 (F_M 14).2.2.1 ∈ lw_ok := lw_mem 328 rfl rfl
theorem fl_M_103 : Cond.fieldLink R_M 103 (F_M 15).1 (F_M 15).2.1 (F_M 15).2.2.1 ∈ lw_ok := lw_mem 329 rfl rfl
theorem fl_M_133 : Cond.fieldLink R_M 133 (F_M 16).1 (F_M 16).2.1 (F_M 16).2.2.1 ∈ lw_ok := lw_mem 330 rfl rfl
theorem fl_M_136 : Cond.fieldLink R_M 136 (F_M 17).1 (F_M 17).2.1 (F_M 17).2.2.1 ∈ lw_ok := lw_mem 331 rfl rfl
theorem fl_M_32 : Cond.fieldLink R_M 32 (F_M 18).1 (F_M 18).2.1 (F_M 18).2.2.1 ∈ lw_ok := lw_mem 332 rfl rfl
theorem fl_M_113 : Cond.fieldLink R_M 113 (F_M 19).1 (F_M 19).2.1 (F_M 19).2.2.1 ∈ lw_ok := lw_mem 333 rfl rfl
theorem fl_M_119 : Cond.fieldLink R_M 119 (F_M 20).1 (F_M 20).2.1 (F_M 20).2.2.1 ∈ lw_ok := lw_mem 334 rfl rfl
theorem fl_M_36 : Cond.fieldLink R_M 36 (F_M 21).1 (F_M 21).2.1 (F_M 21).2.2.1 ∈ lw_ok := lw_mem 335 rfl rfl
theorem fl_M_93 : Cond.fieldLink R_M 93 (F_M 22).1 (F_M 22).2.1 (F_M 22).2.2.1 ∈ lw_ok := lw_mem 336 rfl rfl
theorem fl_M_39 : Cond.fieldLink R_M 39 (F_M 23).1 (F_M 23).2.1 (F_M 23).2.2.1 ∈ lw_ok := lw_mem 337 rfl rfl
theorem fl_M_145 : Cond.fieldLink R_M 145 (F_M 24).1 (F_M 24).2.1 (F_M 24).2.2.1 ∈ lw_ok := lw_mem 338 rfl rfl
theorem fl_M_148 : Cond.fieldLink R_M 148 (F_M 25).1 (F_M 25).2.1 (F_M 25).2.2.1 ∈ lw_ok := lw_mem 339 rfl rfl
theorem fl_M_151 : Cond.fieldLink R_M 151 (F_M 26).1 (F_M 26).2.1 (F_M 26).2.2.1 ∈ lw_ok := lw_mem 340 rfl rfl
theorem fl_M_42 : Cond.fieldLink R_M 42 (F_M 27).1 (F_M 27).2.1 (F_M 27).2.2.1 ∈ lw_ok := lw_mem 341 rfl rfl
theorem fl_M_45 : Cond.fieldLink R_M 45 (F_M 28).1 (F_M 28).2.1 (F_M 28).2.2.1 ∈ lw_ok := lw_mem 342 rfl rfl
theorem fl_M_48 : Cond.fieldLink R_M 48 (F_M 29).1 (F_M 29).2.1 (F_M 29).2.2.1 ∈ lw_ok := lw_mem 343 rfl rfl
set_option maxRecDepth 20000 in
theorem ml_law_17 : Cond.methodLink R_law 17 y_M_setCost ∈ lw_ok := lw_mem 405 rfl rfl
set_option maxRecDepth 20000 in
theorem ml_M_58 : Cond.methodLink R_M 58 y_M_isIn ∈ lw_ok := lw_mem 409 rfl rfl
set_option maxRecDepth 20000 in
theorem ml_law_21 : Cond.methodLink R_law 21 y_M_term ∈ lw_ok := lw_mem 412 rfl rfl
set_option maxRecDepth 20000 in
theorem ml_law_26 : Cond.methodLink R_law 26 y_M_end ∈ lw_ok := lw_mem 416 rfl rfl
set_option maxRecDepth 20000 in
theorem ml_law_30 : Cond.methodLink R_law 30 y_M_run ∈ lw_ok := lw_mem 421 rfl rfl
set_option maxRecDepth 20000 in
theorem ml_M_139 : Cond.methodLink R_M 139 y_M_step ∈ lw_ok := lw_mem 425 rfl rfl
set_option maxRecDepth 20000 in
theorem ml_M_122 : Cond.methodLink R_M 122 y_M_isBroken ∈ lw_ok := lw_mem 429 rfl rfl
set_option maxRecDepth 20000 in
theorem ml_M_85 : Cond.methodLink R_M 85 y_M_cost ∈ lw_ok := lw_mem 433 rfl rfl
set_option maxRecDepth 20000 in
theorem ml_M_75 : Cond.methodLink R_M 75 y_M_isSet ∈ lw_ok := lw_mem 437 rfl rfl
set_option maxRecDepth 20000 in
theorem ml_M_79 : Cond.methodLink R_M 79 y_M_isOne ∈ lw_ok := lw_mem 441 rfl rfl
set_option maxRecDepth 20000 in
theorem ml_M_89 : Cond.methodLink R_M 89 y_M_slack ∈ lw_ok := lw_mem 445 rfl rfl
set_option maxRecDepth 20000 in
theorem ml_M_82 : Cond.methodLink R_M 82 y_M_isFalse ∈ lw_ok := lw_mem 449 rfl rfl
set_option maxRecDepth 20000 in
theorem ml_M_126 : Cond.methodLink R_M 126 y_M_goBack ∈ lw_ok := lw_mem 453 rfl rfl
set_option maxRecDepth 20000 in
theorem ml_M_106 : Cond.methodLink R_M 106 y_M_write ∈ lw_ok := lw_mem 457 rfl rfl
set_option maxRecDepth 20000 in
theorem ml_M_109 : Cond.methodLink R_M 109 y_M_lay ∈ lw_ok := lw_mem 461 rfl rfl
set_option maxRecDepth 20000 in
theorem ml_M_99 : Cond.methodLink R_M 99 y_M_put ∈ lw_ok := lw_mem 465 rfl rfl
set_option maxRecDepth 20000 in
theorem ml_M_129 : Cond.methodLink R_M 129 y_M_forced ∈ lw_ok := lw_mem 469 rfl rfl
set_option maxRecDepth 20000 in
theorem ml_law_35 : Cond.methodLink R_law 35 y_M_optimum ∈ lw_ok := lw_mem 473 rfl rfl
set_option maxRecDepth 20000 in
theorem ml_law_39 : Cond.methodLink R_law 39 y_M_value ∈ lw_ok := lw_mem 477 rfl rfl
set_option maxRecDepth 20000 in
theorem ml_law_43 : Cond.methodLink R_law 43 y_M_logSize ∈ lw_ok := lw_mem 481 rfl rfl
set_option maxRecDepth 20000 in
theorem ml_law_47 : Cond.methodLink R_law 47 y_M_logAt ∈ lw_ok := lw_mem 485 rfl rfl
set_option maxRecDepth 20000 in
theorem ml_law_51 : Cond.methodLink R_law 51 y_M_poke ∈ lw_ok := lw_mem 489 rfl rfl
set_option maxRecDepth 20000 in
theorem ml_M_142 : Cond.methodLink R_M 142 y_M_anew ∈ lw_ok := lw_mem 493 rfl rfl
set_option maxRecDepth 20000 in
theorem ml_law_55 : Cond.methodLink R_law 55 y_M_cut ∈ lw_ok := lw_mem 497 rfl rfl
set_option maxRecDepth 20000 in
theorem ml_law_59 : Cond.methodLink R_law 59 y_M_check ∈ lw_ok := lw_mem 501 rfl rfl
set_option maxRecDepth 20000 in
theorem ml_M_159 : Cond.methodLink R_M 159 y_M_look ∈ lw_ok := lw_mem 505 rfl rfl
set_option maxRecDepth 20000 in
theorem ml_M_162 : Cond.methodLink R_M 162 y_M_word ∈ lw_ok := lw_mem 510 rfl rfl
set_option maxRecDepth 20000 in
theorem ml_M_155 : Cond.methodLink R_M 155 y_M_hold ∈ lw_ok := lw_mem 514 rfl rfl
set_option maxRecDepth 20000 in
theorem ml_law_63 : Cond.methodLink R_law 63 y_M_steps ∈ lw_ok := lw_mem 518 rfl rfl
theorem ini_B : Cond.initialized R_B ∈ lw_ok := lw_mem 30 rfl rfl
theorem ini_C : Cond.initialized R_C ∈ lw_ok := lw_mem 29 rfl rfl
theorem ini_M : Cond.initialized R_M ∈ lw_ok := lw_mem 31 rfl rfl
theorem ini_law : Cond.initialized R_law ∈ lw_ok := lw_mem 28 rfl rfl
theorem ini_Math : Cond.initialized "java/lang/Math" ∈ lw_ok := lw_mem 32 rfl rfl
theorem ml_C_149 : Cond.methodLink R_C 149 Lib.Math.abs.name ∈ lw_ok := lw_mem 292 rfl rfl
theorem ml_B_53 : Cond.methodLink R_B 53 Lib.Math.abs.name ∈ lw_ok := lw_mem 229 rfl rfl
theorem is_abs : Cond.static Lib.Math.abs.name ∈ lw_ok := lw_mem 230 rfl rfl
theorem k_abs : Cond.code Lib.Math.abs.name Lib.Math.abs.code 1 (some .int) ∈ lw_ok := lw_mem 231 rfl rfl
theorem ac_int : Cond.arrayClass .int ∈ lw_ok := lw_mem 77 rfl rfl
theorem ac_long : Cond.arrayClass .long ∈ lw_ok := lw_mem 78 rfl rfl
theorem ac_boolean : Cond.arrayClass .boolean ∈ lw_ok := lw_mem 176 rfl rfl
theorem co_C_80 : Cond.constant R_C 80 1073741824 ∈ lw_ok := lw_mem 192 rfl rfl
set_option maxRecDepth 20000 in
theorem co_M_68 : Cond.constant R_M 68 1073741824 ∈ lw_ok := lw_mem 420 rfl rfl
set_option maxRecDepth 20000 in
theorem co_M_154 : Cond.constant R_M 154 65535 ∈ lw_ok := lw_mem 509 rfl rfl
theorem cl_law_7 : Cond.classLink R_law 7 R_C ∈ lw_ok := lw_mem 33 rfl rfl
theorem cl_law_10 : Cond.classLink R_law 10 R_M ∈ lw_ok := lw_mem 309 rfl rfl
theorem cl_C_25 : Cond.classLink R_C 25 R_B ∈ lw_ok := lw_mem 41 rfl rfl
theorem in_B : Cond.instantiable R_B 9 ∈ lw_ok := lw_mem 42 rfl rfl
theorem in_C : Cond.instantiable R_C 30 ∈ lw_ok := lw_mem 34 rfl rfl
theorem in_M : Cond.instantiable R_M 30 ∈ lw_ok := lw_mem 310 rfl rfl
theorem oi_C : Cond.methodLink R_C 1 objectInit ∈ lw_ok := lw_mem 38 rfl rfl
theorem oi_B : Cond.methodLink R_B 3 objectInit ∈ lw_ok := lw_mem 46 rfl rfl
theorem oi_M : Cond.methodLink R_M 1 objectInit ∈ lw_ok := lw_mem 314 rfl rfl
theorem im_obj : Cond.instanceMethod objectInit ∈ lw_ok := lw_mem 39 rfl rfl
theorem k_obj : Cond.code objectInit ⟨#[0xb1]⟩ 1 none ∈ lw_ok := lw_mem 40 rfl rfl
end
section
/-! G: a method's machine as a predicate of pc, locals, stack and world; Cy says that it is one, and each row below steps it -/
abbrev TY (g : Nat → ClassId) : List (ClassId × FieldType) := [(g 0, .int), (g 1, .boolean), (g 2, .long)]
def w_all (y : MethodName) (b : ByteArray) (n : Nat) (ret : Option FieldType) : List Cond := .code y b n ret :: lw_ok
abbrev rmm (d : Nat) : Room := { frames := d, cells := 0, slots := 0, locals := 30 * d }
def QQ (D : va_G) (ws0 : va_W) (Q : Option Value → va_W → Prop) (sz : Nat) : Array Value → State → Outcome → State → Prop := fun _ st oc t => (∃ (r : Option Value) (ws' : va_W), oc = .returned r ∧ Q r ws' ∧ ws'.map Prod.fst = ws0.map Prod.fst ∧ va_P D classes ws' t.heap) ∧ va_F (va_A ws0 sz) st t
def PP (D : va_G) (g : Nat → ClassId) (av : List Value) (ws : va_W) (sz : Nat) : Array Value → State → Prop := va_Pc av (fun U => U.heap.size = sz ∧ va_P D classes ws U.heap ∧ va_K D classes (TY g) U ∧ va_D (fun _ => True) ws ∧ ∀ w ∈ lw_nest, va_Nw w U)
/-- the contract of a method that makes no cell: from the world ws it returns, and Q holds of its answer and the new world, whose cells lie where they lay -/
def Ct (l : Launch) (D : va_G) (g : Nat → ClassId) (y : MethodName) (b : ByteArray) (n : Nat) (ret : Option FieldType) (d : Nat) (av : List Value) (ws : va_W) (Q : Option Value → va_W → Prop) : Prop :=
  ∀ sz : Nat, Met l y (w_all y b n ret) (rmm d) (PP D g av ws sz) (QQ D ws Q sz) 0 0 (va_A ws sz)
def Cx (p : Program) (m : MethodId) (c : Code) (cc : ByteArray) (nL : Nat) (s : State) (args : Array Value) (own : String) (D : va_G) (g : Nat → ClassId) (ws0 : va_W) : Prop :=
  p.tables.exec = Jvm.exec ∧ c.code = cc ∧ c.maxLocals = nL ∧ s.vm.findClass own = some m.cls ∧ (∀ w ∈ lw_ok, w.before args s = true) ∧ va_K D classes (TY g) s ∧ va_D (va_A ws0 s.heap.size) ws0 ∧ ∀ w ∈ lw_nest, va_Nw w s
abbrev GT : Type := Nat → List (Nat × Value) → List Value → va_W → Prop
def Cy (l : Launch) (D : va_G) (g : Nat → ClassId) (own : String) (cc : ByteArray) (nL dep : Nat) (ret : Option FieldType) (ws0 : va_W) (Q : Option Value → va_W → Prop) (G : GT) : Prop :=
  ∃ (p : Program) (e : Env) (s : State) (m : MethodId) (args : Array Value) (below : List Frame) (meth : Method) (c : Code), Cx p m c cc nL s args own D g ws0 ∧ meth.sig.returnType = ret ∧ meth.locks = false ∧
    G = fun pc lv st ws => ws.map Prod.fst = ws0.map Prod.fst → ∀ (H : Heap) (locs : List Loc) (ls : Array Slot), va_P D classes ws H → va_S (va_A ws0 s.heap.size) s.heap H locs → lv_has ls nL lv →
      W p l e (rmm dep) s m args below meth c H locs 0 0 (MQ below (QQ D ws0 Q s.heap.size) args s 0 0 (va_A ws0 s.heap.size)) (F0 m pc ls st)
theorem dd_at {ws ws' : va_W} (h : ws.map Prod.fst = ws'.map Prod.fst) {k : Nat} {q : Nat × va_E} (hk : ws[k]? = some q) : ∃ e, ws'[k]? = some (q.1, e) := by
  have h1 : (ws.map Prod.fst)[k]? = some q.1 := by rw [List.getElem?_map, hk]; rfl
  rw [h, List.getElem?_map] at h1
  cases h2 : ws'[k]? with
  | none => rw [h2] at h1; cases h1
  | some z => rw [h2] at h1; obtain ⟨z1, z2⟩ := z; cases h1; exact ⟨z2, rfl⟩
theorem dd_of {A : Nat → Prop} {ws ws' : va_W} (h : ws.map Prod.fst = ws'.map Prod.fst) (hD : va_D A ws') : va_D A ws := by
  refine ⟨fun i j x y hi hj hxy => ?_, fun k q hk => ?_⟩
  · obtain ⟨e1, h1⟩ := dd_at h hi
    obtain ⟨e2, h2⟩ := dd_at h hj
    exact hD.1 i j _ _ h1 h2 hxy
  · obtain ⟨e1, h1⟩ := dd_at h hk
    exact hD.2 k (q.1, e1) h1
theorem dd_A {ws ws' : va_W} (h : ws.map Prod.fst = ws'.map Prod.fst) {sz q : Nat} (hq : va_A ws sz q) : va_A ws' sz q := by
  rcases hq with ⟨k, e, hk⟩ | hq
  · obtain ⟨e1, h1⟩ := dd_at h hk
    exact Or.inl ⟨k, e1, h1⟩
  · exact Or.inr hq
theorem dd_set {ws : va_W} {q0 x : Nat} {e0 e : va_E} (he : ws[q0]? = some (x, e0)) : (ws.set q0 (x, e)).map Prod.fst = ws.map Prod.fst := by
  apply List.ext_getElem?
  intro k
  rw [List.getElem?_map, List.getElem?_map]
  by_cases hk : k = q0
  · subst hk
    rw [List.getElem?_set_self (List.getElem?_eq_some_iff.mp he).1, he]; rfl
  · rw [List.getElem?_set_ne (Ne.symm hk)]
theorem pp_blind (D : va_G) (g : Nat → ClassId) (av : List Value) (ws : va_W) (sz : Nat) : FrameBlind (PP D g av ws sz) := fun a U g mk q => by
  obtain ⟨q0, q1, qP, qK, qD, qN⟩ := q
  exact ⟨q0, q1, qP, va_K.moved (u := U) (U := U.calling g mk a) (Vm.Alike.refl U.vm) qK, qD, fun w hw => va_Nw.same (u := U) (U := U.calling g mk a) (lw_tabs hw) rfl (qN w hw)⟩
theorem gd_in {y : MethodName} {b : ByteArray} {n : Nat} {r : Option FieldType} (h : Cond.code y b n r ∈ lw_ok) : GoodIn lw_ok (w_all y b n r) := by
  intro w hw
  rcases List.mem_cons.mp hw with rfl | hw
  · exact ⟨h, good_of_word (lw_good _ h)⟩
  · exact ⟨hw, good_of_word (lw_good _ hw)⟩
/-- a method's contract out of its walk -/
theorem Ct.of {l : Launch} {D : va_G} {g : Nat → ClassId} {y : MethodName} {b : ByteArray} {n : Nat} {ret : Option FieldType} {d : Nat} {av : List Value} {ws : va_W} {Q : Option Value → va_W → Prop} {own : String} (hy : plainName y.cls = true) (ho : y.cls = own) (hn : (lg_sl av).length ≤ n) {lv : List (Nat × Value)} (hlv : lv_args 0 av = lv)
    (h : ∀ G : GT, Cy l D g own b n d ret ws Q G → G 0 lv [] ws) : Ct l D g y b n ret d av ws Q := by
  intro sz
  refine Met.ofW (cc := b) (maxL := n) (ret := ret) hy rfl ?_
  intro p e s m args below meth c s₁ B hml hv
  obtain ⟨rfl, hsz, hP, hK, hD0, hN⟩ := hv
  have hts := atoms_spec (ws := w_all y b n ret) B.pre
  have hown : s.vm.findClass own = some m.cls := ho ▸ findClass_of_methodNamed B.named
  subst hsz
  have hl := lv_entry av (n := n) hn
  rw [lg_entry_eq]
  rw [hlv] at hl
  exact h _ ⟨p, e, s, m, _, below, meth, c, ⟨B.exec, B.bytes, hml, hown, fun w hw => hts w (List.mem_cons_of_mem _ hw), hK, hD0.self, hN⟩, B.returns, B.notSynchronized, rfl⟩ rfl s.heap [] _ hP va_S.rf hl
section GROWS
variable {l : Launch} {D : va_G} {g : Nat → ClassId} {own : String} {cc : ByteArray} {nL dep : Nat} {ret : Option FieldType} {ws0 : va_W} {Q : Option Value → va_W → Prop} {G : GT} {pc : Nat} {lv lv' : List (Nat × Value)} {st st0 : List Value} {ws ws' : va_W}
/-- fewer locals, in another order -/
theorem g_lv (K : Cy l D g own cc nL dep ret ws0 Q G) (ks : List Nat) (hl : lv_pick lv ks = lv') (k : G pc lv' st ws) : G pc lv st ws := by
  obtain ⟨p, e, s, m, args, below, meth, c, C, hr, hlk, rfl⟩ := K
  exact fun h H locs ls hP hS hv => k h H locs ls hP hS (lv_sub hv ks hl)
/-- a cell's contents in other words -/
theorem g_ws (K : Cy l D g own cc nL dep ret ws0 Q G) (hw : ∀ H, va_P D classes ws H → va_P D classes ws' H) (ha : ws'.map Prod.fst = ws.map Prod.fst) (k : G pc lv st ws') : G pc lv st ws := by
  obtain ⟨p, e, s, m, args, below, meth, c, C, hr, hlk, rfl⟩ := K
  exact fun h H locs ls hP hS hv => k (ha.trans h) H locs ls (hw H hP) hS hv
theorem g_iconst (K : Cy l D g own cc nL dep ret ws0 Q G) {n : Int} {v : Int32} (d : decode cc pc = .ok (.iconst n, 1)) (hz : Int32.ofInt n = v) (k : G (pc + 1) lv (.int v :: st) ws) : G pc lv (st) ws := by
  obtain ⟨p, e, s, m, args, below, meth, c, C, hr, hlk, rfl⟩ := K
  exact fun h H locs ls hP hS hv => lv_iconst C.1 C.2.1 d hz (k h H locs ls hP hS hv)
theorem g_bipush (K : Cy l D g own cc nL dep ret ws0 Q G) {n : Int} {v : Int32} (d : decode cc pc = .ok (.bipush n, 2)) (hz : (Int8.ofInt n).toInt32 = v) (k : G (pc + 2) lv (.int v :: st) ws) : G pc lv (st) ws := by
  obtain ⟨p, e, s, m, args, below, meth, c, C, hr, hlk, rfl⟩ := K
  exact fun h H locs ls hP hS hv => lv_bipush C.1 C.2.1 d hz (k h H locs ls hP hS hv)
theorem g_sipush (K : Cy l D g own cc nL dep ret ws0 Q G) {n : Int} {v : Int32} (d : decode cc pc = .ok (.sipush n, 3)) (hz : (Int16.ofInt n).toInt32 = v) (k : G (pc + 3) lv (.int v :: st) ws) : G pc lv (st) ws := by
  obtain ⟨p, e, s, m, args, below, meth, c, C, hr, hlk, rfl⟩ := K
  exact fun h H locs ls hP hS hv => lv_sipush C.1 C.2.1 d hz (k h H locs ls hP hS hv)
theorem g_lconst (K : Cy l D g own cc nL dep ret ws0 Q G) {n : Fin 2} {v : Int64} (d : decode cc pc = .ok (.lconst n, 1)) (hz : Int64.ofNat (n : Nat) = v) (k : G (pc + 1) lv (.long v :: st) ws) : G pc lv (st) ws := by
  obtain ⟨p, e, s, m, args, below, meth, c, C, hr, hlk, rfl⟩ := K
  exact fun h H locs ls hP hS hv => lv_lconst C.1 C.2.1 d hz (k h H locs ls hP hS hv)
theorem g_iadd (K : Cy l D g own cc nL dep ret ws0 Q G) {x y : Int32} (d : decode cc pc = .ok (.iadd, 1))  (k : G (pc + 1) lv (.int (x + y) :: st) ws) : G pc lv (.int y :: .int x :: st) ws := by
  obtain ⟨p, e, s, m, args, below, meth, c, C, hr, hlk, rfl⟩ := K
  exact fun h H locs ls hP hS hv => lv_iadd C.1 C.2.1 d  (k h H locs ls hP hS hv)
theorem g_isub (K : Cy l D g own cc nL dep ret ws0 Q G) {x y : Int32} (d : decode cc pc = .ok (.isub, 1))  (k : G (pc + 1) lv (.int (x - y) :: st) ws) : G pc lv (.int y :: .int x :: st) ws := by
  obtain ⟨p, e, s, m, args, below, meth, c, C, hr, hlk, rfl⟩ := K
  exact fun h H locs ls hP hS hv => lv_isub C.1 C.2.1 d  (k h H locs ls hP hS hv)
theorem g_imul (K : Cy l D g own cc nL dep ret ws0 Q G) {x y : Int32} (d : decode cc pc = .ok (.imul, 1))  (k : G (pc + 1) lv (.int (x * y) :: st) ws) : G pc lv (.int y :: .int x :: st) ws := by
  obtain ⟨p, e, s, m, args, below, meth, c, C, hr, hlk, rfl⟩ := K
  exact fun h H locs ls hP hS hv => lv_imul C.1 C.2.1 d  (k h H locs ls hP hS hv)
theorem g_iand (K : Cy l D g own cc nL dep ret ws0 Q G) {x y : Int32} (d : decode cc pc = .ok (.iand, 1))  (k : G (pc + 1) lv (.int (x &&& y) :: st) ws) : G pc lv (.int y :: .int x :: st) ws := by
  obtain ⟨p, e, s, m, args, below, meth, c, C, hr, hlk, rfl⟩ := K
  exact fun h H locs ls hP hS hv => lv_iand C.1 C.2.1 d  (k h H locs ls hP hS hv)
theorem g_ior (K : Cy l D g own cc nL dep ret ws0 Q G) {x y : Int32} (d : decode cc pc = .ok (.ior, 1))  (k : G (pc + 1) lv (.int (x ||| y) :: st) ws) : G pc lv (.int y :: .int x :: st) ws := by
  obtain ⟨p, e, s, m, args, below, meth, c, C, hr, hlk, rfl⟩ := K
  exact fun h H locs ls hP hS hv => lv_ior C.1 C.2.1 d  (k h H locs ls hP hS hv)
theorem g_ixor (K : Cy l D g own cc nL dep ret ws0 Q G) {x y : Int32} (d : decode cc pc = .ok (.ixor, 1))  (k : G (pc + 1) lv (.int (x ^^^ y) :: st) ws) : G pc lv (.int y :: .int x :: st) ws := by
  obtain ⟨p, e, s, m, args, below, meth, c, C, hr, hlk, rfl⟩ := K
  exact fun h H locs ls hP hS hv => lv_ixor C.1 C.2.1 d  (k h H locs ls hP hS hv)
theorem g_ishl (K : Cy l D g own cc nL dep ret ws0 Q G) {x y : Int32} (d : decode cc pc = .ok (.ishl, 1))  (k : G (pc + 1) lv (.int (x <<< (y &&& 31)) :: st) ws) : G pc lv (.int y :: .int x :: st) ws := by
  obtain ⟨p, e, s, m, args, below, meth, c, C, hr, hlk, rfl⟩ := K
  exact fun h H locs ls hP hS hv => lv_ishl C.1 C.2.1 d  (k h H locs ls hP hS hv)
theorem g_ishr (K : Cy l D g own cc nL dep ret ws0 Q G) {x y : Int32} (d : decode cc pc = .ok (.ishr, 1))  (k : G (pc + 1) lv (.int (x >>> (y &&& 31)) :: st) ws) : G pc lv (.int y :: .int x :: st) ws := by
  obtain ⟨p, e, s, m, args, below, meth, c, C, hr, hlk, rfl⟩ := K
  exact fun h H locs ls hP hS hv => lv_ishr C.1 C.2.1 d  (k h H locs ls hP hS hv)
theorem g_ineg (K : Cy l D g own cc nL dep ret ws0 Q G) {x : Int32} (d : decode cc pc = .ok (.ineg, 1))  (k : G (pc + 1) lv (.int (-x) :: st) ws) : G pc lv (.int x :: st) ws := by
  obtain ⟨p, e, s, m, args, below, meth, c, C, hr, hlk, rfl⟩ := K
  exact fun h H locs ls hP hS hv => lv_ineg C.1 C.2.1 d  (k h H locs ls hP hS hv)
theorem g_ladd (K : Cy l D g own cc nL dep ret ws0 Q G) {x y : Int64} (d : decode cc pc = .ok (.ladd, 1))  (k : G (pc + 1) lv (.long (x + y) :: st) ws) : G pc lv (.long y :: .long x :: st) ws := by
  obtain ⟨p, e, s, m, args, below, meth, c, C, hr, hlk, rfl⟩ := K
  exact fun h H locs ls hP hS hv => lv_ladd C.1 C.2.1 d  (k h H locs ls hP hS hv)
theorem g_lsub (K : Cy l D g own cc nL dep ret ws0 Q G) {x y : Int64} (d : decode cc pc = .ok (.lsub, 1))  (k : G (pc + 1) lv (.long (x - y) :: st) ws) : G pc lv (.long y :: .long x :: st) ws := by
  obtain ⟨p, e, s, m, args, below, meth, c, C, hr, hlk, rfl⟩ := K
  exact fun h H locs ls hP hS hv => lv_lsub C.1 C.2.1 d  (k h H locs ls hP hS hv)
theorem g_lcmp (K : Cy l D g own cc nL dep ret ws0 Q G) {x y : Int64} (d : decode cc pc = .ok (.lcmp, 1))  (k : G (pc + 1) lv (.int (lg_cmp x y) :: st) ws) : G pc lv (.long y :: .long x :: st) ws := by
  obtain ⟨p, e, s, m, args, below, meth, c, C, hr, hlk, rfl⟩ := K
  exact fun h H locs ls hP hS hv => W.lcmp C.1 C.2.1 d  (k h H locs ls hP hS hv)
theorem g_i2l (K : Cy l D g own cc nL dep ret ws0 Q G) {x : Int32} (d : decode cc pc = .ok (.i2l, 1))  (k : G (pc + 1) lv (.long x.toInt64 :: st) ws) : G pc lv (.int x :: st) ws := by
  obtain ⟨p, e, s, m, args, below, meth, c, C, hr, hlk, rfl⟩ := K
  exact fun h H locs ls hP hS hv => lv_i2l C.1 C.2.1 d rfl (k h H locs ls hP hS hv)
theorem g_l2i (K : Cy l D g own cc nL dep ret ws0 Q G) {x : Int64} (d : decode cc pc = .ok (.l2i, 1))  (k : G (pc + 1) lv (.int x.toInt32 :: st) ws) : G pc lv (.long x :: st) ws := by
  obtain ⟨p, e, s, m, args, below, meth, c, C, hr, hlk, rfl⟩ := K
  exact fun h H locs ls hP hS hv => lv_l2i C.1 C.2.1 d rfl (k h H locs ls hP hS hv)
theorem g_dup (K : Cy l D g own cc nL dep ret ws0 Q G) {va : Value} (d : decode cc pc = .ok (.dup, 1)) (hva : va.category = 1) (k : G (pc + 1) lv (va :: va :: st) ws) : G pc lv (va :: st) ws := by
  obtain ⟨p, e, s, m, args, below, meth, c, C, hr, hlk, rfl⟩ := K
  exact fun h H locs ls hP hS hv => lv_dup C.1 C.2.1 d hva (k h H locs ls hP hS hv)
theorem g_dup2 (K : Cy l D g own cc nL dep ret ws0 Q G) {va vb : Value} (d : decode cc pc = .ok (.dup2, 1)) (hva : va.category = 1) (hvb : vb.category = 1) (k : G (pc + 1) lv (va :: vb :: va :: vb :: st) ws) : G pc lv (va :: vb :: st) ws := by
  obtain ⟨p, e, s, m, args, below, meth, c, C, hr, hlk, rfl⟩ := K
  exact fun h H locs ls hP hS hv => lv_dup2_11 C.1 C.2.1 d hva hvb (k h H locs ls hP hS hv)
theorem g_iload_n (K : Cy l D g own cc nL dep ret ws0 Q G) (j : Nat) {n : Fin 4} {x : Int32} (d : decode cc pc = .ok (.iload_n n, 1)) (hj : lv[j]? = some ((n : Nat), .int x)) (k : G (pc + 1) lv (.int x :: st) ws) : G pc lv st ws := by
  obtain ⟨p, e, s, m, args, below, meth, c, C, hr, hlk, rfl⟩ := K
  exact fun h H locs ls hP hS hv => lv_iload_n C.1 C.2.1 d rfl (lv_at hv j hj) (k h H locs ls hP hS hv)
theorem g_lload_n (K : Cy l D g own cc nL dep ret ws0 Q G) (j : Nat) {n : Fin 4} {x : Int64} (d : decode cc pc = .ok (.lload_n n, 1)) (hj : lv[j]? = some ((n : Nat), .long x)) (k : G (pc + 1) lv (.long x :: st) ws) : G pc lv st ws := by
  obtain ⟨p, e, s, m, args, below, meth, c, C, hr, hlk, rfl⟩ := K
  exact fun h H locs ls hP hS hv => lv_lload_n C.1 C.2.1 d rfl (lv_at hv j hj) (k h H locs ls hP hS hv)
theorem g_aload_n (K : Cy l D g own cc nL dep ret ws0 Q G) (j : Nat) {n : Fin 4} {x : Nat} (d : decode cc pc = .ok (.aload_n n, 1)) (hj : lv[j]? = some ((n : Nat), .ref x)) (k : G (pc + 1) lv (.ref x :: st) ws) : G pc lv st ws := by
  obtain ⟨p, e, s, m, args, below, meth, c, C, hr, hlk, rfl⟩ := K
  exact fun h H locs ls hP hS hv => lv_aload_n C.1 C.2.1 d rfl (lv_at hv j hj) (k h H locs ls hP hS hv)
theorem g_iload (K : Cy l D g own cc nL dep ret ws0 Q G) (j : Nat) {i : Nat} {x : Int32} (d : decode cc pc = .ok (.iload i, 2)) (hj : lv[j]? = some (i, .int x)) (k : G (pc + 2) lv (.int x :: st) ws) : G pc lv st ws := by
  obtain ⟨p, e, s, m, args, below, meth, c, C, hr, hlk, rfl⟩ := K
  exact fun h H locs ls hP hS hv => lv_iload C.1 C.2.1 d (lv_at hv j hj) (k h H locs ls hP hS hv)
theorem g_lload (K : Cy l D g own cc nL dep ret ws0 Q G) (j : Nat) {i : Nat} {x : Int64} (d : decode cc pc = .ok (.lload i, 2)) (hj : lv[j]? = some (i, .long x)) (k : G (pc + 2) lv (.long x :: st) ws) : G pc lv st ws := by
  obtain ⟨p, e, s, m, args, below, meth, c, C, hr, hlk, rfl⟩ := K
  exact fun h H locs ls hP hS hv => lv_lload C.1 C.2.1 d (lv_at hv j hj) (k h H locs ls hP hS hv)
theorem g_istore_n (K : Cy l D g own cc nL dep ret ws0 Q G) {n : Fin 4} {x : Int32} (d : decode cc pc = .ok (.istore_n n, 1)) (hn : (n : Nat) < nL) (hl : ((n : Nat), Value.int x) :: lv.filter (fun q => !(q.1 == (n : Nat)) && !(q.1 + 1 == (n : Nat) && q.2.category == 2)) = lv') (k : G (pc + 1) lv' st ws) : G pc lv (.int x :: st) ws := by
  obtain ⟨p, e, s, m, args, below, meth, c, C, hr, hlk, rfl⟩ := K
  exact fun h H locs ls hP hS hv => lv_istore_n C.1 C.2.1 d rfl hv hn hl (fun ls hv => k h H locs ls hP hS hv)
theorem g_astore_n (K : Cy l D g own cc nL dep ret ws0 Q G) {n : Fin 4} {x : Nat} (d : decode cc pc = .ok (.astore_n n, 1)) (hn : (n : Nat) < nL) (hl : ((n : Nat), Value.ref x) :: lv.filter (fun q => !(q.1 == (n : Nat)) && !(q.1 + 1 == (n : Nat) && q.2.category == 2)) = lv') (k : G (pc + 1) lv' st ws) : G pc lv (.ref x :: st) ws := by
  obtain ⟨p, e, s, m, args, below, meth, c, C, hr, hlk, rfl⟩ := K
  exact fun h H locs ls hP hS hv => lv_astore_n C.1 C.2.1 d rfl hv hn hl (fun ls hv => k h H locs ls hP hS hv)
theorem g_lstore_n (K : Cy l D g own cc nL dep ret ws0 Q G) {n : Fin 4} {x : Int64} (d : decode cc pc = .ok (.lstore_n n, 1)) (hn : (n : Nat) + 1 < nL) (hl : ((n : Nat), Value.long x) :: lv.filter (fun q => !(q.1 == (n : Nat)) && (!(q.1 == (n : Nat) + 1) && !(q.1 + 1 == (n : Nat) && q.2.category == 2))) = lv') (k : G (pc + 1) lv' st ws) : G pc lv (.long x :: st) ws := by
  obtain ⟨p, e, s, m, args, below, meth, c, C, hr, hlk, rfl⟩ := K
  exact fun h H locs ls hP hS hv => lv_lstore_n C.1 C.2.1 d rfl hv hn hl (fun ls hv => k h H locs ls hP hS hv)
theorem g_istore (K : Cy l D g own cc nL dep ret ws0 Q G) {i : Nat} {x : Int32} (d : decode cc pc = .ok (.istore i, 2)) (hn : i < nL) (hl : (i, Value.int x) :: lv.filter (fun q => !(q.1 == i) && !(q.1 + 1 == i && q.2.category == 2)) = lv') (k : G (pc + 2) lv' st ws) : G pc lv (.int x :: st) ws := by
  obtain ⟨p, e, s, m, args, below, meth, c, C, hr, hlk, rfl⟩ := K
  exact fun h H locs ls hP hS hv => lv_istore C.1 C.2.1 d hv hn hl (fun ls hv => k h H locs ls hP hS hv)
theorem g_lstore (K : Cy l D g own cc nL dep ret ws0 Q G) {i : Nat} {x : Int64} (d : decode cc pc = .ok (.lstore i, 2)) (hn : i + 1 < nL) (hl : (i, Value.long x) :: lv.filter (fun q => !(q.1 == i) && (!(q.1 == i + 1) && !(q.1 + 1 == i && q.2.category == 2))) = lv') (k : G (pc + 2) lv' st ws) : G pc lv (.long x :: st) ws := by
  obtain ⟨p, e, s, m, args, below, meth, c, C, hr, hlk, rfl⟩ := K
  exact fun h H locs ls hP hS hv => lv_lstore C.1 C.2.1 d hv hn hl (fun ls hv => k h H locs ls hP hS hv)
theorem g_iinc (K : Cy l D g own cc nL dep ret ws0 Q G) (j : Nat) {i : Nat} {n : Int} {x v : Int32} (d : decode cc pc = .ok (.iinc i n, 3)) (hj : lv[j]? = some (i, .int x)) (hv : x + Int32.ofInt n = v) (hn : i < nL) (hl : (i, Value.int v) :: lv.filter (fun q => !(q.1 == i) && !(q.1 + 1 == i && q.2.category == 2)) = lv') (k : G (pc + 3) lv' st ws) : G pc lv st ws := by
  obtain ⟨p, e, s, m, args, below, meth, c, C, hr, hlk, rfl⟩ := K
  exact fun h H locs ls hP hS hw => lv_iinc C.1 C.2.1 d hw hj hv hn hl (fun ls hw => k h H locs ls hP hS hw)
theorem g_if_eq (K : Cy l D g own cc nL dep ret ws0 Q G) {x : Int32} {off : Int} {tgt : Nat} (d : decode cc pc = .ok (.ifCond .eq off, 3)) (ht : (pc : Int) + off = (tgt : Int)) (kt : x = 0 → G tgt lv st ws) (kf : ¬ x = 0 → G (pc + 3) lv st ws) : G pc lv (.int x :: st) ws := by
  obtain ⟨p, e, s, m, args, below, meth, c, C, hr, hlk, rfl⟩ := K
  exact fun h H locs ls hP hS hv => lv_if_eq C.1 C.2.1 d ht (fun z => kt z h H locs ls hP hS hv) (fun z => kf z h H locs ls hP hS hv)
theorem g_if_ne (K : Cy l D g own cc nL dep ret ws0 Q G) {x : Int32} {off : Int} {tgt : Nat} (d : decode cc pc = .ok (.ifCond .ne off, 3)) (ht : (pc : Int) + off = (tgt : Int)) (kt : ¬ x = 0 → G tgt lv st ws) (kf : x = 0 → G (pc + 3) lv st ws) : G pc lv (.int x :: st) ws := by
  obtain ⟨p, e, s, m, args, below, meth, c, C, hr, hlk, rfl⟩ := K
  exact fun h H locs ls hP hS hv => lv_if_ne C.1 C.2.1 d ht (fun z => kt z h H locs ls hP hS hv) (fun z => kf z h H locs ls hP hS hv)
theorem g_if_lt (K : Cy l D g own cc nL dep ret ws0 Q G) {x : Int32} {off : Int} {tgt : Nat} (d : decode cc pc = .ok (.ifCond .lt off, 3)) (ht : (pc : Int) + off = (tgt : Int)) (kt : x < 0 → G tgt lv st ws) (kf : ¬ x < 0 → G (pc + 3) lv st ws) : G pc lv (.int x :: st) ws := by
  obtain ⟨p, e, s, m, args, below, meth, c, C, hr, hlk, rfl⟩ := K
  exact fun h H locs ls hP hS hv => lv_if_lt C.1 C.2.1 d ht (fun z => kt z h H locs ls hP hS hv) (fun z => kf z h H locs ls hP hS hv)
theorem g_if_ge (K : Cy l D g own cc nL dep ret ws0 Q G) {x : Int32} {off : Int} {tgt : Nat} (d : decode cc pc = .ok (.ifCond .ge off, 3)) (ht : (pc : Int) + off = (tgt : Int)) (kt : 0 ≤ x → G tgt lv st ws) (kf : ¬ 0 ≤ x → G (pc + 3) lv st ws) : G pc lv (.int x :: st) ws := by
  obtain ⟨p, e, s, m, args, below, meth, c, C, hr, hlk, rfl⟩ := K
  exact fun h H locs ls hP hS hv => lv_if_ge C.1 C.2.1 d ht (fun z => kt z h H locs ls hP hS hv) (fun z => kf z h H locs ls hP hS hv)
theorem g_if_gt (K : Cy l D g own cc nL dep ret ws0 Q G) {x : Int32} {off : Int} {tgt : Nat} (d : decode cc pc = .ok (.ifCond .gt off, 3)) (ht : (pc : Int) + off = (tgt : Int)) (kt : 0 < x → G tgt lv st ws) (kf : ¬ 0 < x → G (pc + 3) lv st ws) : G pc lv (.int x :: st) ws := by
  obtain ⟨p, e, s, m, args, below, meth, c, C, hr, hlk, rfl⟩ := K
  exact fun h H locs ls hP hS hv => lv_if_gt C.1 C.2.1 d ht (fun z => kt z h H locs ls hP hS hv) (fun z => kf z h H locs ls hP hS hv)
theorem g_if_le (K : Cy l D g own cc nL dep ret ws0 Q G) {x : Int32} {off : Int} {tgt : Nat} (d : decode cc pc = .ok (.ifCond .le off, 3)) (ht : (pc : Int) + off = (tgt : Int)) (kt : x ≤ 0 → G tgt lv st ws) (kf : ¬ x ≤ 0 → G (pc + 3) lv st ws) : G pc lv (.int x :: st) ws := by
  obtain ⟨p, e, s, m, args, below, meth, c, C, hr, hlk, rfl⟩ := K
  exact fun h H locs ls hP hS hv => lv_if_le C.1 C.2.1 d ht (fun z => kt z h H locs ls hP hS hv) (fun z => kf z h H locs ls hP hS hv)
theorem g_icmp_eq (K : Cy l D g own cc nL dep ret ws0 Q G) {x y : Int32} {off : Int} {tgt : Nat} (d : decode cc pc = .ok (.if_icmp .eq off, 3)) (ht : (pc : Int) + off = (tgt : Int)) (kt : x = y → G tgt lv st ws) (kf : ¬ x = y → G (pc + 3) lv st ws) : G pc lv (.int y :: .int x :: st) ws := by
  obtain ⟨p, e, s, m, args, below, meth, c, C, hr, hlk, rfl⟩ := K
  exact fun h H locs ls hP hS hv => lv_icmp_eq C.1 C.2.1 d ht (fun z => kt z h H locs ls hP hS hv) (fun z => kf z h H locs ls hP hS hv)
theorem g_icmp_ne (K : Cy l D g own cc nL dep ret ws0 Q G) {x y : Int32} {off : Int} {tgt : Nat} (d : decode cc pc = .ok (.if_icmp .ne off, 3)) (ht : (pc : Int) + off = (tgt : Int)) (kt : ¬ x = y → G tgt lv st ws) (kf : x = y → G (pc + 3) lv st ws) : G pc lv (.int y :: .int x :: st) ws := by
  obtain ⟨p, e, s, m, args, below, meth, c, C, hr, hlk, rfl⟩ := K
  exact fun h H locs ls hP hS hv => lv_icmp_ne C.1 C.2.1 d ht (fun z => kt z h H locs ls hP hS hv) (fun z => kf z h H locs ls hP hS hv)
theorem g_icmp_lt (K : Cy l D g own cc nL dep ret ws0 Q G) {x y : Int32} {off : Int} {tgt : Nat} (d : decode cc pc = .ok (.if_icmp .lt off, 3)) (ht : (pc : Int) + off = (tgt : Int)) (kt : x < y → G tgt lv st ws) (kf : ¬ x < y → G (pc + 3) lv st ws) : G pc lv (.int y :: .int x :: st) ws := by
  obtain ⟨p, e, s, m, args, below, meth, c, C, hr, hlk, rfl⟩ := K
  exact fun h H locs ls hP hS hv => lv_icmp_lt C.1 C.2.1 d ht (fun z => kt z h H locs ls hP hS hv) (fun z => kf z h H locs ls hP hS hv)
theorem g_icmp_ge (K : Cy l D g own cc nL dep ret ws0 Q G) {x y : Int32} {off : Int} {tgt : Nat} (d : decode cc pc = .ok (.if_icmp .ge off, 3)) (ht : (pc : Int) + off = (tgt : Int)) (kt : y ≤ x → G tgt lv st ws) (kf : ¬ y ≤ x → G (pc + 3) lv st ws) : G pc lv (.int y :: .int x :: st) ws := by
  obtain ⟨p, e, s, m, args, below, meth, c, C, hr, hlk, rfl⟩ := K
  exact fun h H locs ls hP hS hv => lv_icmp_ge C.1 C.2.1 d ht (fun z => kt z h H locs ls hP hS hv) (fun z => kf z h H locs ls hP hS hv)
theorem g_icmp_gt (K : Cy l D g own cc nL dep ret ws0 Q G) {x y : Int32} {off : Int} {tgt : Nat} (d : decode cc pc = .ok (.if_icmp .gt off, 3)) (ht : (pc : Int) + off = (tgt : Int)) (kt : y < x → G tgt lv st ws) (kf : ¬ y < x → G (pc + 3) lv st ws) : G pc lv (.int y :: .int x :: st) ws := by
  obtain ⟨p, e, s, m, args, below, meth, c, C, hr, hlk, rfl⟩ := K
  exact fun h H locs ls hP hS hv => lv_icmp_gt C.1 C.2.1 d ht (fun z => kt z h H locs ls hP hS hv) (fun z => kf z h H locs ls hP hS hv)
theorem g_icmp_le (K : Cy l D g own cc nL dep ret ws0 Q G) {x y : Int32} {off : Int} {tgt : Nat} (d : decode cc pc = .ok (.if_icmp .le off, 3)) (ht : (pc : Int) + off = (tgt : Int)) (kt : x ≤ y → G tgt lv st ws) (kf : ¬ x ≤ y → G (pc + 3) lv st ws) : G pc lv (.int y :: .int x :: st) ws := by
  obtain ⟨p, e, s, m, args, below, meth, c, C, hr, hlk, rfl⟩ := K
  exact fun h H locs ls hP hS hv => lv_icmp_le C.1 C.2.1 d ht (fun z => kt z h H locs ls hP hS hv) (fun z => kf z h H locs ls hP hS hv)
theorem g_goto (K : Cy l D g own cc nL dep ret ws0 Q G) {off : Int} {tgt : Nat} (d : decode cc pc = .ok (.goto off, 3)) (ht : (pc : Int) + off = (tgt : Int)) (k : G tgt lv st ws) : G pc lv st ws := by
  obtain ⟨p, e, s, m, args, below, meth, c, C, hr, hlk, rfl⟩ := K
  exact fun h H locs ls hP hS hv => lv_goto C.1 C.2.1 d ht (k h H locs ls hP hS hv)
theorem g_ldc (K : Cy l D g own cc nL dep ret ws0 Q G) {index : Nat} {v : Int32} (hc : Cond.constant own index v ∈ lw_ok) (d : decode cc pc = .ok (.ldc index, 2)) (k : G (pc + 2) lv (.int v :: st) ws) : G pc lv st ws := by
  obtain ⟨p, e, s, m, args, below, meth, c, C, hr, hlk, rfl⟩ := K
  exact fun h H locs ls hP hS hv => lv_ldc C.1 C.2.1 C.2.2.2.1 (C.2.2.2.2.1 _ hc) d (k h H locs ls hP hS hv)
/-- the top of the stack in other words -/
theorem g_top (K : Cy l D g own cc nL dep ret ws0 Q G) {x y : Int32} (h : x = y) (k : G pc lv (.int y :: st) ws) : G pc lv (.int x :: st) ws := h ▸ k
theorem g_topl (K : Cy l D g own cc nL dep ret ws0 Q G) {x y : Int64} (h : x = y) (k : G pc lv (.long y :: st) ws) : G pc lv (.long x :: st) ws := h ▸ k
theorem g_get (K : Cy l D g own cc nL dep ret ws0 Q G) (q0 : Nat) {ci k idx x : Nat} {fs : List Value} {C : String} {T : u_T} {N : Nat} {v : Value} (hin : ∀ w ∈ u_ws C T N, w ∈ lw_ok) (he : ws[q0]? = some (x, .inr (ci, fs))) (hc : classes[ci]? = some (C, T, N)) (hk : k < N) (hlink : Cond.fieldLink own idx (T k).1 (T k).2.1 (T k).2.2.1 ∈ lw_ok) (hv : fs[k]? = some v) (d : decode cc pc = .ok (.getfield idx, 3)) (kk : G (pc + 3) lv (v :: st) ws) : G pc lv (.ref x :: st) ws := by
  obtain ⟨p, e, s, m, args, below, meth, c, X, hr, hlk, rfl⟩ := K
  exact fun h H locs ls hP hS hw => va_get X.1 X.2.1 X.2.2.2.2.1 hin X.2.2.2.1 X.2.2.2.2.2.1 hP q0 he hc k hk (X.2.2.2.2.1 _ hlink) (fun _ h9 => h9) hv d (kk h H locs ls hP hS hw)
theorem g_getN (K : Cy l D g own cc nL dep ret ws0 Q G) (q0 : Nat) {ci k idx x : Nat} {fs : List Value} {C host : String} {T : u_T} {N : Nat} {v : Value} (hin : ∀ w ∈ u_ws C T N, w ∈ lw_ok) (he : ws[q0]? = some (x, .inr (ci, fs))) (hc : classes[ci]? = some (C, T, N)) (hk : k < N) (hlink : Cond.fieldLinkNest own idx (T k).1 (T k).2.1 (T k).2.2.1 host ∈ lw_nest) (hv : fs[k]? = some v) (d : decode cc pc = .ok (.getfield idx, 3)) (kk : G (pc + 3) lv (v :: st) ws) : G pc lv (.ref x :: st) ws := by
  obtain ⟨p, e, s, m, args, below, meth, c, X, hr, hlk, rfl⟩ := K
  exact fun h H locs ls hP hS hw => va_getN X.1 X.2.1 X.2.2.2.2.1 hin X.2.2.2.1 X.2.2.2.2.2.1 hP q0 he hc k hk (va_Nw.use rfl (X.2.2.2.2.2.2.2 _ hlink)) (fun _ h9 => h9) hv d (kk h H locs ls hP hS hw)
theorem g_put (K : Cy l D g own cc nL dep ret ws0 Q G) (q0 : Nat) {ci k idx x : Nat} {fs : List Value} {C : String} {T : u_T} {N : Nat} {v : Value} {ty : FieldType} {ty0 : Nat → FieldType} (hin : ∀ w ∈ u_ws C T N, w ∈ lw_ok) (hty : ∀ k, k < N → parseFieldDescriptor (T k).2.2.1 = some (ty0 k)) (hnm : ∀ a, a < N → ∀ b, b < N → a ≠ b → (T a).2.1 ≠ (T b).2.1) (he : ws[q0]? = some (x, .inr (ci, fs))) (hc : classes[ci]? = some (C, T, N)) (hk : k < N) (hlink : Cond.fieldLink own idx (T k).1 (T k).2.1 (T k).2.2.1 ∈ lw_ok) (hfin : (T k).2.2.2 = false) (hd : ty0 k = ty) (hn : narrow ty v = v) (hfit : fits ty v = true) (hlen : k < fs.length) (d : decode cc pc = .ok (.putfield idx, 3)) (hw : ws.set q0 (x, .inr (ci, fs.set k v)) = ws') (kk : G (pc + 3) lv st ws') : G pc lv (v :: .ref x :: st) ws := by
  obtain ⟨p, e, s, m, args, below, meth, c, X, hr, hlk, rfl⟩ := K
  subst hw
  exact fun h H locs ls hP hS hv => va_put X.1 X.2.1 X.2.2.2.2.1 hin ty0 hty hnm X.2.2.2.1 X.2.2.2.2.2.1 hP (dd_of h X.2.2.2.2.2.2.1) hS q0 he hc k hk (X.2.2.2.2.1 _ hlink) (fun _ h9 => h9) hfin (hd ▸ hty k hk) hn hfit hlen d (fun H locs hP _ hS => kk ((dd_set he).trans h) H locs ls hP hS hv)
theorem g_iald (K : Cy l D g own cc nL dep ret ws0 Q G) (q0 j : Nat) {x n : Nat} {f : Nat → Int32} {i : Int32} (ha : ws[q0]? = some (x, .inl (g 0, n, .inl f))) (hi : i = nI j) (hj : j < n) (d : decode cc pc = .ok (.iaload, 1)) (k : G (pc + 1) lv (.int (f j) :: st) ws) (hn : n < 2 ^ 31 := by decide) : G pc lv (.int i :: .ref x :: st) ws := by
  obtain ⟨p, e, s, m, args, below, meth, c, X, hr, hlk, rfl⟩ := K
  subst hi
  exact fun h H locs ls hP hS hv => va_iald X.1 X.2.1 X.2.2.2.2.2.1 hP q0 0 ha rfl (vp_in_nI hj hn) d (by rw [nI_clamp (Nat.lt_trans hj hn)]; exact k h H locs ls hP hS hv)
theorem g_zald (K : Cy l D g own cc nL dep ret ws0 Q G) (q0 j : Nat) {x n : Nat} {f : Nat → Int32} {i : Int32} (ha : ws[q0]? = some (x, .inl (g 1, n, .inl f))) (hi : i = nI j) (hj : j < n) (d : decode cc pc = .ok (.baload, 1)) (k : G (pc + 1) lv (.int (f j) :: st) ws) (hn : n < 2 ^ 31 := by decide) : G pc lv (.int i :: .ref x :: st) ws := by
  obtain ⟨p, e, s, m, args, below, meth, c, X, hr, hlk, rfl⟩ := K
  subst hi
  exact fun h H locs ls hP hS hv => va_zald X.1 X.2.1 X.2.2.2.2.2.1 hP q0 1 ha rfl (vp_in_nI hj hn) d (by rw [nI_clamp (Nat.lt_trans hj hn)]; exact k h H locs ls hP hS hv)
theorem g_lald (K : Cy l D g own cc nL dep ret ws0 Q G) (q0 j : Nat) {x n : Nat} {f : Nat → Int64} {i : Int32} (ha : ws[q0]? = some (x, .inl (g 2, n, .inr (.inl f)))) (hi : i = nI j) (hj : j < n) (d : decode cc pc = .ok (.laload, 1)) (k : G (pc + 1) lv (.long (f j) :: st) ws) (hn : n < 2 ^ 31 := by decide) : G pc lv (.int i :: .ref x :: st) ws := by
  obtain ⟨p, e, s, m, args, below, meth, c, X, hr, hlk, rfl⟩ := K
  subst hi
  exact fun h H locs ls hP hS hv => va_lald X.1 X.2.1 X.2.2.2.2.2.1 hP q0 2 ha rfl (vp_in_nI hj hn) d (by rw [nI_clamp (Nat.lt_trans hj hn)]; exact k h H locs ls hP hS hv)
theorem g_iast (K : Cy l D g own cc nL dep ret ws0 Q G) (q0 j : Nat) {x n : Nat} {f : Nat → Int32} {i : Int32} {v : Int32} (ha : ws[q0]? = some (x, .inl (g 0, n, .inl f))) (hi : i = nI j) (hj : j < n) (d : decode cc pc = .ok (.iastore, 1)) (hw : ws.set q0 (x, .inl (g 0, n, .inl (upd f j v))) = ws') (k : G (pc + 1) lv st ws') (hn : n < 2 ^ 31 := by decide) : G pc lv (.int v :: .int i :: .ref x :: st) ws := by
  obtain ⟨p, e, s, m, args, below, meth, c, X, hr, hlk, rfl⟩ := K
  subst hi
  subst hw
  exact fun h H locs ls hP hS hv => va_iast X.1 X.2.1 X.2.2.2.2.2.1 hP (dd_of h X.2.2.2.2.2.2.1) hS q0 0 ha rfl (vp_in_nI hj hn) d (fun H locs hP _ hS => by rw [nI_clamp (Nat.lt_trans hj hn)] at hP; exact k ((dd_set ha).trans h) H locs ls hP hS hv)
theorem g_zast (K : Cy l D g own cc nL dep ret ws0 Q G) (q0 j : Nat) {x n : Nat} {f : Nat → Int32} {i : Int32} {v : Int32} (ha : ws[q0]? = some (x, .inl (g 1, n, .inl f))) (hi : i = nI j) (hj : j < n) (d : decode cc pc = .ok (.bastore, 1)) (hw : ws.set q0 (x, .inl (g 1, n, .inl (upd f j (vp_nar .boolean v)))) = ws') (k : G (pc + 1) lv st ws') (hn : n < 2 ^ 31 := by decide) : G pc lv (.int v :: .int i :: .ref x :: st) ws := by
  obtain ⟨p, e, s, m, args, below, meth, c, X, hr, hlk, rfl⟩ := K
  subst hi
  subst hw
  exact fun h H locs ls hP hS hv => va_zast X.1 X.2.1 X.2.2.2.2.2.1 hP (dd_of h X.2.2.2.2.2.2.1) hS q0 1 ha rfl (vp_in_nI hj hn) d (fun H locs hP _ hS => by rw [nI_clamp (Nat.lt_trans hj hn)] at hP; exact k ((dd_set ha).trans h) H locs ls hP hS hv)
theorem g_last (K : Cy l D g own cc nL dep ret ws0 Q G) (q0 j : Nat) {x n : Nat} {f : Nat → Int64} {i : Int32} {v : Int64} (ha : ws[q0]? = some (x, .inl (g 2, n, .inr (.inl f)))) (hi : i = nI j) (hj : j < n) (d : decode cc pc = .ok (.lastore, 1)) (hw : ws.set q0 (x, .inl (g 2, n, .inr (.inl (vp_updL f j v)))) = ws') (k : G (pc + 1) lv st ws') (hn : n < 2 ^ 31 := by decide) : G pc lv (.long v :: .int i :: .ref x :: st) ws := by
  obtain ⟨p, e, s, m, args, below, meth, c, X, hr, hlk, rfl⟩ := K
  subst hi
  subst hw
  exact fun h H locs ls hP hS hv => va_last X.1 X.2.1 X.2.2.2.2.2.1 hP (dd_of h X.2.2.2.2.2.2.1) hS q0 2 ha rfl (vp_in_nI hj hn) d (fun H locs hP _ hS => by rw [nI_clamp (Nat.lt_trans hj hn)] at hP; exact k ((dd_set ha).trans h) H locs ls hP hS hv)
theorem g_abs (K : Cy l D g own cc nL dep ret ws0 Q G) {idx : Nat} {x : Int32} (hl : Cond.methodLink own idx Lib.Math.abs.name ∈ lw_ok) (hdep : 1 ≤ dep) (hst : (st.map fun v => v.category).sum ≤ 8) (d : decode cc pc = .ok (.invokestatic idx, 3)) (k : G (pc + 3) lv (.int (if 0 ≤ x then x else 0 - x) :: st) ws) : G pc lv (.int x :: st) ws := by
  obtain ⟨p, e, s, m, args, below, meth, c, X, hr, hlk, rfl⟩ := K
  exact fun h H locs ls hP hS hv => va_mabs X.1 X.2.1 (X.2.2.1.trans hv.1.symm) X.2.2.2.1 (X.2.2.2.2.1 _ hl) (X.2.2.2.2.1 _ is_abs) (X.2.2.2.2.1 _ ini_Math) (X.2.2.2.2.1 _ k_abs) hdep (show _ ≤ 30 * dep by omega) (Nat.zero_le _) (Nat.zero_le _) d (k h H locs ls hP hS hv)
theorem g_iret (K : Cy l D g own cc nL dep (some .int) ws0 Q G) {v : Int32} (d : decode cc pc = .ok (.ireturn, 1)) (hq : Q (some (.int v)) ws) : G pc lv [.int v] ws := by
  obtain ⟨p, e, s, m, args, below, meth, c, X, hr, hlk, rfl⟩ := K
  exact fun h H locs ls hP hS hv => W.iret X.1 X.2.1 hr (fun t ht hW => ⟨⟨_, ws, rfl, hq, h, by rw [ht]; exact hP⟩, hS.F ht⟩) hS.2.2 d hlk
theorem g_zret (K : Cy l D g own cc nL dep (some .boolean) ws0 Q G) {v : Int32} (hn : narrow .boolean (.int v) = .int v) (d : decode cc pc = .ok (.ireturn, 1)) (hq : Q (some (.int v)) ws) : G pc lv [.int v] ws := by
  obtain ⟨p, e, s, m, args, below, meth, c, X, hr, hlk, rfl⟩ := K
  exact fun h H locs ls hP hS hv => W.zret X.1 X.2.1 hr hn (fun t ht hW => ⟨⟨_, ws, rfl, hq, h, by rw [ht]; exact hP⟩, hS.F ht⟩) hS.2.2 d hlk
theorem g_vret (K : Cy l D g own cc nL dep none ws0 Q G) (d : decode cc pc = .ok (.return_, 1)) (hq : Q none ws) : G pc lv [] ws := by
  obtain ⟨p, e, s, m, args, below, meth, c, X, hr, hlk, rfl⟩ := K
  exact fun h H locs ls hP hS hv => W.vret X.1 X.2.1 hr (fun t ht hW => ⟨⟨_, ws, rfl, hq, h, by rw [ht]; exact hP⟩, hS.F ht⟩) hS.2.2 d hlk
/-- what a call needs of the tables -/
def Mf (y : MethodName) (b : ByteArray) (n : Nat) (r : Option FieldType) (C : String) (k : Nat) : Prop := Cond.code y b n r ∈ lw_ok ∧ Cond.initialized C ∈ lw_ok ∧ n ≤ 11 ∧ (y.cls = C ∧ y.cls ≠ "java/lang/invoke/MethodHandle" ∧ y.cls ≠ "java/lang/invoke/VarHandle" ∧ (parseMethodDescriptor y.desc).map (fun d => d.parameters.length) = some k)
theorem g_back {p : Program} {e : Env} {R : Room} {s : State} {m : MethodId} {args : Array Value} {below : List Frame} {meth : Method} {c : Code} {H H0 : Heap} {locs : List Loc} {Qw : State → Prop} {ls : Array Slot} {st0 rest : List Value} {a : Array Value} {A0 : Nat → Prop} {wc : va_W} {Q2 : Option Value → va_W → Prop}
    (hr : va_Run p l e R s m args below meth c H locs 0 0 0 0 (F0 m pc ls st0) rest (QQ D wc Q2 H.size a) (va_A wc H.size)) (hS : va_S A0 H0 H locs) (hA : ∀ q, va_A wc H.size q → A0 q)
    (kk : ∀ (v : Option Value) (w1 : va_W) (H1 : Heap) (locs1 : List Loc), Q2 v w1 → w1.map Prod.fst = wc.map Prod.fst → va_P D classes w1 H1 → H.size ≤ H1.size → (∀ q : Nat, q < H.size → ¬ va_A wc H.size q → H1[q]? = H[q]?) → va_S A0 H0 H1 locs1 → W p l e R s m args below meth c H1 locs1 0 0 Qw (F0 m (pc + 3) ls (v.toList ++ rest))) : W p l e R s m args below meth c H locs 0 0 Qw (F0 m pc ls st0) := by
  intro T hT X
  obtain ⟨v, st₀, t, T', L, h0, X', hL, e1, e2, ⟨⟨r, w1, hv, hq, hw, hb⟩, hz, hk⟩, stp⟩ := hr T hT X
  cases hv
  rw [h0] at hz hk
  obtain ⟨t2, a1, b1⟩ := kk v w1 T'.heap (locs ++ L) hq hw (by rw [e1]; exact hb) (by rw [e1]; exact hz) (fun q h1 h2 => by rw [e1]; exact hk q h1 h2)
    ⟨Nat.le_trans hS.1 (by rw [e1]; exact hz), fun q h1 h2 => by rw [e1, hk q (Nat.lt_of_lt_of_le h1 hS.1) (fun z => h2 (hA q z))]; exact hS.2.1 q h1 h2, fun q hq => by
      rcases List.mem_append.mp hq with h | h
      · exact hS.2.2 q h
      · exact hA _ (hL q h)⟩ T' rfl X'
  exact ⟨t2, stp t2 a1, b1⟩
/-- the world behind a call: the callee's cells from it, the others as they were -/
theorem g_joinw {A0 : Nat → Prop} {H H1 : Heap} {wc w1 : va_W} (isC isR : List Nat) (hP : va_P D classes ws H) (hD : va_D A0 ws) (hC : isC.map (fun i => ws[i]?) = wc.map some) (hC1 : isC.map (fun i => ws'[i]?) = w1.map some) (hR : ∀ i ∈ isR, ws'[i]? = ws[i]?) (hall : ∀ k, k < ws'.length → k ∈ isC ∨ k ∈ isR) (hdis : ∀ i ∈ isR, i ∉ isC)
    (hk : ∀ q : Nat, q < H.size → ¬ va_A wc H.size q → H1[q]? = H[q]?) (hP1 : va_P D classes w1 H1) : va_P D classes ws' H1 := by
  have at' : ∀ {is : List Nat} {w v : va_W}, is.map (fun i => w[i]?) = v.map some → ∀ (k : Nat) (q : Nat × va_E), v[k]? = some q → ∃ i, is[k]? = some i ∧ w[i]? = some q := by
    intro is w v hs k q hq
    have h1 : (is.map (fun i => w[i]?))[k]? = some (some q) := by rw [hs, List.getElem?_map, hq]; rfl
    rw [List.getElem?_map] at h1
    cases hi : is[k]? with
    | none => rw [hi] at h1; cases h1
    | some i => rw [hi] at h1; exact ⟨i, rfl, Option.some.inj h1⟩
  intro k q hq
  rcases hall k (List.getElem?_eq_some_iff.mp hq).1 with hm | hm
  · obtain ⟨j, hj⟩ := List.getElem?_of_mem hm
    have h1 : (isC.map (fun i => ws'[i]?))[j]? = some (some q) := by rw [List.getElem?_map, hj]; simp [hq]
    rw [hC1, List.getElem?_map] at h1
    cases hw : w1[j]? with
    | none => rw [hw] at h1; cases h1
    | some z => rw [hw] at h1; cases h1; exact hP1 j q hw
  · have h2 : ws[k]? = some q := (hR k hm).symm.trans hq
    refine (hP k q h2).kept (hk q.1 (hP k q h2).lt (fun z => ?_))
    rcases z with ⟨k2, e2, z⟩ | z
    · obtain ⟨j2, h3, h4⟩ := at' hC k2 (q.1, e2) z
      have hij := hD.1 k j2 q (q.1, e2) h2 h4 rfl
      subst hij
      exact hdis k hm (List.mem_of_getElem? h3)
    · exact absurd (hP k q h2).lt (Nat.not_lt.mpr z)
theorem g_fits (K : Cy l D g own cc nL dep ret ws0 Q G) {n d2 : Nat} (hdep : d2 + 1 ≤ dep) (hn : n ≤ 11) : (rmm d2).frames + 1 ≤ (rmm dep).frames ∧ 8 + (n + 11) + (rmm d2).locals ≤ (rmm dep).locals := ⟨hdep, show 8 + (n + 11) + 30 * d2 ≤ 30 * dep by omega⟩
/-- a call of an instance method whose world is a part of the caller's -/
theorem g_callV (K : Cy l D g own cc nL dep ret ws0 Q G) {y : MethodName} {b : ByteArray} {n d2 idx q0 ci x : Nat} {r : Option FieldType} {As : List Value} {wc : va_W} {Q2 : Option Value → va_W → Prop} {C : String} {T : u_T} {N : Nat} {fs : List Value} (hC : Ct l D g y b n r d2 (.ref x :: As) wc Q2) (hf : Mf y b n r C As.length) (him : Cond.instanceMethod y ∈ lw_ok) (hse : Cond.selects C y y ∈ lw_ok) (hml : Cond.methodLink own idx y ∈ lw_ok) (hdep : d2 + 1 ≤ dep)
    (hrc : wc[q0]? = some (x, .inr (ci, fs))) (hcl : classes[ci]? = some (C, T, N)) (isC isR : List Nat) (hnd : va_nd isC = true) (hwc : isC.map (fun i => ws[i]?) = wc.map some) (hdis : ∀ i ∈ isR, i ∉ isC) (hst : (st.map fun v => v.category).sum ≤ 8) (d : decode cc pc = .ok (.invokevirtual idx, 3))
    (kk : ∀ (v : Option Value) (w1 : va_W), Q2 v w1 → w1.map Prod.fst = wc.map Prod.fst → ∃ ws' : va_W, ws'.map Prod.fst = ws.map Prod.fst ∧ isC.map (fun i => ws'[i]?) = w1.map some ∧ (∀ i ∈ isR, ws'[i]? = ws[i]?) ∧ (∀ k, k < ws'.length → k ∈ isC ∨ k ∈ isR) ∧ G (pc + 3) lv (v.toList ++ st) ws') (hs0 : st0 = As.reverse ++ .ref x :: st) : G pc lv st0 ws := by
  subst hs0
  have hfit := g_fits K hdep hf.2.2.1
  obtain ⟨p, e, s, m, args, below, meth, c, X, hr, hlk, rfl⟩ := K
  intro h H locs ls hP hS hv
  have hts := X.2.2.2.2.1
  have hD := dd_of h X.2.2.2.2.2.2.1
  have hPc : va_P D classes wc H := by
    intro k q hq
    have h1 : (isC.map (fun i => ws[i]?))[k]? = some (some q) := by rw [hwc, List.getElem?_map, hq]; rfl
    rw [List.getElem?_map] at h1
    cases hi : isC[k]? with
    | none => rw [hi] at h1; cases h1
    | some i => rw [hi] at h1; exact hP i q (Option.some.inj h1)
  have hDc := hD.sub isC hnd hwc
  have hK := X.2.2.2.2.2.1
  have hFc := va_free hD hS (fun q hq => Or.inr hq) isC hwc
  refine g_back (va_runV (As := As) (rest := st) ⟨X.1, X.2.1, X.2.2.1, X.2.2.2.1, hts⟩ (hC H.size) (C := C) ⟨callB_of As.length hts (gd_in hf.1) rfl rfl rfl (by rw [hf.2.2.2.1]; exact hts _ hf.2.1) (hts _ hml) hf.2.2.2.2 hfit, hts _ him, hts _ hse⟩ ⟨pp_blind _ _ _ _ _, va_recv hK hPc hcl hrc, fun U hU hW => ⟨rfl, by rw [hU], by rw [hU]; exact hPc, va_K.moved hW.alike hK, hDc.weaken (fun _ _ _ _ => trivial), fun w hw => lw_warm hw hW (X.2.2.2.2.2.2.2 w hw)⟩⟩ rfl rfl hv.1 rfl (lv_room hst) d ⟨Nat.le_refl _, Nat.le_refl _⟩) hS hFc ?_
  intro v w1 H1 locs1 hq hw1 hP1 hz hk1 hS1
  obtain ⟨ws', e1, e2, e3, e4, k⟩ := kk v w1 hq hw1
  exact k (e1.trans h) H1 locs1 ls (g_joinw isC isR hP hD hwc e2 e3 e4 hdis hk1 hP1) hS1 hv
/-- a call of an instance method on the caller's whole world -/
theorem g_callW (K : Cy l D g own cc nL dep ret ws0 Q G) {y : MethodName} {b : ByteArray} {n d2 idx q0 ci x : Nat} {r : Option FieldType} {As : List Value} {Q2 : Option Value → va_W → Prop} {C : String} {T : u_T} {N : Nat} {fs : List Value} (hC : Ct l D g y b n r d2 (.ref x :: As) ws Q2) (hf : Mf y b n r C As.length) (him : Cond.instanceMethod y ∈ lw_ok) (hse : Cond.selects C y y ∈ lw_ok) (hml : Cond.methodLink own idx y ∈ lw_ok) (hdep : d2 + 1 ≤ dep)
    (hrc : ws[q0]? = some (x, .inr (ci, fs))) (hcl : classes[ci]? = some (C, T, N)) (hst : (st.map fun v => v.category).sum ≤ 8) (d : decode cc pc = .ok (.invokevirtual idx, 3))
    (kk : ∀ (v : Option Value) (w1 : va_W), Q2 v w1 → G (pc + 3) lv (v.toList ++ st) w1) (hs0 : st0 = As.reverse ++ .ref x :: st) : G pc lv st0 ws := by
  subst hs0
  have hfit := g_fits K hdep hf.2.2.1
  obtain ⟨p, e, s, m, args, below, meth, c, X, hr, hlk, rfl⟩ := K
  intro h H locs ls hP hS hv
  have hts := X.2.2.2.2.1
  have hD := dd_of h X.2.2.2.2.2.2.1
  have hK := X.2.2.2.2.2.1
  have hFc : ∀ q, va_A ws H.size q → va_A ws0 s.heap.size q := fun q hq => by
    rcases dd_A h hq with z | z
    · exact Or.inl z
    · exact Or.inr (Nat.le_trans hS.1 z)
  refine g_back (va_runV (As := As) (rest := st) ⟨X.1, X.2.1, X.2.2.1, X.2.2.2.1, hts⟩ (hC H.size) (C := C) ⟨callB_of As.length hts (gd_in hf.1) rfl rfl rfl (by rw [hf.2.2.2.1]; exact hts _ hf.2.1) (hts _ hml) hf.2.2.2.2 hfit, hts _ him, hts _ hse⟩ ⟨pp_blind _ _ _ _ _, va_recv hK hP hcl hrc, fun U hU hW => ⟨rfl, by rw [hU], by rw [hU]; exact hP, va_K.moved hW.alike hK, hD.weaken (fun _ _ _ _ => trivial), fun w hw => lw_warm hw hW (X.2.2.2.2.2.2.2 w hw)⟩⟩ rfl rfl hv.1 rfl (lv_room hst) d ⟨Nat.le_refl _, Nat.le_refl _⟩) hS hFc ?_
  intro v w1 H1 locs1 hq hw1 hP1 hz hk1 hS1
  exact kk v w1 hq (hw1.trans h) H1 locs1 ls hP1 hS1 hv
/-- a call of a static method on no world at all -/
theorem g_callS (K : Cy l D g own cc nL dep ret ws0 Q G) {y : MethodName} {b : ByteArray} {n d2 idx : Nat} {r : Option FieldType} {As : List Value} {Q2 : Option Value → va_W → Prop} (hC : Ct l D g y b n r d2 As [] Q2) (hf : Mf y b n r own As.length) (his : Cond.static y ∈ lw_ok) (hml : Cond.methodLink own idx y ∈ lw_ok) (hdep : d2 + 1 ≤ dep) (hst : (st.map fun v => v.category).sum ≤ 8) (d : decode cc pc = .ok (.invokestatic idx, 3))
    (kk : ∀ (v : Option Value), Q2 v [] → G (pc + 3) lv (v.toList ++ st) ws) (hs0 : st0 = As.reverse ++ st) : G pc lv st0 ws := by
  subst hs0
  have hfit := g_fits K hdep hf.2.2.1
  obtain ⟨p, e, s, m, args, below, meth, c, X, hr, hlk, rfl⟩ := K
  intro h H locs ls hP hS hv
  have hts := X.2.2.2.2.1
  have hD := dd_of h X.2.2.2.2.2.2.1
  have hK := X.2.2.2.2.2.1
  have hFc : ∀ q, va_A [] H.size q → va_A ws0 s.heap.size q := fun q hq => by
    rcases hq with ⟨k, e, z⟩ | z
    · simp at z
    · exact Or.inr (Nat.le_trans hS.1 z)
  refine g_back (va_runS (As := As) (rest := st) ⟨X.1, X.2.1, X.2.2.1, X.2.2.2.1, hts⟩ (hC H.size) ⟨callB_of As.length hts (gd_in hf.1) rfl rfl rfl (by rw [hf.2.2.2.1]; exact hts _ hf.2.1) (hts _ hml) hf.2.2.2.2 hfit, hts _ his⟩ ⟨pp_blind _ _ _ _ _, fun U hU hW => ⟨rfl, by rw [hU], fun k q hq => by simp at hq, va_K.moved hW.alike hK, ⟨fun i j p q hi => by simp at hi, fun k q hq => by simp at hq⟩, fun w hw => lw_warm hw hW (X.2.2.2.2.2.2.2 w hw)⟩⟩ rfl rfl hv.1 rfl (lv_room hst) d ⟨Nat.le_refl _, Nat.le_refl _⟩) hS hFc ?_
  intro v w1 H1 locs1 hq hw1 hP1 hz hk1 hS1
  have hw : w1 = [] := List.map_eq_nil_iff.mp hw1
  subst hw
  refine kk v hq h H1 locs1 ls (hP.kept (fun k q hq => hk1 q.1 (hP k q hq).lt (fun z => ?_))) hS1 hv
  rcases z with ⟨k2, e2, z⟩ | z
  · simp at z
  · exact absurd (hP k q hq).lt (Nat.not_lt.mpr z)
end GROWS
end
section
/-! the worlds: P the problem's arrays (0 costs, 1 starts, 2 bounds, 3 coefficients, 4 literals), I a class's numbers by their field's place, F its other arrays -/
def bZ (b : Bool) : Int32 := cond b 1 0
theorem bZ_nar (b : Bool) : narrow .boolean (.int (bZ b)) = .int (bZ b) := by cases b <;> decide +kernel
theorem bZ_fit (b : Bool) : fits .boolean (.int (bZ b)) = true := by cases b <;> decide +kernel
theorem bZ_vp (b : Bool) : vp_nar .boolean (bZ b) = bZ b := by cases b <;> decide +kernel
theorem bZ_0 (b : Bool) : bZ b = 0 ↔ b = false := by cases b <;> decide
theorem bZ_1 (b : Bool) : bZ b = 1 ↔ b = true := by cases b <;> decide
theorem bZ_t {b : Bool} (h : ¬ bZ b = 0) : b = true := by cases b <;> first | rfl | exact absurd rfl h
theorem bZ_f {b : Bool} (h : bZ b = 0) : b = false := by cases b <;> first | rfl | exact absurd h (by decide)
abbrev BS : Type := (Nat → Int32) × (Nat → Int32) × (Nat → Int64) × (Nat → Int32) × (Nat → Int64)
def MF (a : Nat → Nat) (I : Nat → Int32) : List Value := [.int (I 0), .ref (a 1), .ref (a 2), .ref (a 3), .ref (a 4), .ref (a 5), .int (I 6), .int (I 7), .int (I 8), .int (I 9), .int (I 10), .int (I 11), .int (I 12), .ref (a 6), .ref (a 7), .int (I 15), .int (I 16), .int (I 17), .int (I 18), .int (I 19), .int (I 20), .ref (a 8), .int (I 22), .int (I 23), .int (I 24), .int (I 25), .int (I 26), .ref (a 9), .ref (a 10), .ref (a 11)]
def MW (a : Nat → Nat) (g : Nat → ClassId) (P : Nat → Nat → Int32) (I : Nat → Int32) (F : Nat → Nat → Int32) : va_W := [(a 0, .inr (2, MF a I)), (a 1, .inl (g 0, 17, .inl (P 0))), (a 2, .inl (g 0, 120, .inl (P 3))), (a 3, .inl (g 0, 120, .inl (P 4))), (a 4, .inl (g 0, 22, .inl (P 1))), (a 5, .inl (g 0, 21, .inl (P 2))), (a 6, .inl (g 0, 16, .inl (F 0))), (a 7, .inl (g 1, 16, .inl (F 1))), (a 8, .inl (g 0, 401, .inl (F 2))), (a 9, .inl (g 0, 402, .inl (F 3))), (a 10, .inl (g 0, 402, .inl (F 4))), (a 11, .inl (g 1, 402, .inl (F 5)))]
def BF (o q0 q1 q2 : Nat) (B : BS) : List Value := [.ref o, .ref q0, .ref q1, .int (B.2.2.2.1 0), .ref q2, .long (B.2.2.2.2 0), .long (B.2.2.2.2 1), .int (B.2.2.2.1 1), .int (B.2.2.2.1 2)]
def BW (a : Nat → Nat) (b q0 q1 q2 : Nat) (g : Nat → ClassId) (fs : List Value) (P : Nat → Nat → Int32) (B : BS) : va_W := [(b, .inr (0, BF (a 0) q0 q1 q2 B)), (q0, .inl (g 0, 17, .inl B.1)), (q1, .inl (g 0, 16, .inl B.2.1)), (q2, .inl (g 2, 20, .inr (.inl B.2.2.1))), (a 0, .inr (1, fs)), (a 1, .inl (g 0, 17, .inl (P 0))), (a 2, .inl (g 0, 22, .inl (P 1))), (a 3, .inl (g 0, 20, .inl (P 2))), (a 4, .inl (g 0, 120, .inl (P 3))), (a 5, .inl (g 0, 120, .inl (P 4)))]
/-- what a board reads of the object that it belongs to -/
def FS (a : Nat → Nat) (fs : List Value) (n : Int32) : Prop := fs[0]? = some (.ref (a 1)) ∧ fs[1]? = some (.ref (a 2)) ∧ fs[2]? = some (.ref (a 3)) ∧ fs[3]? = some (.ref (a 4)) ∧ fs[4]? = some (.ref (a 5)) ∧ fs[5]? = some (.int n)
def CF (a : Nat → Nat) (I : Nat → Int32) : List Value := [.ref (a 1), .ref (a 2), .ref (a 3), .ref (a 4), .ref (a 5), .int (I 5), .int (I 6), .int (I 7), .ref (a 6), .ref (a 10), .ref (a 11), .ref (a 12), .int (I 12), .ref (a 13), .int (I 14), .int (I 15), .int (I 16), .int (I 17), .int (I 18), .int (I 19), .ref (a 14), .ref (a 18), .ref (a 19), .ref (a 20), .int (I 24), .int (I 25), .int (I 26), .int (I 27), .int (I 28), .int (I 29)]
theorem CF_fs (a : Nat → Nat) (I : Nat → Int32) : FS a (CF a I) (I 5) := ⟨rfl, rfl, rfl, rfl, rfl, rfl⟩
def CW (a : Nat → Nat) (g : Nat → ClassId) (P : Nat → Nat → Int32) (I : Nat → Int32) (F : Nat → Nat → Int32) (B0 B1 : BS) : va_W := [(a 0, .inr (1, CF a I)), (a 1, .inl (g 0, 17, .inl (P 0))), (a 2, .inl (g 0, 22, .inl (P 1))), (a 3, .inl (g 0, 20, .inl (P 2))), (a 4, .inl (g 0, 120, .inl (P 3))), (a 5, .inl (g 0, 120, .inl (P 4))), (a 6, .inr (0, BF (a 0) (a 7) (a 8) (a 9) B0)), (a 7, .inl (g 0, 17, .inl B0.1)), (a 8, .inl (g 0, 16, .inl B0.2.1)), (a 9, .inl (g 2, 20, .inr (.inl B0.2.2.1))), (a 10, .inl (g 0, 16, .inl (F 0))), (a 11, .inl (g 1, 16, .inl (F 1))), (a 12, .inl (g 0, 16, .inl (F 2))), (a 13, .inl (g 0, 400, .inl (F 3))), (a 14, .inr (0, BF (a 0) (a 15) (a 16) (a 17) B1)), (a 15, .inl (g 0, 17, .inl B1.1)), (a 16, .inl (g 0, 16, .inl B1.2.1)), (a 17, .inl (g 2, 20, .inr (.inl B1.2.2.1))), (a 18, .inl (g 0, 400, .inl (F 4))), (a 19, .inl (g 0, 400, .inl (F 5))), (a 20, .inl (g 1, 400, .inl (F 6)))]
section WROWS
variable {l : Launch} {D : va_G} {g : Nat → ClassId} {cc : ByteArray} {nL dep : Nat} {ret : Option FieldType} {ws0 : va_W} {Q : Option Value → va_W → Prop} {G : GT} {pc : Nat} {lv : List (Nat × Value)} {st : List Value} {a : Nat → Nat} {P : Nat → Nat → Int32} {I : Nat → Int32} {F : Nat → Nat → Int32} {B0 B1 : BS} {b q0 q1 q2 : Nat} {fs : List Value} {vl tr : Nat → Int32} {sl : Nat → Int64} {x : Nat → Int32} {y : Nat → Int64}
theorem gM_get (K : Cy l D g R_M cc nL dep ret ws0 Q G) (k : Nat) {idx : Nat} {v : Value} (hlink : Cond.fieldLink R_M idx (F_M k).1 (F_M k).2.1 (F_M k).2.2.1 ∈ lw_ok) (hk : k < 30) (hv : (MF a I)[k]? = some v) (d : decode cc pc = .ok (.getfield idx, 3)) (kk : G (pc + 3) lv (v :: st) (MW a g P I F)) : G pc lv (.ref (a 0) :: st) (MW a g P I F) := g_get K 0 (ci := 2) i_M rfl rfl hk hlink hv d kk
theorem gM_put_thrown (K : Cy l D g R_M cc nL dep ret ws0 Q G) {idx : Nat} {v : Int32} (hlink : Cond.fieldLink R_M idx (F_M 0).1 (F_M 0).2.1 (F_M 0).2.2.1 ∈ lw_ok) (d : decode cc pc = .ok (.putfield idx, 3)) (kk : G (pc + 3) lv st (MW a g P (upd I 0 v) F)) : G pc lv (.int v :: .ref (a 0) :: st) (MW a g P I F) := g_put K 0 (ci := 2) (k := 0) (ty := .int) i_M t_M_ok n_M rfl rfl (by decide) hlink rfl rfl rfl rfl (by decide : 0 < 30) d rfl kk
theorem gM_put_constraints (K : Cy l D g R_M cc nL dep ret ws0 Q G) {idx : Nat} {v : Int32} (hlink : Cond.fieldLink R_M idx (F_M 6).1 (F_M 6).2.1 (F_M 6).2.2.1 ∈ lw_ok) (d : decode cc pc = .ok (.putfield idx, 3)) (kk : G (pc + 3) lv st (MW a g P (upd I 6 v) F)) : G pc lv (.int v :: .ref (a 0) :: st) (MW a g P I F) := g_put K 0 (ci := 2) (k := 6) (ty := .int) i_M t_M_ok n_M rfl rfl (by decide) hlink rfl rfl rfl rfl (by decide : 6 < 30) d rfl kk
theorem gM_put_terms (K : Cy l D g R_M cc nL dep ret ws0 Q G) {idx : Nat} {v : Int32} (hlink : Cond.fieldLink R_M idx (F_M 7).1 (F_M 7).2.1 (F_M 7).2.2.1 ∈ lw_ok) (d : decode cc pc = .ok (.putfield idx, 3)) (kk : G (pc + 3) lv st (MW a g P (upd I 7 v) F)) : G pc lv (.int v :: .ref (a 0) :: st) (MW a g P I F) := g_put K 0 (ci := 2) (k := 7) (ty := .int) i_M t_M_ok n_M rfl rfl (by decide) hlink rfl rfl rfl rfl (by decide : 7 < 30) d rfl kk
theorem gM_put_begun (K : Cy l D g R_M cc nL dep ret ws0 Q G) {idx : Nat} (v : Bool) {w : Int32} (hw : w = bZ v) (hlink : Cond.fieldLink R_M idx (F_M 8).1 (F_M 8).2.1 (F_M 8).2.2.1 ∈ lw_ok) (d : decode cc pc = .ok (.putfield idx, 3)) (kk : G (pc + 3) lv st (MW a g P (upd I 8 (bZ v)) F)) : G pc lv (.int w :: .ref (a 0) :: st) (MW a g P I F) := by
  subst hw
  exact g_put K 0 (ci := 2) (k := 8) (ty := .boolean) i_M t_M_ok n_M rfl rfl (by decide) hlink rfl rfl (bZ_nar v) (bZ_fit v) (by decide : 8 < 30) d rfl kk
theorem gM_put_done (K : Cy l D g R_M cc nL dep ret ws0 Q G) {idx : Nat} (v : Bool) {w : Int32} (hw : w = bZ v) (hlink : Cond.fieldLink R_M idx (F_M 9).1 (F_M 9).2.1 (F_M 9).2.2.1 ∈ lw_ok) (d : decode cc pc = .ok (.putfield idx, 3)) (kk : G (pc + 3) lv st (MW a g P (upd I 9 (bZ v)) F)) : G pc lv (.int w :: .ref (a 0) :: st) (MW a g P I F) := by
  subst hw
  exact g_put K 0 (ci := 2) (k := 9) (ty := .boolean) i_M t_M_ok n_M rfl rfl (by decide) hlink rfl rfl (bZ_nar v) (bZ_fit v) (by decide : 9 < 30) d rfl kk
theorem gM_put_over (K : Cy l D g R_M cc nL dep ret ws0 Q G) {idx : Nat} (v : Bool) {w : Int32} (hw : w = bZ v) (hlink : Cond.fieldLink R_M idx (F_M 10).1 (F_M 10).2.1 (F_M 10).2.2.1 ∈ lw_ok) (d : decode cc pc = .ok (.putfield idx, 3)) (kk : G (pc + 3) lv st (MW a g P (upd I 10 (bZ v)) F)) : G pc lv (.int w :: .ref (a 0) :: st) (MW a g P I F) := by
  subst hw
  exact g_put K 0 (ci := 2) (k := 10) (ty := .boolean) i_M t_M_ok n_M rfl rfl (by decide) hlink rfl rfl (bZ_nar v) (bZ_fit v) (by decide : 10 < 30) d rfl kk
theorem gM_put_set (K : Cy l D g R_M cc nL dep ret ws0 Q G) {idx : Nat} {v : Int32} (hlink : Cond.fieldLink R_M idx (F_M 11).1 (F_M 11).2.1 (F_M 11).2.2.1 ∈ lw_ok) (d : decode cc pc = .ok (.putfield idx, 3)) (kk : G (pc + 3) lv st (MW a g P (upd I 11 v) F)) : G pc lv (.int v :: .ref (a 0) :: st) (MW a g P I F) := g_put K 0 (ci := 2) (k := 11) (ty := .int) i_M t_M_ok n_M rfl rfl (by decide) hlink rfl rfl rfl rfl (by decide : 11 < 30) d rfl kk
theorem gM_put_ones (K : Cy l D g R_M cc nL dep ret ws0 Q G) {idx : Nat} {v : Int32} (hlink : Cond.fieldLink R_M idx (F_M 12).1 (F_M 12).2.1 (F_M 12).2.2.1 ∈ lw_ok) (d : decode cc pc = .ok (.putfield idx, 3)) (kk : G (pc + 3) lv st (MW a g P (upd I 12 v) F)) : G pc lv (.int v :: .ref (a 0) :: st) (MW a g P I F) := g_put K 0 (ci := 2) (k := 12) (ty := .int) i_M t_M_ok n_M rfl rfl (by decide) hlink rfl rfl rfl rfl (by decide : 12 < 30) d rfl kk
theorem gM_put_depth (K : Cy l D g R_M cc nL dep ret ws0 Q G) {idx : Nat} {v : Int32} (hlink : Cond.fieldLink R_M idx (F_M 15).1 (F_M 15).2.1 (F_M 15).2.2.1 ∈ lw_ok) (d : decode cc pc = .ok (.putfield idx, 3)) (kk : G (pc + 3) lv st (MW a g P (upd I 15 v) F)) : G pc lv (.int v :: .ref (a 0) :: st) (MW a g P I F) := g_put K 0 (ci := 2) (k := 15) (ty := .int) i_M t_M_ok n_M rfl rfl (by decide) hlink rfl rfl rfl rfl (by decide : 15 < 30) d rfl kk
theorem gM_put_searchSet (K : Cy l D g R_M cc nL dep ret ws0 Q G) {idx : Nat} {v : Int32} (hlink : Cond.fieldLink R_M idx (F_M 16).1 (F_M 16).2.1 (F_M 16).2.2.1 ∈ lw_ok) (d : decode cc pc = .ok (.putfield idx, 3)) (kk : G (pc + 3) lv st (MW a g P (upd I 16 v) F)) : G pc lv (.int v :: .ref (a 0) :: st) (MW a g P I F) := g_put K 0 (ci := 2) (k := 16) (ty := .int) i_M t_M_ok n_M rfl rfl (by decide) hlink rfl rfl rfl rfl (by decide : 16 < 30) d rfl kk
theorem gM_put_searchOnes (K : Cy l D g R_M cc nL dep ret ws0 Q G) {idx : Nat} {v : Int32} (hlink : Cond.fieldLink R_M idx (F_M 17).1 (F_M 17).2.1 (F_M 17).2.2.1 ∈ lw_ok) (d : decode cc pc = .ok (.putfield idx, 3)) (kk : G (pc + 3) lv st (MW a g P (upd I 17 v) F)) : G pc lv (.int v :: .ref (a 0) :: st) (MW a g P I F) := g_put K 0 (ci := 2) (k := 17) (ty := .int) i_M t_M_ok n_M rfl rfl (by decide) hlink rfl rfl rfl rfl (by decide : 17 < 30) d rfl kk
theorem gM_put_best (K : Cy l D g R_M cc nL dep ret ws0 Q G) {idx : Nat} {v : Int32} (hlink : Cond.fieldLink R_M idx (F_M 18).1 (F_M 18).2.1 (F_M 18).2.2.1 ∈ lw_ok) (d : decode cc pc = .ok (.putfield idx, 3)) (kk : G (pc + 3) lv st (MW a g P (upd I 18 v) F)) : G pc lv (.int v :: .ref (a 0) :: st) (MW a g P I F) := g_put K 0 (ci := 2) (k := 18) (ty := .int) i_M t_M_ok n_M rfl rfl (by decide) hlink rfl rfl rfl rfl (by decide : 18 < 30) d rfl kk
theorem gM_put_bestOnes (K : Cy l D g R_M cc nL dep ret ws0 Q G) {idx : Nat} {v : Int32} (hlink : Cond.fieldLink R_M idx (F_M 19).1 (F_M 19).2.1 (F_M 19).2.2.1 ∈ lw_ok) (d : decode cc pc = .ok (.putfield idx, 3)) (kk : G (pc + 3) lv st (MW a g P (upd I 19 v) F)) : G pc lv (.int v :: .ref (a 0) :: st) (MW a g P I F) := g_put K 0 (ci := 2) (k := 19) (ty := .int) i_M t_M_ok n_M rfl rfl (by decide) hlink rfl rfl rfl rfl (by decide : 19 < 30) d rfl kk
theorem gM_put_made (K : Cy l D g R_M cc nL dep ret ws0 Q G) {idx : Nat} {v : Int32} (hlink : Cond.fieldLink R_M idx (F_M 20).1 (F_M 20).2.1 (F_M 20).2.2.1 ∈ lw_ok) (d : decode cc pc = .ok (.putfield idx, 3)) (kk : G (pc + 3) lv st (MW a g P (upd I 20 v) F)) : G pc lv (.int v :: .ref (a 0) :: st) (MW a g P I F) := g_put K 0 (ci := 2) (k := 20) (ty := .int) i_M t_M_ok n_M rfl rfl (by decide) hlink rfl rfl rfl rfl (by decide : 20 < 30) d rfl kk
theorem gM_put_size (K : Cy l D g R_M cc nL dep ret ws0 Q G) {idx : Nat} {v : Int32} (hlink : Cond.fieldLink R_M idx (F_M 22).1 (F_M 22).2.1 (F_M 22).2.2.1 ∈ lw_ok) (d : decode cc pc = .ok (.putfield idx, 3)) (kk : G (pc + 3) lv st (MW a g P (upd I 22 v) F)) : G pc lv (.int v :: .ref (a 0) :: st) (MW a g P I F) := g_put K 0 (ci := 2) (k := 22) (ty := .int) i_M t_M_ok n_M rfl rfl (by decide) hlink rfl rfl rfl rfl (by decide : 22 < 30) d rfl kk
theorem gM_put_answer (K : Cy l D g R_M cc nL dep ret ws0 Q G) {idx : Nat} {v : Int32} (hlink : Cond.fieldLink R_M idx (F_M 23).1 (F_M 23).2.1 (F_M 23).2.2.1 ∈ lw_ok) (d : decode cc pc = .ok (.putfield idx, 3)) (kk : G (pc + 3) lv st (MW a g P (upd I 23 v) F)) : G pc lv (.int v :: .ref (a 0) :: st) (MW a g P I F) := g_put K 0 (ci := 2) (k := 23) (ty := .int) i_M t_M_ok n_M rfl rfl (by decide) hlink rfl rfl rfl rfl (by decide : 23 < 30) d rfl kk
theorem gM_put_looked (K : Cy l D g R_M cc nL dep ret ws0 Q G) {idx : Nat} (v : Bool) {w : Int32} (hw : w = bZ v) (hlink : Cond.fieldLink R_M idx (F_M 24).1 (F_M 24).2.1 (F_M 24).2.2.1 ∈ lw_ok) (d : decode cc pc = .ok (.putfield idx, 3)) (kk : G (pc + 3) lv st (MW a g P (upd I 24 (bZ v)) F)) : G pc lv (.int w :: .ref (a 0) :: st) (MW a g P I F) := by
  subst hw
  exact g_put K 0 (ci := 2) (k := 24) (ty := .boolean) i_M t_M_ok n_M rfl rfl (by decide) hlink rfl rfl (bZ_nar v) (bZ_fit v) (by decide : 24 < 30) d rfl kk
theorem gM_put_place (K : Cy l D g R_M cc nL dep ret ws0 Q G) {idx : Nat} {v : Int32} (hlink : Cond.fieldLink R_M idx (F_M 25).1 (F_M 25).2.1 (F_M 25).2.2.1 ∈ lw_ok) (d : decode cc pc = .ok (.putfield idx, 3)) (kk : G (pc + 3) lv st (MW a g P (upd I 25 v) F)) : G pc lv (.int v :: .ref (a 0) :: st) (MW a g P I F) := g_put K 0 (ci := 2) (k := 25) (ty := .int) i_M t_M_ok n_M rfl rfl (by decide) hlink rfl rfl rfl rfl (by decide : 25 < 30) d rfl kk
theorem gM_put_waiting (K : Cy l D g R_M cc nL dep ret ws0 Q G) {idx : Nat} {v : Int32} (hlink : Cond.fieldLink R_M idx (F_M 26).1 (F_M 26).2.1 (F_M 26).2.2.1 ∈ lw_ok) (d : decode cc pc = .ok (.putfield idx, 3)) (kk : G (pc + 3) lv st (MW a g P (upd I 26 v) F)) : G pc lv (.int v :: .ref (a 0) :: st) (MW a g P I F) := g_put K 0 (ci := 2) (k := 26) (ty := .int) i_M t_M_ok n_M rfl rfl (by decide) hlink rfl rfl rfl rfl (by decide : 26 < 30) d rfl kk
theorem gM_ast_costs (K : Cy l D g R_M cc nL dep ret ws0 Q G) (j : Nat) {i v : Int32} (hi : i = nI j) (hj : j < 17) (d : decode cc pc = .ok (.iastore, 1)) (kk : G (pc + 1) lv st (MW a g (va_up P 0 (upd (P 0) j v)) I F)) : G pc lv (.int v :: .int i :: .ref (a 1) :: st) (MW a g P I F) := g_iast K 1 j rfl hi hj d rfl kk
theorem gM_ast_factors (K : Cy l D g R_M cc nL dep ret ws0 Q G) (j : Nat) {i v : Int32} (hi : i = nI j) (hj : j < 120) (d : decode cc pc = .ok (.iastore, 1)) (kk : G (pc + 1) lv st (MW a g (va_up P 3 (upd (P 3) j v)) I F)) : G pc lv (.int v :: .int i :: .ref (a 2) :: st) (MW a g P I F) := g_iast K 2 j rfl hi hj d rfl kk
theorem gM_ast_literals (K : Cy l D g R_M cc nL dep ret ws0 Q G) (j : Nat) {i v : Int32} (hi : i = nI j) (hj : j < 120) (d : decode cc pc = .ok (.iastore, 1)) (kk : G (pc + 1) lv st (MW a g (va_up P 4 (upd (P 4) j v)) I F)) : G pc lv (.int v :: .int i :: .ref (a 3) :: st) (MW a g P I F) := g_iast K 3 j rfl hi hj d rfl kk
theorem gM_ast_begins (K : Cy l D g R_M cc nL dep ret ws0 Q G) (j : Nat) {i v : Int32} (hi : i = nI j) (hj : j < 22) (d : decode cc pc = .ok (.iastore, 1)) (kk : G (pc + 1) lv st (MW a g (va_up P 1 (upd (P 1) j v)) I F)) : G pc lv (.int v :: .int i :: .ref (a 4) :: st) (MW a g P I F) := g_iast K 4 j rfl hi hj d rfl kk
theorem gM_ast_bounds (K : Cy l D g R_M cc nL dep ret ws0 Q G) (j : Nat) {i v : Int32} (hi : i = nI j) (hj : j < 21) (d : decode cc pc = .ok (.iastore, 1)) (kk : G (pc + 1) lv st (MW a g (va_up P 2 (upd (P 2) j v)) I F)) : G pc lv (.int v :: .int i :: .ref (a 5) :: st) (MW a g P I F) := g_iast K 5 j rfl hi hj d rfl kk
theorem gM_ast_trail (K : Cy l D g R_M cc nL dep ret ws0 Q G) (j : Nat) {i v : Int32} (hi : i = nI j) (hj : j < 16) (d : decode cc pc = .ok (.iastore, 1)) (kk : G (pc + 1) lv st (MW a g P I (va_up F 0 (upd (F 0) j v)))) : G pc lv (.int v :: .int i :: .ref (a 6) :: st) (MW a g P I F) := g_iast K 6 j rfl hi hj d rfl kk
theorem gM_ast_choice (K : Cy l D g R_M cc nL dep ret ws0 Q G) (j : Nat) (v : Bool) {i w : Int32} (hw : w = bZ v) (hi : i = nI j) (hj : j < 16) (d : decode cc pc = .ok (.bastore, 1)) (kk : G (pc + 1) lv st (MW a g P I (va_up F 1 (upd (F 1) j (bZ v))))) : G pc lv (.int w :: .int i :: .ref (a 7) :: st) (MW a g P I F) := by
  subst hw
  refine g_zast K 7 j rfl hi hj d ?_ kk
  rw [bZ_vp]; rfl
theorem gM_ast_log (K : Cy l D g R_M cc nL dep ret ws0 Q G) (j : Nat) {i v : Int32} (hi : i = nI j) (hj : j < 401) (d : decode cc pc = .ok (.iastore, 1)) (kk : G (pc + 1) lv st (MW a g P I (va_up F 2 (upd (F 2) j v)))) : G pc lv (.int v :: .int i :: .ref (a 8) :: st) (MW a g P I F) := g_iast K 8 j rfl hi hj d rfl kk
theorem gM_ast_waitSet (K : Cy l D g R_M cc nL dep ret ws0 Q G) (j : Nat) {i v : Int32} (hi : i = nI j) (hj : j < 402) (d : decode cc pc = .ok (.iastore, 1)) (kk : G (pc + 1) lv st (MW a g P I (va_up F 3 (upd (F 3) j v)))) : G pc lv (.int v :: .int i :: .ref (a 9) :: st) (MW a g P I F) := g_iast K 9 j rfl hi hj d rfl kk
theorem gM_ast_waitOnes (K : Cy l D g R_M cc nL dep ret ws0 Q G) (j : Nat) {i v : Int32} (hi : i = nI j) (hj : j < 402) (d : decode cc pc = .ok (.iastore, 1)) (kk : G (pc + 1) lv st (MW a g P I (va_up F 4 (upd (F 4) j v)))) : G pc lv (.int v :: .int i :: .ref (a 10) :: st) (MW a g P I F) := g_iast K 10 j rfl hi hj d rfl kk
theorem gM_ast_waitDead (K : Cy l D g R_M cc nL dep ret ws0 Q G) (j : Nat) (v : Bool) {i w : Int32} (hw : w = bZ v) (hi : i = nI j) (hj : j < 402) (d : decode cc pc = .ok (.bastore, 1)) (kk : G (pc + 1) lv st (MW a g P I (va_up F 5 (upd (F 5) j (bZ v))))) : G pc lv (.int w :: .int i :: .ref (a 11) :: st) (MW a g P I F) := by
  subst hw
  refine g_zast K 11 j rfl hi hj d ?_ kk
  rw [bZ_vp]; rfl
theorem gC_get (K : Cy l D g R_C cc nL dep ret ws0 Q G) (k : Nat) {idx : Nat} {v : Value} (hlink : Cond.fieldLink R_C idx (F_C k).1 (F_C k).2.1 (F_C k).2.2.1 ∈ lw_ok) (hk : k < 30) (hv : (CF a I)[k]? = some v) (d : decode cc pc = .ok (.getfield idx, 3)) (kk : G (pc + 3) lv (v :: st) (CW a g P I F B0 B1)) : G pc lv (.ref (a 0) :: st) (CW a g P I F B0 B1) := g_get K 0 (ci := 1) i_C rfl rfl hk hlink hv d kk
theorem gC_put_count (K : Cy l D g R_C cc nL dep ret ws0 Q G) {idx : Nat} {v : Int32} (hlink : Cond.fieldLink R_C idx (F_C 5).1 (F_C 5).2.1 (F_C 5).2.2.1 ∈ lw_ok) (d : decode cc pc = .ok (.putfield idx, 3)) (kk : G (pc + 3) lv st (CW a g P (upd I 5 v) F B0 B1)) : G pc lv (.int v :: .ref (a 0) :: st) (CW a g P I F B0 B1) := g_put K 0 (ci := 1) (k := 5) (ty := .int) i_C t_C_ok n_C rfl rfl (by decide) hlink rfl rfl rfl rfl (by decide : 5 < 30) d rfl kk
theorem gC_put_terms (K : Cy l D g R_C cc nL dep ret ws0 Q G) {idx : Nat} {v : Int32} (hlink : Cond.fieldLink R_C idx (F_C 6).1 (F_C 6).2.1 (F_C 6).2.2.1 ∈ lw_ok) (d : decode cc pc = .ok (.putfield idx, 3)) (kk : G (pc + 3) lv st (CW a g P (upd I 6 v) F B0 B1)) : G pc lv (.int v :: .ref (a 0) :: st) (CW a g P I F B0 B1) := g_put K 0 (ci := 1) (k := 6) (ty := .int) i_C t_C_ok n_C rfl rfl (by decide) hlink rfl rfl rfl rfl (by decide : 6 < 30) d rfl kk
theorem gC_put_begun (K : Cy l D g R_C cc nL dep ret ws0 Q G) {idx : Nat} (v : Bool) {w : Int32} (hw : w = bZ v) (hlink : Cond.fieldLink R_C idx (F_C 7).1 (F_C 7).2.1 (F_C 7).2.2.1 ∈ lw_ok) (d : decode cc pc = .ok (.putfield idx, 3)) (kk : G (pc + 3) lv st (CW a g P (upd I 7 (bZ v)) F B0 B1)) : G pc lv (.int w :: .ref (a 0) :: st) (CW a g P I F B0 B1) := by
  subst hw
  exact g_put K 0 (ci := 1) (k := 7) (ty := .boolean) i_C t_C_ok n_C rfl rfl (by decide) hlink rfl rfl (bZ_nar v) (bZ_fit v) (by decide : 7 < 30) d rfl kk
theorem gC_put_choices (K : Cy l D g R_C cc nL dep ret ws0 Q G) {idx : Nat} {v : Int32} (hlink : Cond.fieldLink R_C idx (F_C 12).1 (F_C 12).2.1 (F_C 12).2.2.1 ∈ lw_ok) (d : decode cc pc = .ok (.putfield idx, 3)) (kk : G (pc + 3) lv st (CW a g P (upd I 12 v) F B0 B1)) : G pc lv (.int v :: .ref (a 0) :: st) (CW a g P I F B0 B1) := g_put K 0 (ci := 1) (k := 12) (ty := .int) i_C t_C_ok n_C rfl rfl (by decide) hlink rfl rfl rfl rfl (by decide : 12 < 30) d rfl kk
theorem gC_put_logLength (K : Cy l D g R_C cc nL dep ret ws0 Q G) {idx : Nat} {v : Int32} (hlink : Cond.fieldLink R_C idx (F_C 14).1 (F_C 14).2.1 (F_C 14).2.2.1 ∈ lw_ok) (d : decode cc pc = .ok (.putfield idx, 3)) (kk : G (pc + 3) lv st (CW a g P (upd I 14 v) F B0 B1)) : G pc lv (.int v :: .ref (a 0) :: st) (CW a g P I F B0 B1) := g_put K 0 (ci := 1) (k := 14) (ty := .int) i_C t_C_ok n_C rfl rfl (by decide) hlink rfl rfl rfl rfl (by decide : 14 < 30) d rfl kk
theorem gC_put_best (K : Cy l D g R_C cc nL dep ret ws0 Q G) {idx : Nat} {v : Int32} (hlink : Cond.fieldLink R_C idx (F_C 15).1 (F_C 15).2.1 (F_C 15).2.2.1 ∈ lw_ok) (d : decode cc pc = .ok (.putfield idx, 3)) (kk : G (pc + 3) lv st (CW a g P (upd I 15 v) F B0 B1)) : G pc lv (.int v :: .ref (a 0) :: st) (CW a g P I F B0 B1) := g_put K 0 (ci := 1) (k := 15) (ty := .int) i_C t_C_ok n_C rfl rfl (by decide) hlink rfl rfl rfl rfl (by decide : 15 < 30) d rfl kk
theorem gC_put_bestBits (K : Cy l D g R_C cc nL dep ret ws0 Q G) {idx : Nat} {v : Int32} (hlink : Cond.fieldLink R_C idx (F_C 16).1 (F_C 16).2.1 (F_C 16).2.2.1 ∈ lw_ok) (d : decode cc pc = .ok (.putfield idx, 3)) (kk : G (pc + 3) lv st (CW a g P (upd I 16 v) F B0 B1)) : G pc lv (.int v :: .ref (a 0) :: st) (CW a g P I F B0 B1) := g_put K 0 (ci := 1) (k := 16) (ty := .int) i_C t_C_ok n_C rfl rfl (by decide) hlink rfl rfl rfl rfl (by decide : 16 < 30) d rfl kk
theorem gC_put_done (K : Cy l D g R_C cc nL dep ret ws0 Q G) {idx : Nat} (v : Bool) {w : Int32} (hw : w = bZ v) (hlink : Cond.fieldLink R_C idx (F_C 17).1 (F_C 17).2.1 (F_C 17).2.2.1 ∈ lw_ok) (d : decode cc pc = .ok (.putfield idx, 3)) (kk : G (pc + 3) lv st (CW a g P (upd I 17 (bZ v)) F B0 B1)) : G pc lv (.int w :: .ref (a 0) :: st) (CW a g P I F B0 B1) := by
  subst hw
  exact g_put K 0 (ci := 1) (k := 17) (ty := .boolean) i_C t_C_ok n_C rfl rfl (by decide) hlink rfl rfl (bZ_nar v) (bZ_fit v) (by decide : 17 < 30) d rfl kk
theorem gC_put_lost (K : Cy l D g R_C cc nL dep ret ws0 Q G) {idx : Nat} (v : Bool) {w : Int32} (hw : w = bZ v) (hlink : Cond.fieldLink R_C idx (F_C 18).1 (F_C 18).2.1 (F_C 18).2.2.1 ∈ lw_ok) (d : decode cc pc = .ok (.putfield idx, 3)) (kk : G (pc + 3) lv st (CW a g P (upd I 18 (bZ v)) F B0 B1)) : G pc lv (.int w :: .ref (a 0) :: st) (CW a g P I F B0 B1) := by
  subst hw
  exact g_put K 0 (ci := 1) (k := 18) (ty := .boolean) i_C t_C_ok n_C rfl rfl (by decide) hlink rfl rfl (bZ_nar v) (bZ_fit v) (by decide : 18 < 30) d rfl kk
theorem gC_put_stepCount (K : Cy l D g R_C cc nL dep ret ws0 Q G) {idx : Nat} {v : Int32} (hlink : Cond.fieldLink R_C idx (F_C 19).1 (F_C 19).2.1 (F_C 19).2.2.1 ∈ lw_ok) (d : decode cc pc = .ok (.putfield idx, 3)) (kk : G (pc + 3) lv st (CW a g P (upd I 19 v) F B0 B1)) : G pc lv (.int v :: .ref (a 0) :: st) (CW a g P I F B0 B1) := g_put K 0 (ci := 1) (k := 19) (ty := .int) i_C t_C_ok n_C rfl rfl (by decide) hlink rfl rfl rfl rfl (by decide : 19 < 30) d rfl kk
theorem gC_put_waits (K : Cy l D g R_C cc nL dep ret ws0 Q G) {idx : Nat} {v : Int32} (hlink : Cond.fieldLink R_C idx (F_C 24).1 (F_C 24).2.1 (F_C 24).2.2.1 ∈ lw_ok) (d : decode cc pc = .ok (.putfield idx, 3)) (kk : G (pc + 3) lv st (CW a g P (upd I 24 v) F B0 B1)) : G pc lv (.int v :: .ref (a 0) :: st) (CW a g P I F B0 B1) := g_put K 0 (ci := 1) (k := 24) (ty := .int) i_C t_C_ok n_C rfl rfl (by decide) hlink rfl rfl rfl rfl (by decide : 24 < 30) d rfl kk
theorem gC_put_broken (K : Cy l D g R_C cc nL dep ret ws0 Q G) {idx : Nat} (v : Bool) {w : Int32} (hw : w = bZ v) (hlink : Cond.fieldLink R_C idx (F_C 25).1 (F_C 25).2.1 (F_C 25).2.2.1 ∈ lw_ok) (d : decode cc pc = .ok (.putfield idx, 3)) (kk : G (pc + 3) lv st (CW a g P (upd I 25 (bZ v)) F B0 B1)) : G pc lv (.int w :: .ref (a 0) :: st) (CW a g P I F B0 B1) := by
  subst hw
  exact g_put K 0 (ci := 1) (k := 25) (ty := .boolean) i_C t_C_ok n_C rfl rfl (by decide) hlink rfl rfl (bZ_nar v) (bZ_fit v) (by decide : 25 < 30) d rfl kk
theorem gC_put_closed (K : Cy l D g R_C cc nL dep ret ws0 Q G) {idx : Nat} (v : Bool) {w : Int32} (hw : w = bZ v) (hlink : Cond.fieldLink R_C idx (F_C 26).1 (F_C 26).2.1 (F_C 26).2.2.1 ∈ lw_ok) (d : decode cc pc = .ok (.putfield idx, 3)) (kk : G (pc + 3) lv st (CW a g P (upd I 26 (bZ v)) F B0 B1)) : G pc lv (.int w :: .ref (a 0) :: st) (CW a g P I F B0 B1) := by
  subst hw
  exact g_put K 0 (ci := 1) (k := 26) (ty := .boolean) i_C t_C_ok n_C rfl rfl (by decide) hlink rfl rfl (bZ_nar v) (bZ_fit v) (by decide : 26 < 30) d rfl kk
theorem gC_put_looked (K : Cy l D g R_C cc nL dep ret ws0 Q G) {idx : Nat} (v : Bool) {w : Int32} (hw : w = bZ v) (hlink : Cond.fieldLink R_C idx (F_C 27).1 (F_C 27).2.1 (F_C 27).2.2.1 ∈ lw_ok) (d : decode cc pc = .ok (.putfield idx, 3)) (kk : G (pc + 3) lv st (CW a g P (upd I 27 (bZ v)) F B0 B1)) : G pc lv (.int w :: .ref (a 0) :: st) (CW a g P I F B0 B1) := by
  subst hw
  exact g_put K 0 (ci := 1) (k := 27) (ty := .boolean) i_C t_C_ok n_C rfl rfl (by decide) hlink rfl rfl (bZ_nar v) (bZ_fit v) (by decide : 27 < 30) d rfl kk
theorem gC_put_at (K : Cy l D g R_C cc nL dep ret ws0 Q G) {idx : Nat} {v : Int32} (hlink : Cond.fieldLink R_C idx (F_C 28).1 (F_C 28).2.1 (F_C 28).2.2.1 ∈ lw_ok) (d : decode cc pc = .ok (.putfield idx, 3)) (kk : G (pc + 3) lv st (CW a g P (upd I 28 v) F B0 B1)) : G pc lv (.int v :: .ref (a 0) :: st) (CW a g P I F B0 B1) := g_put K 0 (ci := 1) (k := 28) (ty := .int) i_C t_C_ok n_C rfl rfl (by decide) hlink rfl rfl rfl rfl (by decide : 28 < 30) d rfl kk
theorem gC_put_verdict (K : Cy l D g R_C cc nL dep ret ws0 Q G) {idx : Nat} {v : Int32} (hlink : Cond.fieldLink R_C idx (F_C 29).1 (F_C 29).2.1 (F_C 29).2.2.1 ∈ lw_ok) (d : decode cc pc = .ok (.putfield idx, 3)) (kk : G (pc + 3) lv st (CW a g P (upd I 29 v) F B0 B1)) : G pc lv (.int v :: .ref (a 0) :: st) (CW a g P I F B0 B1) := g_put K 0 (ci := 1) (k := 29) (ty := .int) i_C t_C_ok n_C rfl rfl (by decide) hlink rfl rfl rfl rfl (by decide : 29 < 30) d rfl kk
theorem gC_ast_costs (K : Cy l D g R_C cc nL dep ret ws0 Q G) (j : Nat) {i v : Int32} (hi : i = nI j) (hj : j < 17) (d : decode cc pc = .ok (.iastore, 1)) (kk : G (pc + 1) lv st (CW a g (va_up P 0 (upd (P 0) j v)) I F B0 B1)) : G pc lv (.int v :: .int i :: .ref (a 1) :: st) (CW a g P I F B0 B1) := g_iast K 1 j rfl hi hj d rfl kk
theorem gC_ast_starts (K : Cy l D g R_C cc nL dep ret ws0 Q G) (j : Nat) {i v : Int32} (hi : i = nI j) (hj : j < 22) (d : decode cc pc = .ok (.iastore, 1)) (kk : G (pc + 1) lv st (CW a g (va_up P 1 (upd (P 1) j v)) I F B0 B1)) : G pc lv (.int v :: .int i :: .ref (a 2) :: st) (CW a g P I F B0 B1) := g_iast K 2 j rfl hi hj d rfl kk
theorem gC_ast_bounds (K : Cy l D g R_C cc nL dep ret ws0 Q G) (j : Nat) {i v : Int32} (hi : i = nI j) (hj : j < 20) (d : decode cc pc = .ok (.iastore, 1)) (kk : G (pc + 1) lv st (CW a g (va_up P 2 (upd (P 2) j v)) I F B0 B1)) : G pc lv (.int v :: .int i :: .ref (a 3) :: st) (CW a g P I F B0 B1) := g_iast K 3 j rfl hi hj d rfl kk
theorem gC_ast_coefficients (K : Cy l D g R_C cc nL dep ret ws0 Q G) (j : Nat) {i v : Int32} (hi : i = nI j) (hj : j < 120) (d : decode cc pc = .ok (.iastore, 1)) (kk : G (pc + 1) lv st (CW a g (va_up P 3 (upd (P 3) j v)) I F B0 B1)) : G pc lv (.int v :: .int i :: .ref (a 4) :: st) (CW a g P I F B0 B1) := g_iast K 4 j rfl hi hj d rfl kk
theorem gC_ast_literals (K : Cy l D g R_C cc nL dep ret ws0 Q G) (j : Nat) {i v : Int32} (hi : i = nI j) (hj : j < 120) (d : decode cc pc = .ok (.iastore, 1)) (kk : G (pc + 1) lv st (CW a g (va_up P 4 (upd (P 4) j v)) I F B0 B1)) : G pc lv (.int v :: .int i :: .ref (a 5) :: st) (CW a g P I F B0 B1) := g_iast K 5 j rfl hi hj d rfl kk
theorem gC_ast_chosen (K : Cy l D g R_C cc nL dep ret ws0 Q G) (j : Nat) {i v : Int32} (hi : i = nI j) (hj : j < 16) (d : decode cc pc = .ok (.iastore, 1)) (kk : G (pc + 1) lv st (CW a g P I (va_up F 0 (upd (F 0) j v)) B0 B1)) : G pc lv (.int v :: .int i :: .ref (a 10) :: st) (CW a g P I F B0 B1) := g_iast K 10 j rfl hi hj d rfl kk
theorem gC_ast_turned (K : Cy l D g R_C cc nL dep ret ws0 Q G) (j : Nat) (v : Bool) {i w : Int32} (hw : w = bZ v) (hi : i = nI j) (hj : j < 16) (d : decode cc pc = .ok (.bastore, 1)) (kk : G (pc + 1) lv st (CW a g P I (va_up F 1 (upd (F 1) j (bZ v))) B0 B1)) : G pc lv (.int w :: .int i :: .ref (a 11) :: st) (CW a g P I F B0 B1) := by
  subst hw
  refine g_zast K 11 j rfl hi hj d ?_ kk
  rw [bZ_vp]; rfl
theorem gC_ast_marks (K : Cy l D g R_C cc nL dep ret ws0 Q G) (j : Nat) {i v : Int32} (hi : i = nI j) (hj : j < 16) (d : decode cc pc = .ok (.iastore, 1)) (kk : G (pc + 1) lv st (CW a g P I (va_up F 2 (upd (F 2) j v)) B0 B1)) : G pc lv (.int v :: .int i :: .ref (a 12) :: st) (CW a g P I F B0 B1) := g_iast K 12 j rfl hi hj d rfl kk
theorem gC_ast_log (K : Cy l D g R_C cc nL dep ret ws0 Q G) (j : Nat) {i v : Int32} (hi : i = nI j) (hj : j < 400) (d : decode cc pc = .ok (.iastore, 1)) (kk : G (pc + 1) lv st (CW a g P I (va_up F 3 (upd (F 3) j v)) B0 B1)) : G pc lv (.int v :: .int i :: .ref (a 13) :: st) (CW a g P I F B0 B1) := g_iast K 13 j rfl hi hj d rfl kk
theorem gC_ast_waiting (K : Cy l D g R_C cc nL dep ret ws0 Q G) (j : Nat) {i v : Int32} (hi : i = nI j) (hj : j < 400) (d : decode cc pc = .ok (.iastore, 1)) (kk : G (pc + 1) lv st (CW a g P I (va_up F 4 (upd (F 4) j v)) B0 B1)) : G pc lv (.int v :: .int i :: .ref (a 18) :: st) (CW a g P I F B0 B1) := g_iast K 18 j rfl hi hj d rfl kk
theorem gC_ast_lengths (K : Cy l D g R_C cc nL dep ret ws0 Q G) (j : Nat) {i v : Int32} (hi : i = nI j) (hj : j < 400) (d : decode cc pc = .ok (.iastore, 1)) (kk : G (pc + 1) lv st (CW a g P I (va_up F 5 (upd (F 5) j v)) B0 B1)) : G pc lv (.int v :: .int i :: .ref (a 19) :: st) (CW a g P I F B0 B1) := g_iast K 19 j rfl hi hj d rfl kk
theorem gC_ast_dead (K : Cy l D g R_C cc nL dep ret ws0 Q G) (j : Nat) (v : Bool) {i w : Int32} (hw : w = bZ v) (hi : i = nI j) (hj : j < 400) (d : decode cc pc = .ok (.bastore, 1)) (kk : G (pc + 1) lv st (CW a g P I (va_up F 6 (upd (F 6) j (bZ v))) B0 B1)) : G pc lv (.int w :: .int i :: .ref (a 20) :: st) (CW a g P I F B0 B1) := by
  subst hw
  refine g_zast K 20 j rfl hi hj d ?_ kk
  rw [bZ_vp]; rfl
theorem gB_get (K : Cy l D g R_B cc nL dep ret ws0 Q G) (k : Nat) {idx : Nat} {v : Value} (hlink : Cond.fieldLink R_B idx (F_B k).1 (F_B k).2.1 (F_B k).2.2.1 ∈ lw_ok) (hk : k < 9) (hv : (BF (a 0) q0 q1 q2 (vl, tr, sl, x, y))[k]? = some v) (d : decode cc pc = .ok (.getfield idx, 3)) (kk : G (pc + 3) lv (v :: st) (BW a b q0 q1 q2 g fs P (vl, tr, sl, x, y))) : G pc lv (.ref b :: st) (BW a b q0 q1 q2 g fs P (vl, tr, sl, x, y)) := g_get K 0 (ci := 0) i_B rfl rfl hk hlink hv d kk
theorem gB_of (K : Cy l D g R_B cc nL dep ret ws0 Q G) (k : Nat) {idx : Nat} {v : Value} (hlink : Cond.fieldLinkNest R_B idx (F_C k).1 (F_C k).2.1 (F_C k).2.2.1 "LeastCost" ∈ lw_nest) (hk : k < 30) (hv : fs[k]? = some v) (d : decode cc pc = .ok (.getfield idx, 3)) (kk : G (pc + 3) lv (v :: st) (BW a b q0 q1 q2 g fs P (vl, tr, sl, x, y))) : G pc lv (.ref (a 0) :: st) (BW a b q0 q1 q2 g fs P (vl, tr, sl, x, y)) := g_getN K 4 (ci := 1) i_C rfl rfl hk hlink hv d kk
theorem gB_get_of (K : Cy l D g R_B cc nL dep ret ws0 Q G) {idx : Nat} (hlink : Cond.fieldLink R_B idx (F_B 0).1 (F_B 0).2.1 (F_B 0).2.2.1 ∈ lw_ok) (d : decode cc pc = .ok (.getfield idx, 3)) (kk : G (pc + 3) lv (.ref (a 0) :: st) (BW a b q0 q1 q2 g fs P (vl, tr, sl, x, y))) : G pc lv (.ref b :: st) (BW a b q0 q1 q2 g fs P (vl, tr, sl, x, y)) := gB_get K 0 hlink (by decide) rfl d kk
theorem gB_get_values (K : Cy l D g R_B cc nL dep ret ws0 Q G) {idx : Nat} (hlink : Cond.fieldLink R_B idx (F_B 1).1 (F_B 1).2.1 (F_B 1).2.2.1 ∈ lw_ok) (d : decode cc pc = .ok (.getfield idx, 3)) (kk : G (pc + 3) lv (.ref q0 :: st) (BW a b q0 q1 q2 g fs P (vl, tr, sl, x, y))) : G pc lv (.ref b :: st) (BW a b q0 q1 q2 g fs P (vl, tr, sl, x, y)) := gB_get K 1 hlink (by decide) rfl d kk
theorem gB_get_trail (K : Cy l D g R_B cc nL dep ret ws0 Q G) {idx : Nat} (hlink : Cond.fieldLink R_B idx (F_B 2).1 (F_B 2).2.1 (F_B 2).2.2.1 ∈ lw_ok) (d : decode cc pc = .ok (.getfield idx, 3)) (kk : G (pc + 3) lv (.ref q1 :: st) (BW a b q0 q1 q2 g fs P (vl, tr, sl, x, y))) : G pc lv (.ref b :: st) (BW a b q0 q1 q2 g fs P (vl, tr, sl, x, y)) := gB_get K 2 hlink (by decide) rfl d kk
theorem gB_get_length (K : Cy l D g R_B cc nL dep ret ws0 Q G) {idx : Nat} (hlink : Cond.fieldLink R_B idx (F_B 3).1 (F_B 3).2.1 (F_B 3).2.2.1 ∈ lw_ok) (d : decode cc pc = .ok (.getfield idx, 3)) (kk : G (pc + 3) lv (.int (x 0) :: st) (BW a b q0 q1 q2 g fs P (vl, tr, sl, x, y))) : G pc lv (.ref b :: st) (BW a b q0 q1 q2 g fs P (vl, tr, sl, x, y)) := gB_get K 3 hlink (by decide) rfl d kk
theorem gB_get_slacks (K : Cy l D g R_B cc nL dep ret ws0 Q G) {idx : Nat} (hlink : Cond.fieldLink R_B idx (F_B 4).1 (F_B 4).2.1 (F_B 4).2.2.1 ∈ lw_ok) (d : decode cc pc = .ok (.getfield idx, 3)) (kk : G (pc + 3) lv (.ref q2 :: st) (BW a b q0 q1 q2 g fs P (vl, tr, sl, x, y))) : G pc lv (.ref b :: st) (BW a b q0 q1 q2 g fs P (vl, tr, sl, x, y)) := gB_get K 4 hlink (by decide) rfl d kk
theorem gB_get_spent (K : Cy l D g R_B cc nL dep ret ws0 Q G) {idx : Nat} (hlink : Cond.fieldLink R_B idx (F_B 5).1 (F_B 5).2.1 (F_B 5).2.2.1 ∈ lw_ok) (d : decode cc pc = .ok (.getfield idx, 3)) (kk : G (pc + 3) lv (.long (y 0) :: st) (BW a b q0 q1 q2 g fs P (vl, tr, sl, x, y))) : G pc lv (.ref b :: st) (BW a b q0 q1 q2 g fs P (vl, tr, sl, x, y)) := gB_get K 5 hlink (by decide) rfl d kk
theorem gB_get_limit (K : Cy l D g R_B cc nL dep ret ws0 Q G) {idx : Nat} (hlink : Cond.fieldLink R_B idx (F_B 6).1 (F_B 6).2.1 (F_B 6).2.2.1 ∈ lw_ok) (d : decode cc pc = .ok (.getfield idx, 3)) (kk : G (pc + 3) lv (.long (y 1) :: st) (BW a b q0 q1 q2 g fs P (vl, tr, sl, x, y))) : G pc lv (.ref b :: st) (BW a b q0 q1 q2 g fs P (vl, tr, sl, x, y)) := gB_get K 6 hlink (by decide) rfl d kk
theorem gB_get_limited (K : Cy l D g R_B cc nL dep ret ws0 Q G) {idx : Nat} (hlink : Cond.fieldLink R_B idx (F_B 7).1 (F_B 7).2.1 (F_B 7).2.2.1 ∈ lw_ok) (d : decode cc pc = .ok (.getfield idx, 3)) (kk : G (pc + 3) lv (.int (x 1) :: st) (BW a b q0 q1 q2 g fs P (vl, tr, sl, x, y))) : G pc lv (.ref b :: st) (BW a b q0 q1 q2 g fs P (vl, tr, sl, x, y)) := gB_get K 7 hlink (by decide) rfl d kk
theorem gB_ald_values (K : Cy l D g R_B cc nL dep ret ws0 Q G) (j : Nat) {i : Int32} (hi : i = nI j) (hj : j < 17) (d : decode cc pc = .ok (.iaload, 1)) (kk : G (pc + 1) lv (.int (vl j) :: st) (BW a b q0 q1 q2 g fs P (vl, tr, sl, x, y))) : G pc lv (.int i :: .ref q0 :: st) (BW a b q0 q1 q2 g fs P (vl, tr, sl, x, y)) := g_iald K 1 j rfl hi hj d kk
theorem gB_ald_trail (K : Cy l D g R_B cc nL dep ret ws0 Q G) (j : Nat) {i : Int32} (hi : i = nI j) (hj : j < 16) (d : decode cc pc = .ok (.iaload, 1)) (kk : G (pc + 1) lv (.int (tr j) :: st) (BW a b q0 q1 q2 g fs P (vl, tr, sl, x, y))) : G pc lv (.int i :: .ref q1 :: st) (BW a b q0 q1 q2 g fs P (vl, tr, sl, x, y)) := g_iald K 2 j rfl hi hj d kk
theorem gB_ald_slacks (K : Cy l D g R_B cc nL dep ret ws0 Q G) (j : Nat) {i : Int32} (hi : i = nI j) (hj : j < 20) (d : decode cc pc = .ok (.laload, 1)) (kk : G (pc + 1) lv (.long (sl j) :: st) (BW a b q0 q1 q2 g fs P (vl, tr, sl, x, y))) : G pc lv (.int i :: .ref q2 :: st) (BW a b q0 q1 q2 g fs P (vl, tr, sl, x, y)) := g_lald K 3 j rfl hi hj d kk
theorem gB_put_length (K : Cy l D g R_B cc nL dep ret ws0 Q G) {idx : Nat} {v : Int32} (hlink : Cond.fieldLink R_B idx (F_B 3).1 (F_B 3).2.1 (F_B 3).2.2.1 ∈ lw_ok) (d : decode cc pc = .ok (.putfield idx, 3)) (kk : G (pc + 3) lv st (BW a b q0 q1 q2 g fs P (vl, tr, sl, upd x 0 v, y))) : G pc lv (.int v :: .ref b :: st) (BW a b q0 q1 q2 g fs P (vl, tr, sl, x, y)) := g_put K 0 (ci := 0) (k := 3) (ty := .int) i_B t_B_ok n_B rfl rfl (by decide) hlink rfl rfl rfl rfl (by decide : 3 < 9) d rfl kk
theorem gB_put_spent (K : Cy l D g R_B cc nL dep ret ws0 Q G) {idx : Nat} {v : Int64} (hlink : Cond.fieldLink R_B idx (F_B 5).1 (F_B 5).2.1 (F_B 5).2.2.1 ∈ lw_ok) (d : decode cc pc = .ok (.putfield idx, 3)) (kk : G (pc + 3) lv st (BW a b q0 q1 q2 g fs P (vl, tr, sl, x, vp_updL y 0 v))) : G pc lv (.long v :: .ref b :: st) (BW a b q0 q1 q2 g fs P (vl, tr, sl, x, y)) := g_put K 0 (ci := 0) (k := 5) (ty := .long) i_B t_B_ok n_B rfl rfl (by decide) hlink rfl rfl rfl rfl (by decide : 5 < 9) d rfl kk
theorem gB_put_limit (K : Cy l D g R_B cc nL dep ret ws0 Q G) {idx : Nat} {v : Int64} (hlink : Cond.fieldLink R_B idx (F_B 6).1 (F_B 6).2.1 (F_B 6).2.2.1 ∈ lw_ok) (d : decode cc pc = .ok (.putfield idx, 3)) (kk : G (pc + 3) lv st (BW a b q0 q1 q2 g fs P (vl, tr, sl, x, vp_updL y 1 v))) : G pc lv (.long v :: .ref b :: st) (BW a b q0 q1 q2 g fs P (vl, tr, sl, x, y)) := g_put K 0 (ci := 0) (k := 6) (ty := .long) i_B t_B_ok n_B rfl rfl (by decide) hlink rfl rfl rfl rfl (by decide : 6 < 9) d rfl kk
theorem gB_put_limited (K : Cy l D g R_B cc nL dep ret ws0 Q G) {idx : Nat} (v : Bool) {w : Int32} (hw : w = bZ v) (hlink : Cond.fieldLink R_B idx (F_B 7).1 (F_B 7).2.1 (F_B 7).2.2.1 ∈ lw_ok) (d : decode cc pc = .ok (.putfield idx, 3)) (kk : G (pc + 3) lv st (BW a b q0 q1 q2 g fs P (vl, tr, sl, upd x 1 (bZ v), y))) : G pc lv (.int w :: .ref b :: st) (BW a b q0 q1 q2 g fs P (vl, tr, sl, x, y)) := by
  subst hw
  exact g_put K 0 (ci := 0) (k := 7) (ty := .boolean) i_B t_B_ok n_B rfl rfl (by decide) hlink rfl rfl (bZ_nar v) (bZ_fit v) (by decide : 7 < 9) d rfl kk
theorem gB_ast_values (K : Cy l D g R_B cc nL dep ret ws0 Q G) (j : Nat) {i v : Int32} (hi : i = nI j) (hj : j < 17) (d : decode cc pc = .ok (.iastore, 1)) (kk : G (pc + 1) lv st (BW a b q0 q1 q2 g fs P (upd vl j v, tr, sl, x, y))) : G pc lv (.int v :: .int i :: .ref q0 :: st) (BW a b q0 q1 q2 g fs P (vl, tr, sl, x, y)) := g_iast K 1 j rfl hi hj d rfl kk
theorem gB_ast_trail (K : Cy l D g R_B cc nL dep ret ws0 Q G) (j : Nat) {i v : Int32} (hi : i = nI j) (hj : j < 16) (d : decode cc pc = .ok (.iastore, 1)) (kk : G (pc + 1) lv st (BW a b q0 q1 q2 g fs P (vl, upd tr j v, sl, x, y))) : G pc lv (.int v :: .int i :: .ref q1 :: st) (BW a b q0 q1 q2 g fs P (vl, tr, sl, x, y)) := g_iast K 2 j rfl hi hj d rfl kk
theorem gB_ast_slacks (K : Cy l D g R_B cc nL dep ret ws0 Q G) (j : Nat) {i : Int32} {v : Int64} (hi : i = nI j) (hj : j < 20) (d : decode cc pc = .ok (.lastore, 1)) (kk : G (pc + 1) lv st (BW a b q0 q1 q2 g fs P (vl, tr, vp_updL sl j v, x, y))) : G pc lv (.long v :: .int i :: .ref q2 :: st) (BW a b q0 q1 q2 g fs P (vl, tr, sl, x, y)) := g_last K 3 j rfl hi hj d rfl kk
end WROWS
theorem cell_i {cA : ClassId} {n : Nat} {f f' : Nat → Int32} (h : ∀ j, j < n → f j = f' j) : vp_cell cA (n, .inl f) = vp_cell cA (n, .inl f') := by
  rw [vp_cell_i, vp_cell_i]
  unfold arrV
  congr 2
  funext j
  show Value.int (f j.1) = Value.int (f' j.1)
  rw [h j.1 j.2]
end
section
def bt (x : Int32) (i : Nat) : Bool := x.toBitVec.getLsbD i
theorem b_ext {x y : Int32} (h : ∀ i, i < 32 → bt x i = bt y i) : x = y := Int32.toBitVec_inj.mp (BitVec.eq_of_getLsbD_eq (fun i hi => h i hi))
theorem b_or (x y : Int32) (i : Nat) : bt (x ||| y) i = (bt x i || bt y i) := by unfold bt; rw [Int32.toBitVec_or, BitVec.getLsbD_or]
theorem b_and (x y : Int32) (i : Nat) : bt (x &&& y) i = (bt x i && bt y i) := by unfold bt; rw [Int32.toBitVec_and, BitVec.getLsbD_and]
theorem b_xor (x y : Int32) (i : Nat) : bt (x ^^^ y) i = (bt x i ^^ bt y i) := by unfold bt; rw [Int32.toBitVec_xor, BitVec.getLsbD_xor]
theorem b_big {x : Int32} {i : Nat} (h : 32 ≤ i) : bt x i = false := BitVec.getLsbD_of_ge _ _ h
theorem b_65535 (i : Nat) : bt 65535 i = decide (i < 16) := by
  rcases Nat.lt_or_ge i 32 with h | h
  · exact (by decide +kernel : ∀ i, i < 32 → bt 65535 i = decide (i < 16)) i h
  · rw [b_big h, decide_eq_false (by omega)]
theorem b_m1 : ∀ i, i < 32 → bt (-1) i = true := by decide +kernel
theorem b_0 (i : Nat) : bt 0 i = false := BitVec.getLsbD_zero
theorem s_l : ∀ n, n < 32 → ((nI n &&& 31).toBitVec.smod 32).toNat = n := by decide +kernel
theorem b_shl (n : Nat) (hn : n < 32) (x : Int32) {i : Nat} (hi : i < 32) : bt (x <<< (nI n &&& 31)) i = (decide (n ≤ i) && bt x (i - n)) := by
  unfold bt
  rw [Int32.toBitVec_shiftLeft]
  show (x.toBitVec <<< ((nI n &&& 31).toBitVec.smod 32).toNat).getLsbD i = _
  rw [s_l n hn, BitVec.getLsbD_shiftLeft]
  rcases Nat.lt_or_ge i n with h | h
  · simp [h, Nat.not_le.mpr h]
  · simp [hi, h, Nat.not_lt.mpr h]
theorem b_sshr (n : Nat) (hn : n < 32) (x : Int32) {i : Nat} (hi : i < 32) : bt (x >>> (nI n &&& 31)) i = if n + i < 32 then bt x (n + i) else bt x 31 := by
  unfold bt
  rw [Int32.toBitVec_shiftRight]
  show (x.toBitVec.sshiftRight ((nI n &&& 31).toBitVec.smod 32).toNat).getLsbD i = _
  rw [s_l n hn, BitVec.getLsbD_sshiftRight, BitVec.msb_eq_getLsbD_last]
  simp [hi]
/-! ===== sums, searches, any, over a stretch of places ===== -/
def sm (f : Nat → Int) : Nat → Nat → Int
  | _, 0 => 0
  | a, m + 1 => f a + sm f (a + 1) m
def an (f : Nat → Bool) : Nat → Nat → Bool
  | _, 0 => false
  | a, m + 1 => f a || an f (a + 1) m
def fi (f : Nat → Option Int32) : Nat → Nat → Option Int32
  | _, 0 => none
  | a, m + 1 => match f a with
    | some x => some x
    | none => fi f (a + 1) m
theorem sub_s {t e : Nat} (h : t < e) : e - t = (e - (t + 1)) + 1 := by omega
theorem sm_s {f : Nat → Int} {t e : Nat} (h : t < e) : sm f t (e - t) = f t + sm f (t + 1) (e - (t + 1)) := by rw [sub_s h]; rfl
theorem sm_e {f : Nat → Int} {t e : Nat} (h : e ≤ t) : sm f t (e - t) = 0 := by rw [Nat.sub_eq_zero_of_le h]; rfl
theorem an_s {f : Nat → Bool} {t e : Nat} (h : t < e) : an f t (e - t) = (f t || an f (t + 1) (e - (t + 1))) := by rw [sub_s h]; rfl
theorem an_e {f : Nat → Bool} {t e : Nat} (h : e ≤ t) : an f t (e - t) = false := by rw [Nat.sub_eq_zero_of_le h]; rfl
theorem fi_some {f : Nat → Option Int32} {t e : Nat} (h : t < e) {x : Int32} (hx : f t = some x) : fi f t (e - t) = some x := by rw [sub_s h]; simp [fi, hx]
theorem fi_none {f : Nat → Option Int32} {t e : Nat} (h : t < e) (hx : f t = none) : fi f t (e - t) = fi f (t + 1) (e - (t + 1)) := by rw [sub_s h]; simp [fi, hx]
theorem fi_e {f : Nat → Option Int32} {t e : Nat} (h : e ≤ t) : fi f t (e - t) = none := by rw [Nat.sub_eq_zero_of_le h]; rfl
theorem sm_ext {f f' : Nat → Int} : ∀ (m a : Nat), (∀ i, a ≤ i → i < a + m → f i = f' i) → sm f a m = sm f' a m
  | 0, _, _ => rfl
  | m + 1, a, h => by
    show f a + sm f (a + 1) m = f' a + sm f' (a + 1) m
    rw [h a (Nat.le_refl a) (by omega), sm_ext m (a + 1) (fun i h1 h2 => h i (by omega) (by omega))]
theorem sm_sub {f f' : Nat → Int} : ∀ (m a : Nat), sm (fun i => f i - f' i) a m = sm f a m - sm f' a m
  | 0, _ => rfl
  | m + 1, a => by
    show f a - f' a + sm (fun i => f i - f' i) (a + 1) m = f a + sm f (a + 1) m - (f' a + sm f' (a + 1) m)
    rw [sm_sub m (a + 1)]
    omega
theorem sm_pt {f f' : Nat → Int} {j : Nat} {d : Int} (hj : f' j = f j + d) (ho : ∀ i, i ≠ j → f' i = f i) : ∀ (m a : Nat), a ≤ j → j < a + m → sm f' a m = sm f a m + d
  | 0, a, h1, h2 => by omega
  | m + 1, a, h1, h2 => by
    show f' a + sm f' (a + 1) m = f a + sm f (a + 1) m + d
    by_cases h : a = j
    · subst h
      rw [hj, sm_ext m (a + 1) (f := f') (f' := f) (fun i h3 _ => ho i (by omega))]
      omega
    · rw [ho a h, sm_pt hj ho m (a + 1) (by omega) (by omega)]
      omega
theorem sm_bd {f : Nat → Int} {M : Int} : ∀ (m a : Nat), (∀ i, a ≤ i → i < a + m → 0 ≤ f i ∧ f i ≤ M) → 0 ≤ sm f a m ∧ sm f a m ≤ M * m
  | 0, _, _ => by simp [sm]
  | m + 1, a, h => by
    have h1 := h a (Nat.le_refl a) (by omega)
    have h2 := sm_bd m (a + 1) (fun i h3 h4 => h i (by omega) (by omega))
    show 0 ≤ f a + sm f (a + 1) m ∧ f a + sm f (a + 1) m ≤ M * ((m + 1 : Nat) : Int)
    rw [Int.natCast_succ, Int.mul_add]
    omega
theorem an_t {f : Nat → Bool} : ∀ (m a : Nat), an f a m = true ↔ ∃ i, a ≤ i ∧ i < a + m ∧ f i = true
  | 0, a => by simp [an]; omega
  | m + 1, a => by
    show (f a || an f (a + 1) m) = true ↔ _
    rw [Bool.or_eq_true, an_t m (a + 1)]
    constructor
    · rintro (h | ⟨i, h1, h2, h3⟩)
      · exact ⟨a, Nat.le_refl a, by omega, h⟩
      · exact ⟨i, by omega, by omega, h3⟩
    · rintro ⟨i, h1, h2, h3⟩
      by_cases h : i = a
      · subst h; exact Or.inl h3
      · exact Or.inr ⟨i, by omega, by omega, h3⟩
theorem fi_t {f : Nat → Option Int32} {x : Int32} : ∀ (m a : Nat), fi f a m = some x → ∃ i, a ≤ i ∧ i < a + m ∧ f i = some x
  | 0, a, h => by cases h
  | m + 1, a, h => by
    have h' : (match f a with | some x => some x | none => fi f (a + 1) m) = some x := h
    cases hf : f a with
    | some y =>
      rw [hf] at h'
      exact ⟨a, Nat.le_refl a, by omega, hf.trans h'⟩
    | none =>
      rw [hf] at h'
      obtain ⟨i, h1, h2, h3⟩ := fi_t m (a + 1) h'
      exact ⟨i, by omega, by omega, h3⟩
theorem fi_n {f : Nat → Option Int32} : ∀ (m a : Nat), fi f a m = none → ∀ i, a ≤ i → i < a + m → f i = none
  | 0, a, _, i, h1, h2 => by omega
  | m + 1, a, h, i, h1, h2 => by
    have h' : (match f a with | some x => some x | none => fi f (a + 1) m) = none := h
    cases hf : f a with
    | some y => rw [hf] at h'; cases h'
    | none =>
      rw [hf] at h'
      by_cases hi : i = a
      · subst hi; exact hf
      · exact fi_n m (a + 1) h' i (by omega) (by omega)
/-! ===== Int32, Int64 as integers ===== -/
theorem i_lt {x y : Int32} : x < y ↔ x.toInt < y.toInt := Int32.lt_iff_toInt_lt
theorem i_le {x y : Int32} : x ≤ y ↔ x.toInt ≤ y.toInt := Int32.le_iff_toInt_le
theorem i_ne {x y : Int32} : x = y ↔ x.toInt = y.toInt := Int32.toInt_inj.symm
theorem i_of {z : Int} (h1 : -2147483648 ≤ z) (h2 : z < 2147483648) : (Int32.ofInt z).toInt = z := Int32.toInt_ofInt_of_le h1 h2
theorem l_of {z : Int} (h1 : -9223372036854775808 ≤ z) (h2 : z < 9223372036854775808) : (Int64.ofInt z).toInt = z := Int64.toInt_ofInt_of_le h1 h2
theorem i_bd (x : Int32) : -2147483648 ≤ x.toInt ∧ x.toInt < 2147483648 := ⟨x.le_toInt, x.toInt_lt⟩
theorem i_0 : (0 : Int32).toInt = 0 := rfl
theorem i_m1 : (-1 : Int32).toInt = -1 := rfl
theorem i_1 : (1 : Int32).toInt = 1 := rfl
theorem i_2 : (2 : Int32).toInt = 2 := rfl
theorem nI_ofInt (n : Nat) : nI n = Int32.ofInt n := Int32.ofInt_eq_ofNat.symm
theorem nI_sub1 {v : Nat} (h : 1 ≤ v) : nI v - 1 = nI (v - 1) := by
  obtain ⟨w, rfl⟩ : ∃ w, v = w + 1 := ⟨v - 1, by omega⟩
  exact nI_pred w
theorem nI_inj {a b : Nat} (ha : a < 2 ^ 31) (hb : b < 2 ^ 31) (h : nI a = nI b) : a = b := (nI_eq ha hb).mp h
theorem i_neg {x : Int32} (h : x.toInt ≠ -2147483648) : (-x).toInt = -x.toInt := by
  have := i_bd x
  rw [← Int32.ofInt_toInt x, ← Int32.ofInt_neg, i_of (by omega) (by omega), Int32.ofInt_toInt]
theorem i_add {x y : Int32} (h1 : -2147483648 ≤ x.toInt + y.toInt) (h2 : x.toInt + y.toInt < 2147483648) : (x + y).toInt = x.toInt + y.toInt := by
  rw [← Int32.ofInt_toInt x, ← Int32.ofInt_toInt y, ← Int32.ofInt_add, i_of (by simpa using h1) (by simpa using h2), Int32.ofInt_toInt, Int32.ofInt_toInt]
theorem i_sub {x y : Int32} (h1 : -2147483648 ≤ x.toInt - y.toInt) (h2 : x.toInt - y.toInt < 2147483648) : (x - y).toInt = x.toInt - y.toInt := by
  rw [← Int32.ofInt_toInt x, ← Int32.ofInt_toInt y, ← Int32.ofInt_sub, i_of (by simpa using h1) (by simpa using h2), Int32.ofInt_toInt, Int32.ofInt_toInt]
theorem l_sub {x y : Int64} (h1 : -9223372036854775808 ≤ x.toInt - y.toInt) (h2 : x.toInt - y.toInt < 9223372036854775808) : (x - y).toInt = x.toInt - y.toInt := by
  rw [← Int64.ofInt_toInt x, ← Int64.ofInt_toInt y, ← Int64.ofInt_sub, l_of (by simpa using h1) (by simpa using h2), Int64.ofInt_toInt, Int64.ofInt_toInt]
theorem l_ext (x : Int32) : x.toInt64.toInt = x.toInt := Int32.toInt_toInt64 x
theorem cmp_lt (x y : Int64) : lg_cmp x y < 0 ↔ x.toInt < y.toInt := by
  unfold lg_cmp
  simp only [gt_iff_lt, Int64.lt_iff_toInt_lt, ← Int64.toInt_inj]
  repeat' split
  · constructor
    · intro h; exact absurd h (by decide)
    · intro h; omega
  · constructor
    · intro h; exact absurd h (by decide)
    · intro h; omega
  · constructor
    · intro h; omega
    · intro h; decide
theorem cmp_le (x y : Int64) : lg_cmp x y ≤ 0 ↔ x.toInt ≤ y.toInt := by
  unfold lg_cmp
  simp only [gt_iff_lt, Int64.lt_iff_toInt_lt, ← Int64.toInt_inj]
  repeat' split
  · constructor
    · intro h; exact absurd h (by decide)
    · intro h; omega
  · constructor
    · intro h; omega
    · intro h; decide
  · constructor
    · intro h; omega
    · intro h; decide
theorem cmp_ge (x y : Int64) : 0 ≤ lg_cmp x y ↔ y.toInt ≤ x.toInt := by
  unfold lg_cmp
  simp only [gt_iff_lt, Int64.lt_iff_toInt_lt, ← Int64.toInt_inj]
  repeat' split
  · constructor
    · intro h; omega
    · intro h; decide
  · constructor
    · intro h; omega
    · intro h; decide
  · constructor
    · intro h; exact absurd h (by decide)
    · intro h; omega
theorem cmp_eq (x y : Int64) : lg_cmp x y = 0 ↔ x.toInt = y.toInt := by
  unfold lg_cmp
  simp only [gt_iff_lt, Int64.lt_iff_toInt_lt, ← Int64.toInt_inj]
  repeat' split
  · constructor
    · intro h; exact absurd h (by decide)
    · intro h; omega
  · constructor
    · intro h; omega
    · intro h; decide
  · constructor
    · intro h; exact absurd h (by decide)
    · intro h; omega
/-! ===== the problem, and an assignment's slacks ===== -/
def stn (P : Nat → Nat → Int32) (c : Nat) : Nat := (P 1 c).toNatClampNeg
def vx (l : Int32) : Nat := l.toInt.natAbs
def fals (vl : Nat → Int32) (l : Int32) : Bool := if 0 < l.toInt then decide (vl (vx l) = 0) else decide (vl (vx l) = 1)
def skf (P : Nat → Nat → Int32) (vl : Nat → Int32) (t : Nat) : Int := if fals vl (P 4 t) = true then 0 else (P 3 t).toInt
def sk (P : Nat → Nat → Int32) (vl : Nat → Int32) (c : Nat) : Int := -(P 2 c).toInt + sm (skf P vl) (stn P c) (stn P (c + 1) - stn P c)
def spf (P : Nat → Nat → Int32) (vl : Nat → Int32) (v : Nat) : Int := if vl v = 1 then (P 0 v).toInt else 0
def sp (P : Nat → Nat → Int32) (vl : Nat → Int32) : Int := sm (spf P vl) 1 16
def lmb (lim : Option Int) (z : Int) : Bool := match lim with
  | none => false
  | some L => decide (L - z < 0)
def brk (P : Nat → Nat → Int32) (n : Nat) (lim : Option Int) (vl : Nat → Int32) : Bool := lmb lim (sp P vl) || an (fun c => decide (sk P vl c < 0)) 0 n
def frT (P : Nat → Nat → Int32) (vl : Nat → Int32) (c t : Nat) : Option Int32 := if vl (vx (P 4 t)) = -1 ∧ sk P vl c < (P 3 t).toInt then some (P 4 t) else none
def frC (P : Nat → Nat → Int32) (vl : Nat → Int32) (c : Nat) : Option Int32 := fi (frT P vl c) (stn P c) (stn P (c + 1) - stn P c)
def frV (P : Nat → Nat → Int32) (L : Int) (vl : Nat → Int32) (v : Nat) : Option Int32 := if vl v = -1 ∧ 0 < (P 0 v).toInt ∧ L - sp P vl < (P 0 v).toInt then some (-nI v) else none
def frL (P : Nat → Nat → Int32) (lim : Option Int) (vl : Nat → Int32) : Int32 := match lim with
  | none => 0
  | some L => (fi (frV P L vl) 1 16).getD 0
def frc (P : Nat → Nat → Int32) (n : Nat) (lim : Option Int) (vl : Nat → Int32) : Int32 := match fi (frC P vl) 0 n with
  | some x => x
  | none => frL P lim vl
def fof (vl : Nat → Int32) (v : Nat) : Option Int32 := if vl v = -1 then some (nI v) else none
def fop (vl : Nat → Int32) : Int32 := (fi (fof vl) 1 16).getD 0
def PWF (P : Nat → Nat → Int32) (n k : Nat) : Prop :=
  n ≤ 20 ∧ k ≤ 120 ∧ (∀ c, c ≤ n → P 1 c = nI (stn P c) ∧ stn P c ≤ k) ∧ (∀ v, v ≤ 16 → 0 ≤ (P 0 v).toInt ∧ (P 0 v).toInt ≤ 32767) ∧ (∀ c, c < n → 0 ≤ (P 2 c).toInt ∧ (P 2 c).toInt ≤ 1073741824) ∧
  (∀ t, t < k → (1 ≤ (P 3 t).toInt ∧ (P 3 t).toInt ≤ 32767) ∧ 1 ≤ vx (P 4 t) ∧ vx (P 4 t) ≤ 16)
/-- -1: open; 0, 1: set -/
def VI (vl : Nat → Int32) : Prop := (∀ v, vl v = -1 ∨ vl v = 0 ∨ vl v = 1) ∧ ∀ v, v = 0 ∨ 16 < v → vl v = -1
theorem sk_bd {P : Nat → Nat → Int32} {n k : Nat} (h : PWF P n k) (vl : Nat → Int32) {c : Nat} (hc : c < n) : -1073741824 ≤ sk P vl c ∧ sk P vl c ≤ 3932040 := by
  obtain ⟨h1, h2, h3, h4, h5, h6⟩ := h
  have hb := h5 c hc
  have hs := (h3 (c + 1) hc).2
  have hm := sm_bd (f := skf P vl) (M := 32767) (stn P (c + 1) - stn P c) (stn P c) (fun i h7 h8 => by
    have := (h6 i (by omega)).1
    unfold skf
    split <;> omega)
  unfold sk
  omega
theorem sp_bd {P : Nat → Nat → Int32} {n k : Nat} (h : PWF P n k) (vl : Nat → Int32) : 0 ≤ sp P vl ∧ sp P vl ≤ 524272 := by
  obtain ⟨h1, h2, h3, h4, h5, h6⟩ := h
  have hm := sm_bd (f := spf P vl) (M := 32767) 16 1 (fun i h7 h8 => by
    have := h4 i (by omega)
    unfold spf
    split <;> omega)
  unfold sp
  omega
theorem vx_nI {v : Nat} (h : v < 2 ^ 31) : vx (nI v) = v := by unfold vx; rw [nI_toInt h]; rfl
theorem vx_neg {v : Nat} (h : v < 2 ^ 31) : vx (-nI v) = v := by
  unfold vx
  rw [sb_negT h]
  omega
theorem lit_pos {l : Int32} {v : Nat} (hv : vx l = v) (h : 0 < l.toInt) : l = nI v := by
  have hb := i_bd l
  unfold vx at hv
  rw [i_ne, nI_toInt (by omega)]
  omega
theorem lit_neg {l : Int32} {v : Nat} (hv : vx l = v) (h16 : v ≤ 16) (h : ¬ 0 < l.toInt) : l = -nI v := by
  unfold vx at hv
  rw [i_ne, sb_negT (by omega)]
  omega
theorem lit_abs {l : Int32} (h : vx l ≤ 16) : (if 0 ≤ l then l else 0 - l) = nI (vx l) := by
  have hb := i_bd l
  by_cases h0 : 0 ≤ l
  · rw [if_pos h0, i_ne, nI_toInt (by omega)]
    rw [i_le, i_0] at h0
    unfold vx
    omega
  · rw [if_neg h0, Int32.zero_sub]
    rw [i_le, i_0] at h0
    unfold vx at *
    rw [i_ne, i_neg (by omega), nI_toInt (by omega)]
    omega
theorem lit_neg' {l : Int32} (h : vx l ≤ 16) (h0 : ¬ 0 ≤ l) : -l = nI (vx l) := by
  have := lit_abs h
  rw [if_neg h0, Int32.zero_sub] at this
  exact this
theorem lit_pos' {l : Int32} (h : vx l ≤ 16) (h0 : 0 ≤ l) : l = nI (vx l) := by
  have := lit_abs h
  rwa [if_pos h0] at this
theorem upd_s {f : Nat → Int32} {k : Nat} {x : Int32} : upd f k x k = x := pk_us
theorem upd_n {f : Nat → Int32} {k j : Nat} {x : Int32} (h : j ≠ k) : upd f k x j = f j := pk_un h
theorem upd_id {f : Nat → Int32} {k : Nat} {x : Int32} (h : f k = x) : upd f k x = f := by
  funext j
  by_cases hj : j = k
  · subst hj; rw [upd_s, h]
  · rw [upd_n hj]
theorem upd_u {f : Nat → Int32} {k : Nat} {x y : Int32} : upd (upd f k x) k y = upd f k y := by
  funext j
  by_cases hj : j = k
  · subst hj; rw [upd_s, upd_s]
  · rw [upd_n hj, upd_n hj, upd_n hj]
/-- what the terms of one literal weigh in a constraint -/
def wsf (P : Nat → Nat → Int32) (L : Int32) (t : Nat) : Int := if P 4 t = L then (P 3 t).toInt else 0
def wsm (P : Nat → Nat → Int32) (L : Int32) (c : Nat) : Int := sm (wsf P L) (stn P c) (stn P (c + 1) - stn P c)
def flt (v : Nat) (x : Int32) : Int32 := if x = 1 then -nI v else nI v
theorem skf_set {P : Nat → Nat → Int32} {n k : Nat} (h : PWF P n k) {vl : Nat → Int32} {v : Nat} (hv : 1 ≤ v ∧ v ≤ 16) (ho : vl v = -1) {x : Int32} (hx : x = 0 ∨ x = 1) {t : Nat} (ht : t < k) : skf P (upd vl v x) t = skf P vl t - wsf P (flt v x) t := by
  have h6 := (h.2.2.2.2.2 t ht).2
  unfold skf wsf flt
  generalize P 4 t = lit at h6 ⊢
  by_cases hw : vx lit = v
  · have e1 : fals vl lit = false := by
      unfold fals
      rw [hw, ho]
      split <;> decide
    rw [e1]
    unfold fals
    rw [hw, upd_s]
    by_cases hp : 0 < lit.toInt
    · have e2 := lit_pos hw hp
      rw [if_pos hp]
      rcases hx with rfl | rfl
      · rw [if_neg (by decide : ¬ (0 : Int32) = 1)]
        simp [e2]
      · have e3 : ¬ lit = -nI v := by rw [e2, i_ne, sb_negT (by omega), nI_toInt (by omega)]; omega
        simp [e3]
    · have e2 := lit_neg hw (by omega) hp
      rw [if_neg hp]
      rcases hx with rfl | rfl
      · have e3 : ¬ lit = nI v := by rw [e2, i_ne, sb_negT (by omega), nI_toInt (by omega)]; omega
        rw [if_neg (by decide : ¬ (0 : Int32) = 1)]
        simp [e3]
      · simp [e2]
  · have e1 : fals (upd vl v x) lit = fals vl lit := by
      unfold fals
      rw [upd_n hw]
    have e2 : ¬ lit = (if x = 1 then -nI v else nI v) := by
      intro e
      apply hw
      rw [e]
      split
      · exact vx_neg (by omega)
      · exact vx_nI (by omega)
    rw [e1, if_neg e2]
    omega
theorem sk_set {P : Nat → Nat → Int32} {n k : Nat} (h : PWF P n k) {vl : Nat → Int32} {v : Nat} (hv : 1 ≤ v ∧ v ≤ 16) (ho : vl v = -1) {x : Int32} (hx : x = 0 ∨ x = 1) {c : Nat} (hc : c < n) : sk P (upd vl v x) c = sk P vl c - wsm P (flt v x) c := by
  have hs := (h.2.2.1 (c + 1) hc).2
  unfold sk wsm
  rw [sm_ext _ _ (fun i h1 h2 => skf_set h hv ho hx (t := i) (by omega)), sm_sub]
  omega
theorem sp_set {P : Nat → Nat → Int32} {vl : Nat → Int32} {v : Nat} (hv : 1 ≤ v ∧ v ≤ 16) (ho : vl v = -1) {x : Int32} : sp P (upd vl v x) = sp P vl + (if x = 1 then (P 0 v).toInt else 0) := by
  unfold sp
  refine sm_pt (j := v) ?_ (fun i hi => ?_) 16 1 (by omega) (by omega)
  · unfold spf
    rw [upd_s, ho, if_neg (by decide : ¬ (-1 : Int32) = 1)]
    omega
  · unfold spf
    rw [upd_n hi]
/-- how many are set -/
def cnf (vl : Nat → Int32) (v : Nat) : Int := if vl v = -1 then 0 else 1
def cn (vl : Nat → Int32) : Int := sm (cnf vl) 1 16
theorem cn_bd (vl : Nat → Int32) : 0 ≤ cn vl ∧ cn vl ≤ 16 := by
  have hm := sm_bd (f := cnf vl) (M := 1) 16 1 (fun i h7 h8 => by unfold cnf; split <;> omega)
  unfold cn
  omega
theorem cn_set {vl : Nat → Int32} {v : Nat} (hv : 1 ≤ v ∧ v ≤ 16) (ho : vl v = -1) {x : Int32} (hx : ¬ x = -1) : cn (upd vl v x) = cn vl + 1 := by
  unfold cn
  refine sm_pt (j := v) ?_ (fun i hi => ?_) 16 1 (by omega) (by omega)
  · unfold cnf
    rw [upd_s, ho, if_neg hx]
    rfl
  · unfold cnf
    rw [upd_n hi]
theorem cn_open {vl : Nat → Int32} {v : Nat} (hv : 1 ≤ v ∧ v ≤ 16) (ho : vl v = -1) : cn vl ≤ 15 := by
  have h1 := cn_set (x := 0) hv ho (by decide)
  have h2 := cn_bd (upd vl v 0)
  omega
theorem cn_unset {vl : Nat → Int32} {v : Nat} (hv : 1 ≤ v ∧ v ≤ 16) (ho : ¬ vl v = -1) : cn (upd vl v (-1)) = cn vl - 1 := by
  have h1 := cn_set (vl := upd vl v (-1)) (x := vl v) hv upd_s ho
  rw [upd_u, upd_id rfl] at h1
  omega
theorem cn_all {vl : Nat → Int32} (h : ∀ v, 1 ≤ v → v ≤ 16 → ¬ vl v = -1) : cn vl = 16 := by
  unfold cn
  rw [sm_ext 16 1 (f' := fun _ => 1) (fun i h1 h2 => by unfold cnf; rw [if_neg (h i h1 (by omega))])]
  rfl
theorem fop_cases (vl : Nat → Int32) : (fop vl = 0 ∧ (∀ v, 1 ≤ v → v ≤ 16 → ¬ vl v = -1)) ∨ ∃ v, 1 ≤ v ∧ v ≤ 16 ∧ vl v = -1 ∧ fop vl = nI v := by
  unfold fop
  cases h : fi (fof vl) 1 16 with
  | none =>
    refine Or.inl ⟨rfl, fun v h1 h2 h3 => ?_⟩
    have := fi_n 16 1 h v h1 (by omega)
    unfold fof at this
    rw [if_pos h3] at this
    cases this
  | some x =>
    obtain ⟨i, h1, h2, h3⟩ := fi_t 16 1 h
    unfold fof at h3
    split at h3
    · rename_i h4
      cases h3
      exact Or.inr ⟨i, h1, by omega, h4, rfl⟩
    · cases h3
theorem frc_open {P : Nat → Nat → Int32} {n k : Nat} (h : PWF P n k) {lim : Option Int} {vl : Nat → Int32} (hf : ¬ frc P n lim vl = 0) : 1 ≤ vx (frc P n lim vl) ∧ vx (frc P n lim vl) ≤ 16 ∧ vl (vx (frc P n lim vl)) = -1 := by
  unfold frc at hf ⊢
  cases h1 : fi (frC P vl) 0 n with
  | some x =>
    obtain ⟨c, c1, c2, c3⟩ := fi_t n 0 h1
    obtain ⟨t, t1, t2, t3⟩ := fi_t _ _ c3
    have hs := (h.2.2.1 (c + 1) (by omega)).2
    unfold frT at t3
    split at t3
    · rename_i h4
      cases t3
      have := (h.2.2.2.2.2 t (by omega)).2
      exact ⟨this.1, this.2, h4.1⟩
    · cases t3
  | none =>
    rw [h1] at hf
    cases lim with
    | none => exact absurd rfl hf
    | some L =>
      have hf2 : ¬ (fi (frV P L vl) 1 16).getD 0 = 0 := hf
      show 1 ≤ vx ((fi (frV P L vl) 1 16).getD 0) ∧ vx ((fi (frV P L vl) 1 16).getD 0) ≤ 16 ∧ vl (vx ((fi (frV P L vl) 1 16).getD 0)) = -1
      cases h2 : fi (frV P L vl) 1 16 with
      | none => rw [h2] at hf2; exact absurd rfl hf2
      | some x =>
        obtain ⟨v, v1, v2, v3⟩ := fi_t 16 1 h2
        unfold frV at v3
        split at v3
        · rename_i h4
          cases v3
          show 1 ≤ vx (-nI v) ∧ vx (-nI v) ≤ 16 ∧ vl (vx (-nI v)) = -1
          rw [vx_neg (by omega)]
          exact ⟨v1, by omega, h4.1⟩
        · cases v3
/-! ===== assignments as two sets of bits ===== -/
def MB2 (s o : Int32) (vl : Nat → Int32) : Prop := ∀ i, i < 32 → bt s i = decide (¬ vl (i + 1) = -1) ∧ bt o i = decide (vl (i + 1) = 1)
theorem b_1 (i : Nat) : bt 1 i = decide (i = 0) := by
  rcases Nat.lt_or_ge i 32 with h | h
  · exact (by decide +kernel : ∀ i, i < 32 → bt 1 i = decide (i = 0)) i h
  · rw [b_big h, decide_eq_false (by omega)]
theorem bit_is (x : Int32) {v : Nat} (h1 : 1 ≤ v) (h2 : v ≤ 32) : (x >>> ((nI v - 1) &&& 31)) &&& 1 = bZ (bt x (v - 1)) := by
  rw [nI_sub1 h1]
  apply b_ext
  intro i hi
  rw [b_and, b_1, b_sshr (v - 1) (by omega) x hi]
  by_cases h0 : i = 0
  · subst h0
    rw [if_pos (by omega)]
    show (bt x (v - 1) && true) = bt (bZ (bt x (v - 1))) 0
    rw [Bool.and_true]
    cases bt x (v - 1) <;> decide +kernel
  · have e : ∀ b : Bool, bt (bZ b) i = false := by
      intro b
      cases b
      · exact b_0 i
      · show bt 1 i = false
        rw [b_1, decide_eq_false h0]
    rw [e, decide_eq_false h0, Bool.and_false]
theorem bit_1 {v : Nat} (h1 : 1 ≤ v) (h2 : v ≤ 32) {i : Nat} (hi : i < 32) : bt ((1 : Int32) <<< ((nI v - 1) &&& 31)) i = decide (i + 1 = v) := by
  rw [nI_sub1 h1, b_shl (v - 1) (by omega) 1 hi, b_1]
  by_cases h : i + 1 = v
  · rw [decide_eq_true h, decide_eq_true (by omega), decide_eq_true (by omega)]; rfl
  · rw [decide_eq_false h]
    by_cases h3 : v - 1 ≤ i
    · rw [decide_eq_false (by omega : ¬ i - (v - 1) = 0), Bool.and_false]
    · rw [decide_eq_false h3, Bool.false_and]
theorem bit_or {x : Int32} {v : Nat} (h1 : 1 ≤ v) (h2 : v ≤ 32) {i : Nat} (hi : i < 32) : bt (x ||| ((1 : Int32) <<< ((nI v - 1) &&& 31))) i = if i + 1 = v then true else bt x i := by
  rw [b_or, bit_1 h1 h2 hi]
  by_cases h : i + 1 = v
  · rw [decide_eq_true h, if_pos h, Bool.or_true]
  · rw [decide_eq_false h, if_neg h, Bool.or_false]
theorem bit_off {x : Int32} {v : Nat} (h1 : 1 ≤ v) (h2 : v ≤ 32) {i : Nat} (hi : i < 32) : bt (x &&& (((1 : Int32) <<< ((nI v - 1) &&& 31)) ^^^ (-1))) i = if i + 1 = v then false else bt x i := by
  rw [b_and, b_xor, bit_1 h1 h2 hi, b_m1 i hi]
  by_cases h : i + 1 = v
  · rw [decide_eq_true h, if_pos h]; simp
  · rw [decide_eq_false h, if_neg h]; simp
theorem mb_one {s o : Int32} {vl : Nat → Int32} (h : MB2 s o vl) {v : Nat} (h1 : 1 ≤ v) (h2 : v ≤ 32) : MB2 (s ||| ((1 : Int32) <<< ((nI v - 1) &&& 31))) (o ||| ((1 : Int32) <<< ((nI v - 1) &&& 31))) (upd vl v 1) := by
  intro i hi
  rw [bit_or h1 h2 hi, bit_or h1 h2 hi]
  by_cases e : i + 1 = v
  · rw [if_pos e, if_pos e, e, upd_s]; decide
  · rw [if_neg e, if_neg e, upd_n e]; exact h i hi
theorem mb_zero {s o : Int32} {vl : Nat → Int32} (h : MB2 s o vl) {v : Nat} (h1 : 1 ≤ v) (h2 : v ≤ 32) : MB2 (s ||| ((1 : Int32) <<< ((nI v - 1) &&& 31))) (o &&& (((1 : Int32) <<< ((nI v - 1) &&& 31)) ^^^ (-1))) (upd vl v 0) := by
  intro i hi
  rw [bit_or h1 h2 hi, bit_off h1 h2 hi]
  by_cases e : i + 1 = v
  · rw [if_pos e, if_pos e, e, upd_s]; decide
  · rw [if_neg e, if_neg e, upd_n e]; exact h i hi
theorem mb_none {s o : Int32} {vl : Nat → Int32} (h : MB2 s o vl) {v : Nat} (h1 : 1 ≤ v) (h2 : v ≤ 32) : MB2 (s &&& (((1 : Int32) <<< ((nI v - 1) &&& 31)) ^^^ (-1))) (o &&& (((1 : Int32) <<< ((nI v - 1) &&& 31)) ^^^ (-1))) (upd vl v (-1)) := by
  intro i hi
  rw [bit_off h1 h2 hi, bit_off h1 h2 hi]
  by_cases e : i + 1 = v
  · rw [if_pos e, if_pos e, e, upd_s]; decide
  · rw [if_neg e, if_neg e, upd_n e]; exact h i hi
end
section
theorem g_ri {G : GT} {pc : Nat} {lv : List (Nat × Value)} {st : List Value} {ws : va_W} {r : Int32} (k : G pc lv (.int r :: st) ws) : G pc lv ((some (Value.int r)).toList ++ st) ws := k
theorem g_rv {G : GT} {pc : Nat} {lv : List (Nat × Value)} {st : List Value} {ws : va_W} (k : G pc lv st ws) : G pc lv ((none : Option Value).toList ++ st) ws := k
/-- a call on the object's searching board -/
theorem g_callB0 {l : Launch} {D : va_G} {g : Nat → ClassId} {own : String} {cc : ByteArray} {nL dep : Nat} {ret : Option FieldType} {ws0 : va_W} {Q : Option Value → va_W → Prop} {G : GT} {pc : Nat} {lv : List (Nat × Value)} {st st0 : List Value} {a : Nat → Nat} {P : Nat → Nat → Int32} {I : Nat → Int32} {F : Nat → Nat → Int32} {B0 B1 : BS} (K : Cy l D g own cc nL dep ret ws0 Q G) {y : MethodName} {b : ByteArray} {n d2 idx : Nat} {r : Option FieldType} {As : List Value} {Q2 : Option Value → BS → Prop}
    (hC : Ct l D g y b n r d2 (.ref (a 6) :: As) (BW a (a 6) (a 7) (a 8) (a 9) g (CF a I) P B0) (fun v w => ∃ B, w = BW a (a 6) (a 7) (a 8) (a 9) g (CF a I) P B ∧ Q2 v B)) (hf : Mf y b n r R_B As.length) (him : Cond.instanceMethod y ∈ lw_ok) (hse : Cond.selects R_B y y ∈ lw_ok) (hml : Cond.methodLink own idx y ∈ lw_ok) (hdep : d2 + 1 ≤ dep) (hst : (st.map fun v => v.category).sum ≤ 8) (d : decode cc pc = .ok (.invokevirtual idx, 3))
    (kk : ∀ (v : Option Value) (B : BS), Q2 v B → G (pc + 3) lv (v.toList ++ st) (CW a g P I F B B1)) (hs0 : st0 = As.reverse ++ .ref (a 6) :: st) : G pc lv st0 (CW a g P I F B0 B1) := by
  refine g_callV (q0 := 0) (ci := 0) (C := R_B) (T := F_B) (N := 9) K hC hf him hse hml hdep rfl rfl [6, 7, 8, 9, 0, 1, 2, 3, 4, 5] [10, 11, 12, 13, 14, 15, 16, 17, 18, 19, 20] (by decide) rfl (by decide) hst d (fun v w1 hq _ => ?_) hs0
  obtain ⟨B, rfl, hq⟩ := hq
  exact ⟨CW a g P I F B B1, rfl, rfl, List.forall_mem_cons.mpr ⟨rfl, List.forall_mem_cons.mpr ⟨rfl, List.forall_mem_cons.mpr ⟨rfl, List.forall_mem_cons.mpr ⟨rfl, List.forall_mem_cons.mpr ⟨rfl, List.forall_mem_cons.mpr ⟨rfl, List.forall_mem_cons.mpr ⟨rfl, List.forall_mem_cons.mpr ⟨rfl, List.forall_mem_cons.mpr ⟨rfl, List.forall_mem_cons.mpr ⟨rfl, List.forall_mem_cons.mpr ⟨rfl, fun _ h => absurd h List.not_mem_nil⟩⟩⟩⟩⟩⟩⟩⟩⟩⟩⟩, (by decide : ∀ k, k < 21 → k ∈ [6, 7, 8, 9, 0, 1, 2, 3, 4, 5] ∨ k ∈ [10, 11, 12, 13, 14, 15, 16, 17, 18, 19, 20]), kk v B hq⟩
/-- a call on the object's checking board -/
theorem g_callB1 {l : Launch} {D : va_G} {g : Nat → ClassId} {own : String} {cc : ByteArray} {nL dep : Nat} {ret : Option FieldType} {ws0 : va_W} {Q : Option Value → va_W → Prop} {G : GT} {pc : Nat} {lv : List (Nat × Value)} {st st0 : List Value} {a : Nat → Nat} {P : Nat → Nat → Int32} {I : Nat → Int32} {F : Nat → Nat → Int32} {B0 B1 : BS} (K : Cy l D g own cc nL dep ret ws0 Q G) {y : MethodName} {b : ByteArray} {n d2 idx : Nat} {r : Option FieldType} {As : List Value} {Q2 : Option Value → BS → Prop}
    (hC : Ct l D g y b n r d2 (.ref (a 14) :: As) (BW a (a 14) (a 15) (a 16) (a 17) g (CF a I) P B1) (fun v w => ∃ B, w = BW a (a 14) (a 15) (a 16) (a 17) g (CF a I) P B ∧ Q2 v B)) (hf : Mf y b n r R_B As.length) (him : Cond.instanceMethod y ∈ lw_ok) (hse : Cond.selects R_B y y ∈ lw_ok) (hml : Cond.methodLink own idx y ∈ lw_ok) (hdep : d2 + 1 ≤ dep) (hst : (st.map fun v => v.category).sum ≤ 8) (d : decode cc pc = .ok (.invokevirtual idx, 3))
    (kk : ∀ (v : Option Value) (B : BS), Q2 v B → G (pc + 3) lv (v.toList ++ st) (CW a g P I F B0 B)) (hs0 : st0 = As.reverse ++ .ref (a 14) :: st) : G pc lv st0 (CW a g P I F B0 B1) := by
  refine g_callV (q0 := 0) (ci := 0) (C := R_B) (T := F_B) (N := 9) K hC hf him hse hml hdep rfl rfl [14, 15, 16, 17, 0, 1, 2, 3, 4, 5] [6, 7, 8, 9, 10, 11, 12, 13, 18, 19, 20] (by decide) rfl (by decide) hst d (fun v w1 hq _ => ?_) hs0
  obtain ⟨B, rfl, hq⟩ := hq
  exact ⟨CW a g P I F B0 B, rfl, rfl, List.forall_mem_cons.mpr ⟨rfl, List.forall_mem_cons.mpr ⟨rfl, List.forall_mem_cons.mpr ⟨rfl, List.forall_mem_cons.mpr ⟨rfl, List.forall_mem_cons.mpr ⟨rfl, List.forall_mem_cons.mpr ⟨rfl, List.forall_mem_cons.mpr ⟨rfl, List.forall_mem_cons.mpr ⟨rfl, List.forall_mem_cons.mpr ⟨rfl, List.forall_mem_cons.mpr ⟨rfl, List.forall_mem_cons.mpr ⟨rfl, fun _ h => absurd h List.not_mem_nil⟩⟩⟩⟩⟩⟩⟩⟩⟩⟩⟩, (by decide : ∀ k, k < 21 → k ∈ [14, 15, 16, 17, 0, 1, 2, 3, 4, 5] ∨ k ∈ [6, 7, 8, 9, 10, 11, 12, 13, 18, 19, 20]), kk v B hq⟩
theorem mf_C_setCost : Mf y_C_setCost b_C_setCost 3 (some .int) R_C 2 := ⟨k_C_setCost, ini_C, by decide, by decide +kernel⟩
theorem mf_C_isVariable : Mf y_C_isVariable b_C_isVariable 1 (some .boolean) R_C 1 := ⟨k_C_isVariable, ini_C, by decide, by decide +kernel⟩
theorem mf_C_term : Mf y_C_term b_C_term 5 (some .int) R_C 2 := ⟨k_C_term, ini_C, by decide, by decide +kernel⟩
theorem mf_C_end : Mf y_C_end b_C_end 2 (some .int) R_C 1 := ⟨k_C_end, ini_C, by decide, by decide +kernel⟩
theorem mf_C_run : Mf y_C_run b_C_run 3 (some .int) R_C 1 := ⟨k_C_run, ini_C, by decide, by decide +kernel⟩
theorem mf_B_begin : Mf y_B_begin b_B_begin 3 none R_B 0 := ⟨k_B_begin, ini_B, by decide, by decide +kernel⟩
theorem mf_C_step : Mf y_C_step b_C_step 4 none R_C 0 := ⟨k_C_step, ini_C, by decide, by decide +kernel⟩
theorem mf_B_isBroken : Mf y_B_isBroken b_B_isBroken 3 (some .boolean) R_B 0 := ⟨k_B_isBroken, ini_B, by decide, by decide +kernel⟩
theorem mf_C_write : Mf y_C_write b_C_write 2 (some .boolean) R_C 1 := ⟨k_C_write, ini_C, by decide, by decide +kernel⟩
theorem mf_C_turn : Mf y_C_turn b_C_turn 1 none R_C 0 := ⟨k_C_turn, ini_C, by decide, by decide +kernel⟩
theorem mf_B_back : Mf y_B_back b_B_back 3 none R_B 1 := ⟨k_B_back, ini_B, by decide, by decide +kernel⟩
theorem mf_B_weigh : Mf y_B_weigh b_B_weigh 5 none R_B 2 := ⟨k_B_weigh, ini_B, by decide, by decide +kernel⟩
theorem mf_B_set : Mf y_B_set b_B_set 3 none R_B 1 := ⟨k_B_set, ini_B, by decide, by decide +kernel⟩
theorem mf_B_forces : Mf y_B_forces b_B_forces 3 (some .int) R_B 0 := ⟨k_B_forces, ini_B, by decide, by decide +kernel⟩
theorem mf_B_isOpen : Mf y_B_isOpen b_B_isOpen 2 (some .boolean) R_B 1 := ⟨k_B_isOpen, ini_B, by decide, by decide +kernel⟩
theorem mf_B_firstOpen : Mf y_B_firstOpen b_B_firstOpen 2 (some .int) R_B 0 := ⟨k_B_firstOpen, ini_B, by decide, by decide +kernel⟩
theorem mf_B_limit : Mf y_B_limit b_B_limit 3 none R_B 1 := ⟨k_B_limit, ini_B, by decide, by decide +kernel⟩
theorem mf_C_optimum : Mf y_C_optimum b_C_optimum 1 (some .int) R_C 0 := ⟨k_C_optimum, ini_C, by decide, by decide +kernel⟩
theorem mf_C_value : Mf y_C_value b_C_value 2 (some .int) R_C 1 := ⟨k_C_value, ini_C, by decide, by decide +kernel⟩
theorem mf_C_logSize : Mf y_C_logSize b_C_logSize 1 (some .int) R_C 0 := ⟨k_C_logSize, ini_C, by decide, by decide +kernel⟩
theorem mf_C_logAt : Mf y_C_logAt b_C_logAt 2 (some .int) R_C 1 := ⟨k_C_logAt, ini_C, by decide, by decide +kernel⟩
theorem mf_C_steps : Mf y_C_steps b_C_steps 1 (some .int) R_C 0 := ⟨k_C_steps, ini_C, by decide, by decide +kernel⟩
theorem mf_C_poke : Mf y_C_poke b_C_poke 3 (some .int) R_C 2 := ⟨k_C_poke, ini_C, by decide, by decide +kernel⟩
theorem mf_C_anew : Mf y_C_anew b_C_anew 1 none R_C 0 := ⟨k_C_anew, ini_C, by decide, by decide +kernel⟩
theorem mf_C_cut : Mf y_C_cut b_C_cut 2 (some .int) R_C 1 := ⟨k_C_cut, ini_C, by decide, by decide +kernel⟩
theorem mf_C_check : Mf y_C_check b_C_check 3 (some .int) R_C 1 := ⟨k_C_check, ini_C, by decide, by decide +kernel⟩
theorem mf_C_begin : Mf y_C_begin b_C_begin 1 (some .boolean) R_C 0 := ⟨k_C_begin, ini_C, by decide, by decide +kernel⟩
theorem mf_C_holds : Mf y_C_holds b_C_holds 11 (some .boolean) R_C 2 := ⟨k_C_holds, ini_C, by decide, by decide +kernel⟩
theorem mf_C_settle : Mf y_C_settle b_C_settle 3 none R_C 1 := ⟨k_C_settle, ini_C, by decide, by decide +kernel⟩
theorem mf_C_word : Mf y_C_word b_C_word 2 (some .int) R_C 0 := ⟨k_C_word, ini_C, by decide, by decide +kernel⟩
theorem mf_C_close : Mf y_C_close b_C_close 2 (some .int) R_C 0 := ⟨k_C_close, ini_C, by decide, by decide +kernel⟩
theorem mf_C_side : Mf y_C_side b_C_side 5 none R_C 2 := ⟨k_C_side, ini_C, by decide, by decide +kernel⟩
theorem mf_M_setCost : Mf y_M_setCost b_M_setCost 3 (some .int) R_M 2 := ⟨k_M_setCost, ini_M, by decide, by decide +kernel⟩
theorem mf_M_isIn : Mf y_M_isIn b_M_isIn 3 (some .boolean) R_M 3 := ⟨k_M_isIn, ini_M, by decide, by decide +kernel⟩
theorem mf_M_term : Mf y_M_term b_M_term 6 (some .int) R_M 2 := ⟨k_M_term, ini_M, by decide, by decide +kernel⟩
theorem mf_M_end : Mf y_M_end b_M_end 2 (some .int) R_M 1 := ⟨k_M_end, ini_M, by decide, by decide +kernel⟩
theorem mf_M_run : Mf y_M_run b_M_run 3 (some .int) R_M 1 := ⟨k_M_run, ini_M, by decide, by decide +kernel⟩
theorem mf_M_step : Mf y_M_step b_M_step 4 none R_M 0 := ⟨k_M_step, ini_M, by decide, by decide +kernel⟩
theorem mf_M_isBroken : Mf y_M_isBroken b_M_isBroken 5 (some .boolean) R_M 2 := ⟨k_M_isBroken, ini_M, by decide, by decide +kernel⟩
theorem mf_M_cost : Mf y_M_cost b_M_cost 3 (some .int) R_M 0 := ⟨k_M_cost, ini_M, by decide, by decide +kernel⟩
theorem mf_M_isSet : Mf y_M_isSet b_M_isSet 2 (some .boolean) R_M 1 := ⟨k_M_isSet, ini_M, by decide, by decide +kernel⟩
theorem mf_M_isOne : Mf y_M_isOne b_M_isOne 2 (some .boolean) R_M 1 := ⟨k_M_isOne, ini_M, by decide, by decide +kernel⟩
theorem mf_M_slack : Mf y_M_slack b_M_slack 4 (some .int) R_M 1 := ⟨k_M_slack, ini_M, by decide, by decide +kernel⟩
theorem mf_M_isFalse : Mf y_M_isFalse b_M_isFalse 3 (some .boolean) R_M 1 := ⟨k_M_isFalse, ini_M, by decide, by decide +kernel⟩
theorem mf_M_goBack : Mf y_M_goBack b_M_goBack 3 none R_M 0 := ⟨k_M_goBack, ini_M, by decide, by decide +kernel⟩
theorem mf_M_write : Mf y_M_write b_M_write 2 (some .boolean) R_M 1 := ⟨k_M_write, ini_M, by decide, by decide +kernel⟩
theorem mf_M_lay : Mf y_M_lay b_M_lay 4 none R_M 3 := ⟨k_M_lay, ini_M, by decide, by decide +kernel⟩
theorem mf_M_put : Mf y_M_put b_M_put 3 none R_M 2 := ⟨k_M_put, ini_M, by decide, by decide +kernel⟩
theorem mf_M_forced : Mf y_M_forced b_M_forced 7 (some .int) R_M 2 := ⟨k_M_forced, ini_M, by decide, by decide +kernel⟩
theorem mf_M_optimum : Mf y_M_optimum b_M_optimum 1 (some .int) R_M 0 := ⟨k_M_optimum, ini_M, by decide, by decide +kernel⟩
theorem mf_M_value : Mf y_M_value b_M_value 2 (some .int) R_M 1 := ⟨k_M_value, ini_M, by decide, by decide +kernel⟩
theorem mf_M_logSize : Mf y_M_logSize b_M_logSize 1 (some .int) R_M 0 := ⟨k_M_logSize, ini_M, by decide, by decide +kernel⟩
theorem mf_M_logAt : Mf y_M_logAt b_M_logAt 2 (some .int) R_M 1 := ⟨k_M_logAt, ini_M, by decide, by decide +kernel⟩
theorem mf_M_poke : Mf y_M_poke b_M_poke 3 (some .int) R_M 2 := ⟨k_M_poke, ini_M, by decide, by decide +kernel⟩
theorem mf_M_anew : Mf y_M_anew b_M_anew 1 none R_M 0 := ⟨k_M_anew, ini_M, by decide, by decide +kernel⟩
theorem mf_M_cut : Mf y_M_cut b_M_cut 2 (some .int) R_M 1 := ⟨k_M_cut, ini_M, by decide, by decide +kernel⟩
theorem mf_M_check : Mf y_M_check b_M_check 3 (some .int) R_M 1 := ⟨k_M_check, ini_M, by decide, by decide +kernel⟩
theorem mf_M_look : Mf y_M_look b_M_look 2 none R_M 0 := ⟨k_M_look, ini_M, by decide, by decide +kernel⟩
theorem mf_M_word : Mf y_M_word b_M_word 8 none R_M 0 := ⟨k_M_word, ini_M, by decide, by decide +kernel⟩
theorem mf_M_hold : Mf y_M_hold b_M_hold 4 none R_M 3 := ⟨k_M_hold, ini_M, by decide, by decide +kernel⟩
theorem mf_M_steps : Mf y_M_steps b_M_steps 1 (some .int) R_M 0 := ⟨k_M_steps, ini_M, by decide, by decide +kernel⟩
end
section
theorem rz_t {p : Prop} [Decidable p] (h : p) : some (Value.int 1) = some (Value.int (bZ (decide p))) := by rw [decide_eq_true h]; rfl
theorem rz_f {p : Prop} [Decidable p] (h : ¬ p) : some (Value.int 0) = some (Value.int (bZ (decide p))) := by rw [decide_eq_false h]; rfl
theorem rb_t {b : Bool} (h : b = true) : some (Value.int 1) = some (Value.int (bZ b)) := by rw [h]; rfl
theorem rb_f {b : Bool} (h : b = false) : some (Value.int 0) = some (Value.int (bZ b)) := by rw [h]; rfl
theorem bZ_n1 {b : Bool} (h : ¬ bZ b = 1) : bZ b = 0 := by cases b <;> first | rfl | exact absurd rfl h
theorem mb_set {s o : Int32} {vl : Nat → Int32} (h : MB2 s o vl) {v : Nat} (h1 : 1 ≤ v) (h2 : v ≤ 32) : bt s (v - 1) = decide (¬ vl v = -1) := by
  have := (h (v - 1) (by omega)).1
  rwa [show v - 1 + 1 = v by omega] at this
theorem mb_is {s o : Int32} {vl : Nat → Int32} (h : MB2 s o vl) {v : Nat} (h1 : 1 ≤ v) (h2 : v ≤ 32) : bt o (v - 1) = decide (vl v = 1) := by
  have := (h (v - 1) (by omega)).2
  rwa [show v - 1 + 1 = v by omega] at this
theorem fals_c {vl : Nat → Int32} (hv : VI vl) (lit : Int32) : fals vl lit = (decide (¬ vl (vx lit) = -1) && (decide (vl (vx lit) = 1) != decide (0 < lit.toInt))) := by
  unfold fals
  rcases hv.1 (vx lit) with h | h | h <;> rw [h] <;> by_cases h0 : 0 < lit.toInt
  all_goals first | (rw [if_pos h0, decide_eq_true h0]; decide) | (rw [if_neg h0, decide_eq_false h0]; decide)
def limO (lb : Bool) (L : Int32) : Option Int := cond lb (some L.toInt) none
theorem ofInt_toIntN (x : Int32) : -x = Int32.ofInt (-x.toInt) := by rw [Int32.ofInt_neg, Int32.ofInt_toInt]
theorem ofInt_addT (z : Int) (x : Int32) : Int32.ofInt z + x = Int32.ofInt (z + x.toInt) := by rw [Int32.ofInt_add, Int32.ofInt_toInt]
theorem nI_16 : (16 : Int32) = nI 16 := by decide
theorem nI_1' : (1 : Int32) = nI 1 := by decide
theorem nI_0' : (0 : Int32) = nI 0 := by decide
theorem z_0 : (0 : Int32) = Int32.ofInt 0 := by decide
theorem d_M_isIn_0 : decode b_M_isIn 0 = .ok (.iload_n 0, 1) := by decide +kernel
theorem d_M_isIn_1 : decode b_M_isIn 1 = .ok (.iload_n 1, 1) := by decide +kernel
theorem d_M_isIn_2 : decode b_M_isIn 2 = .ok (.if_icmp .lt 12, 3) := by decide +kernel
theorem d_M_isIn_5 : decode b_M_isIn 5 = .ok (.iload_n 0, 1) := by decide +kernel
theorem d_M_isIn_6 : decode b_M_isIn 6 = .ok (.iload_n 2, 1) := by decide +kernel
theorem d_M_isIn_7 : decode b_M_isIn 7 = .ok (.if_icmp .gt 7, 3) := by decide +kernel
theorem d_M_isIn_10 : decode b_M_isIn 10 = .ok (.iconst 1, 1) := by decide +kernel
theorem d_M_isIn_11 : decode b_M_isIn 11 = .ok (.goto 4, 3) := by decide +kernel
theorem d_M_isIn_14 : decode b_M_isIn 14 = .ok (.iconst 0, 1) := by decide +kernel
theorem d_M_isIn_15 : decode b_M_isIn 15 = .ok (.ireturn, 1) := by decide +kernel
set_option maxHeartbeats 4000000 in
set_option maxRecDepth 100000 in
theorem c_M_isIn (l : Launch) (D : va_G) (g : Nat → ClassId) (v lo hi : Int32) : Ct l D g y_M_isIn b_M_isIn 3 (some .boolean) 0 [.int v, .int lo, .int hi] [] (fun r w => r = some (.int (bZ (decide (lo ≤ v ∧ v ≤ hi)))) ∧ w = []) := by
  refine Ct.of (lv := [(0, _), (1, _), (2, _)]) (by decide) rfl (Nat.le_of_ble_eq_true rfl) rfl ?_
  intro G K
  refine g_iload_n K 0 d_M_isIn_0 rfl ?_
  refine g_iload_n K 1 d_M_isIn_1 rfl ?_
  refine g_icmp_lt K (tgt := 14) d_M_isIn_2 (by decide) (fun c2 => ?_) (fun c2 => ?_)
  · refine g_iconst K (v := 0) d_M_isIn_14 (by decide) ?_
    refine g_zret K rfl d_M_isIn_15 (?_)
    first | (refine ⟨rz_t ?_, rfl⟩; rw [i_lt] at c2 c7; rw [i_le, i_le]; omega) | (refine ⟨rz_f (fun h => ?_), rfl⟩; rw [i_le, i_le] at h; rw [i_lt] at c2; first | omega | (rw [i_lt] at c7; omega))
  · refine g_iload_n K 0 d_M_isIn_5 rfl ?_
    refine g_iload_n K 2 d_M_isIn_6 rfl ?_
    refine g_icmp_gt K (tgt := 14) d_M_isIn_7 (by decide) (fun c7 => ?_) (fun c7 => ?_)
    · refine g_iconst K (v := 0) d_M_isIn_14 (by decide) ?_
      refine g_zret K rfl d_M_isIn_15 (?_)
      first | (refine ⟨rz_t ?_, rfl⟩; rw [i_lt] at c2 c7; rw [i_le, i_le]; omega) | (refine ⟨rz_f (fun h => ?_), rfl⟩; rw [i_le, i_le] at h; rw [i_lt] at c2; first | omega | (rw [i_lt] at c7; omega))
    · refine g_iconst K (v := 1) d_M_isIn_10 (by decide) ?_
      refine g_goto K (tgt := 15) d_M_isIn_11 (by decide) ?_
      refine g_zret K rfl d_M_isIn_15 (?_)
      first | (refine ⟨rz_t ?_, rfl⟩; rw [i_lt] at c2 c7; rw [i_le, i_le]; omega) | (refine ⟨rz_f (fun h => ?_), rfl⟩; rw [i_le, i_le] at h; rw [i_lt] at c2; first | omega | (rw [i_lt] at c7; omega))
theorem d_M_isSet_0 : decode b_M_isSet 0 = .ok (.aload_n 0, 1) := by decide +kernel
theorem d_M_isSet_1 : decode b_M_isSet 1 = .ok (.getfield 69, 3) := by decide +kernel
theorem d_M_isSet_4 : decode b_M_isSet 4 = .ok (.iload_n 1, 1) := by decide +kernel
theorem d_M_isSet_5 : decode b_M_isSet 5 = .ok (.iconst 1, 1) := by decide +kernel
theorem d_M_isSet_6 : decode b_M_isSet 6 = .ok (.isub, 1) := by decide +kernel
theorem d_M_isSet_7 : decode b_M_isSet 7 = .ok (.ishr, 1) := by decide +kernel
theorem d_M_isSet_8 : decode b_M_isSet 8 = .ok (.iconst 1, 1) := by decide +kernel
theorem d_M_isSet_9 : decode b_M_isSet 9 = .ok (.iand, 1) := by decide +kernel
theorem d_M_isSet_10 : decode b_M_isSet 10 = .ok (.iconst 1, 1) := by decide +kernel
theorem d_M_isSet_11 : decode b_M_isSet 11 = .ok (.if_icmp .ne 7, 3) := by decide +kernel
theorem d_M_isSet_14 : decode b_M_isSet 14 = .ok (.iconst 1, 1) := by decide +kernel
theorem d_M_isSet_15 : decode b_M_isSet 15 = .ok (.goto 4, 3) := by decide +kernel
theorem d_M_isSet_18 : decode b_M_isSet 18 = .ok (.iconst 0, 1) := by decide +kernel
theorem d_M_isSet_19 : decode b_M_isSet 19 = .ok (.ireturn, 1) := by decide +kernel
set_option maxHeartbeats 4000000 in
set_option maxRecDepth 100000 in
theorem c_M_isSet (l : Launch) (D : va_G) (g : Nat → ClassId) (a : Nat → Nat) (P : Nat → Nat → Int32) (I : Nat → Int32) (F : Nat → Nat → Int32) {vl : Nat → Int32} (hb : MB2 (I 11) (I 12) vl) {v : Nat} (h1 : 1 ≤ v) (h2 : v ≤ 16) : Ct l D g y_M_isSet b_M_isSet 2 (some .boolean) 0 [.ref (a 0), .int (nI v)] (MW a g P I F) (fun r w => r = some (.int (bZ (decide (¬ vl v = -1)))) ∧ w = MW a g P I F) := by
  refine Ct.of (lv := [(0, _), (1, _)]) (by decide) rfl (Nat.le_of_ble_eq_true rfl) rfl ?_
  intro G K
  refine g_aload_n K 0 d_M_isSet_0 rfl ?_
  refine gM_get K 11 fl_M_69 (by decide) rfl d_M_isSet_1 ?_
  refine g_iload_n K 1 d_M_isSet_4 rfl ?_
  refine g_iconst K (v := 1) d_M_isSet_5 (by decide) ?_
  refine g_isub K d_M_isSet_6 ?_
  refine g_ishr K d_M_isSet_7 ?_
  refine g_iconst K (v := 1) d_M_isSet_8 (by decide) ?_
  refine g_iand K d_M_isSet_9 ?_
  refine g_top K ((bit_is _ h1 (by omega)).trans (congrArg bZ (mb_set hb h1 (by omega)))) ?_
  refine g_iconst K (v := 1) d_M_isSet_10 (by decide) ?_
  refine g_icmp_ne K (tgt := 18) d_M_isSet_11 (by decide) (fun c11 => ?_) (fun c11 => ?_)
  · refine g_iconst K (v := 0) d_M_isSet_18 (by decide) ?_
    refine g_zret K rfl d_M_isSet_19 (?_)
    first | exact ⟨by rw [c11], rfl⟩ | exact ⟨by rw [bZ_n1 c11], rfl⟩
  · refine g_iconst K (v := 1) d_M_isSet_14 (by decide) ?_
    refine g_goto K (tgt := 19) d_M_isSet_15 (by decide) ?_
    refine g_zret K rfl d_M_isSet_19 (?_)
    first | exact ⟨by rw [c11], rfl⟩ | exact ⟨by rw [bZ_n1 c11], rfl⟩
theorem d_M_isOne_0 : decode b_M_isOne 0 = .ok (.aload_n 0, 1) := by decide +kernel
theorem d_M_isOne_1 : decode b_M_isOne 1 = .ok (.getfield 72, 3) := by decide +kernel
theorem d_M_isOne_4 : decode b_M_isOne 4 = .ok (.iload_n 1, 1) := by decide +kernel
theorem d_M_isOne_5 : decode b_M_isOne 5 = .ok (.iconst 1, 1) := by decide +kernel
theorem d_M_isOne_6 : decode b_M_isOne 6 = .ok (.isub, 1) := by decide +kernel
theorem d_M_isOne_7 : decode b_M_isOne 7 = .ok (.ishr, 1) := by decide +kernel
theorem d_M_isOne_8 : decode b_M_isOne 8 = .ok (.iconst 1, 1) := by decide +kernel
theorem d_M_isOne_9 : decode b_M_isOne 9 = .ok (.iand, 1) := by decide +kernel
theorem d_M_isOne_10 : decode b_M_isOne 10 = .ok (.iconst 1, 1) := by decide +kernel
theorem d_M_isOne_11 : decode b_M_isOne 11 = .ok (.if_icmp .ne 7, 3) := by decide +kernel
theorem d_M_isOne_14 : decode b_M_isOne 14 = .ok (.iconst 1, 1) := by decide +kernel
theorem d_M_isOne_15 : decode b_M_isOne 15 = .ok (.goto 4, 3) := by decide +kernel
theorem d_M_isOne_18 : decode b_M_isOne 18 = .ok (.iconst 0, 1) := by decide +kernel
theorem d_M_isOne_19 : decode b_M_isOne 19 = .ok (.ireturn, 1) := by decide +kernel
set_option maxHeartbeats 4000000 in
set_option maxRecDepth 100000 in
theorem c_M_isOne (l : Launch) (D : va_G) (g : Nat → ClassId) (a : Nat → Nat) (P : Nat → Nat → Int32) (I : Nat → Int32) (F : Nat → Nat → Int32) {vl : Nat → Int32} (hb : MB2 (I 11) (I 12) vl) {v : Nat} (h1 : 1 ≤ v) (h2 : v ≤ 16) : Ct l D g y_M_isOne b_M_isOne 2 (some .boolean) 0 [.ref (a 0), .int (nI v)] (MW a g P I F) (fun r w => r = some (.int (bZ (decide (vl v = 1)))) ∧ w = MW a g P I F) := by
  refine Ct.of (lv := [(0, _), (1, _)]) (by decide) rfl (Nat.le_of_ble_eq_true rfl) rfl ?_
  intro G K
  refine g_aload_n K 0 d_M_isOne_0 rfl ?_
  refine gM_get K 12 fl_M_72 (by decide) rfl d_M_isOne_1 ?_
  refine g_iload_n K 1 d_M_isOne_4 rfl ?_
  refine g_iconst K (v := 1) d_M_isOne_5 (by decide) ?_
  refine g_isub K d_M_isOne_6 ?_
  refine g_ishr K d_M_isOne_7 ?_
  refine g_iconst K (v := 1) d_M_isOne_8 (by decide) ?_
  refine g_iand K d_M_isOne_9 ?_
  refine g_top K ((bit_is _ h1 (by omega)).trans (congrArg bZ (mb_is hb h1 (by omega)))) ?_
  refine g_iconst K (v := 1) d_M_isOne_10 (by decide) ?_
  refine g_icmp_ne K (tgt := 18) d_M_isOne_11 (by decide) (fun c11 => ?_) (fun c11 => ?_)
  · refine g_iconst K (v := 0) d_M_isOne_18 (by decide) ?_
    refine g_zret K rfl d_M_isOne_19 (?_)
    first | exact ⟨by rw [c11], rfl⟩ | exact ⟨by rw [bZ_n1 c11], rfl⟩
  · refine g_iconst K (v := 1) d_M_isOne_14 (by decide) ?_
    refine g_goto K (tgt := 19) d_M_isOne_15 (by decide) ?_
    refine g_zret K rfl d_M_isOne_19 (?_)
    first | exact ⟨by rw [c11], rfl⟩ | exact ⟨by rw [bZ_n1 c11], rfl⟩
theorem d_M_isFalse_0 : decode b_M_isFalse 0 = .ok (.iload_n 1, 1) := by decide +kernel
theorem d_M_isFalse_1 : decode b_M_isFalse 1 = .ok (.ifCond .ge 8, 3) := by decide +kernel
theorem d_M_isFalse_4 : decode b_M_isFalse 4 = .ok (.iload_n 1, 1) := by decide +kernel
theorem d_M_isFalse_5 : decode b_M_isFalse 5 = .ok (.ineg, 1) := by decide +kernel
theorem d_M_isFalse_6 : decode b_M_isFalse 6 = .ok (.goto 4, 3) := by decide +kernel
theorem d_M_isFalse_9 : decode b_M_isFalse 9 = .ok (.iload_n 1, 1) := by decide +kernel
theorem d_M_isFalse_10 : decode b_M_isFalse 10 = .ok (.istore_n 2, 1) := by decide +kernel
theorem d_M_isFalse_11 : decode b_M_isFalse 11 = .ok (.aload_n 0, 1) := by decide +kernel
theorem d_M_isFalse_12 : decode b_M_isFalse 12 = .ok (.iload_n 2, 1) := by decide +kernel
theorem d_M_isFalse_13 : decode b_M_isFalse 13 = .ok (.invokevirtual 75, 3) := by decide +kernel
theorem d_M_isFalse_16 : decode b_M_isFalse 16 = .ok (.ifCond .eq 24, 3) := by decide +kernel
theorem d_M_isFalse_19 : decode b_M_isFalse 19 = .ok (.aload_n 0, 1) := by decide +kernel
theorem d_M_isFalse_20 : decode b_M_isFalse 20 = .ok (.iload_n 2, 1) := by decide +kernel
theorem d_M_isFalse_21 : decode b_M_isFalse 21 = .ok (.invokevirtual 79, 3) := by decide +kernel
theorem d_M_isFalse_24 : decode b_M_isFalse 24 = .ok (.iload_n 1, 1) := by decide +kernel
theorem d_M_isFalse_25 : decode b_M_isFalse 25 = .ok (.ifCond .le 7, 3) := by decide +kernel
theorem d_M_isFalse_28 : decode b_M_isFalse 28 = .ok (.iconst 1, 1) := by decide +kernel
theorem d_M_isFalse_29 : decode b_M_isFalse 29 = .ok (.goto 4, 3) := by decide +kernel
theorem d_M_isFalse_32 : decode b_M_isFalse 32 = .ok (.iconst 0, 1) := by decide +kernel
theorem d_M_isFalse_33 : decode b_M_isFalse 33 = .ok (.if_icmp .eq 7, 3) := by decide +kernel
theorem d_M_isFalse_36 : decode b_M_isFalse 36 = .ok (.iconst 1, 1) := by decide +kernel
theorem d_M_isFalse_37 : decode b_M_isFalse 37 = .ok (.goto 4, 3) := by decide +kernel
theorem d_M_isFalse_40 : decode b_M_isFalse 40 = .ok (.iconst 0, 1) := by decide +kernel
theorem d_M_isFalse_41 : decode b_M_isFalse 41 = .ok (.ireturn, 1) := by decide +kernel
set_option maxHeartbeats 4000000 in
set_option maxRecDepth 100000 in
theorem c_M_isFalse (l : Launch) (D : va_G) (g : Nat → ClassId) (a : Nat → Nat) (P : Nat → Nat → Int32) (I : Nat → Int32) (F : Nat → Nat → Int32) {vl : Nat → Int32} (hvi : VI vl) (hb : MB2 (I 11) (I 12) vl) {lit : Int32} (h1 : 1 ≤ vx lit) (h2 : vx lit ≤ 16) : Ct l D g y_M_isFalse b_M_isFalse 3 (some .boolean) 1 [.ref (a 0), .int lit] (MW a g P I F) (fun r w => r = some (.int (bZ (fals vl lit))) ∧ w = MW a g P I F) := by
  refine Ct.of (lv := [(0, _), (1, _)]) (by decide) rfl (Nat.le_of_ble_eq_true rfl) rfl ?_
  intro G K
  have J10 : G 10 [(0, .ref (a 0)), (1, .int lit)] [.int (nI (vx lit))] (MW a g P I F) := by
    refine g_istore_n (lv' := [(2, _), (0, _), (1, _)]) K d_M_isFalse_10 (by decide) rfl ?_
    refine g_aload_n K 1 d_M_isFalse_11 rfl ?_
    refine g_iload_n K 0 d_M_isFalse_12 rfl ?_
    refine g_callW (q0 := 0) K (c_M_isSet l D g a P I F hb h1 h2) mf_M_isSet im_M_isSet se_M_isSet ml_M_75 (by decide) rfl rfl (Nat.le_of_ble_eq_true rfl) d_M_isFalse_13 (fun v w1 hq => ?_) rfl
    obtain ⟨rfl, rfl⟩ := hq
    refine g_ri ?_
    refine g_if_eq K (tgt := 40) d_M_isFalse_16 (by decide) (fun c16 => ?_) (fun c16 => ?_)
    · have e1 := bZ_f c16
      refine g_iconst K (v := 0) d_M_isFalse_40 (by decide) ?_
      refine g_zret K rfl d_M_isFalse_41 (?_)
      first
      | exact ⟨by rw [fals_c hvi, e1]; rfl, rfl⟩
      | exact ⟨by rw [i_le, i_0] at c25; rw [fals_c hvi, e1, decide_eq_true (by omega : 0 < lit.toInt), (bZ_1 _).mp c33]; rfl, rfl⟩
      | exact ⟨by rw [i_le, i_0] at c25; rw [fals_c hvi, e1, decide_eq_true (by omega : 0 < lit.toInt), bZ_f (bZ_n1 c33)]; rfl, rfl⟩
      | exact ⟨by rw [i_le, i_0] at c25; rw [fals_c hvi, e1, decide_eq_false (by omega : ¬ 0 < lit.toInt), bZ_f c33]; rfl, rfl⟩
      | exact ⟨by rw [i_le, i_0] at c25; rw [fals_c hvi, e1, decide_eq_false (by omega : ¬ 0 < lit.toInt), bZ_t c33]; rfl, rfl⟩
    · have e1 := bZ_t c16
      refine g_aload_n K 1 d_M_isFalse_19 rfl ?_
      refine g_iload_n K 0 d_M_isFalse_20 rfl ?_
      refine g_callW (q0 := 0) K (c_M_isOne l D g a P I F hb h1 h2) mf_M_isOne im_M_isOne se_M_isOne ml_M_79 (by decide) rfl rfl (Nat.le_of_ble_eq_true rfl) d_M_isFalse_21 (fun v w1 hq => ?_) rfl
      obtain ⟨rfl, rfl⟩ := hq
      refine g_ri ?_
      refine g_iload_n K 2 d_M_isFalse_24 rfl ?_
      refine g_if_le K (tgt := 32) d_M_isFalse_25 (by decide) (fun c25 => ?_) (fun c25 => ?_)
      · refine g_iconst K (v := 0) d_M_isFalse_32 (by decide) ?_
        refine g_icmp_eq K (tgt := 40) d_M_isFalse_33 (by decide) (fun c33 => ?_) (fun c33 => ?_)
        · refine g_iconst K (v := 0) d_M_isFalse_40 (by decide) ?_
          refine g_zret K rfl d_M_isFalse_41 (?_)
          first
          | exact ⟨by rw [fals_c hvi, e1]; rfl, rfl⟩
          | exact ⟨by rw [i_le, i_0] at c25; rw [fals_c hvi, e1, decide_eq_true (by omega : 0 < lit.toInt), (bZ_1 _).mp c33]; rfl, rfl⟩
          | exact ⟨by rw [i_le, i_0] at c25; rw [fals_c hvi, e1, decide_eq_true (by omega : 0 < lit.toInt), bZ_f (bZ_n1 c33)]; rfl, rfl⟩
          | exact ⟨by rw [i_le, i_0] at c25; rw [fals_c hvi, e1, decide_eq_false (by omega : ¬ 0 < lit.toInt), bZ_f c33]; rfl, rfl⟩
          | exact ⟨by rw [i_le, i_0] at c25; rw [fals_c hvi, e1, decide_eq_false (by omega : ¬ 0 < lit.toInt), bZ_t c33]; rfl, rfl⟩
        · refine g_iconst K (v := 1) d_M_isFalse_36 (by decide) ?_
          refine g_goto K (tgt := 41) d_M_isFalse_37 (by decide) ?_
          refine g_zret K rfl d_M_isFalse_41 (?_)
          first
          | exact ⟨by rw [fals_c hvi, e1]; rfl, rfl⟩
          | exact ⟨by rw [i_le, i_0] at c25; rw [fals_c hvi, e1, decide_eq_true (by omega : 0 < lit.toInt), (bZ_1 _).mp c33]; rfl, rfl⟩
          | exact ⟨by rw [i_le, i_0] at c25; rw [fals_c hvi, e1, decide_eq_true (by omega : 0 < lit.toInt), bZ_f (bZ_n1 c33)]; rfl, rfl⟩
          | exact ⟨by rw [i_le, i_0] at c25; rw [fals_c hvi, e1, decide_eq_false (by omega : ¬ 0 < lit.toInt), bZ_f c33]; rfl, rfl⟩
          | exact ⟨by rw [i_le, i_0] at c25; rw [fals_c hvi, e1, decide_eq_false (by omega : ¬ 0 < lit.toInt), bZ_t c33]; rfl, rfl⟩
      · refine g_iconst K (v := 1) d_M_isFalse_28 (by decide) ?_
        refine g_goto K (tgt := 33) d_M_isFalse_29 (by decide) ?_
        refine g_icmp_eq K (tgt := 40) d_M_isFalse_33 (by decide) (fun c33 => ?_) (fun c33 => ?_)
        · refine g_iconst K (v := 0) d_M_isFalse_40 (by decide) ?_
          refine g_zret K rfl d_M_isFalse_41 (?_)
          first
          | exact ⟨by rw [fals_c hvi, e1]; rfl, rfl⟩
          | exact ⟨by rw [i_le, i_0] at c25; rw [fals_c hvi, e1, decide_eq_true (by omega : 0 < lit.toInt), (bZ_1 _).mp c33]; rfl, rfl⟩
          | exact ⟨by rw [i_le, i_0] at c25; rw [fals_c hvi, e1, decide_eq_true (by omega : 0 < lit.toInt), bZ_f (bZ_n1 c33)]; rfl, rfl⟩
          | exact ⟨by rw [i_le, i_0] at c25; rw [fals_c hvi, e1, decide_eq_false (by omega : ¬ 0 < lit.toInt), bZ_f c33]; rfl, rfl⟩
          | exact ⟨by rw [i_le, i_0] at c25; rw [fals_c hvi, e1, decide_eq_false (by omega : ¬ 0 < lit.toInt), bZ_t c33]; rfl, rfl⟩
        · refine g_iconst K (v := 1) d_M_isFalse_36 (by decide) ?_
          refine g_goto K (tgt := 41) d_M_isFalse_37 (by decide) ?_
          refine g_zret K rfl d_M_isFalse_41 (?_)
          first
          | exact ⟨by rw [fals_c hvi, e1]; rfl, rfl⟩
          | exact ⟨by rw [i_le, i_0] at c25; rw [fals_c hvi, e1, decide_eq_true (by omega : 0 < lit.toInt), (bZ_1 _).mp c33]; rfl, rfl⟩
          | exact ⟨by rw [i_le, i_0] at c25; rw [fals_c hvi, e1, decide_eq_true (by omega : 0 < lit.toInt), bZ_f (bZ_n1 c33)]; rfl, rfl⟩
          | exact ⟨by rw [i_le, i_0] at c25; rw [fals_c hvi, e1, decide_eq_false (by omega : ¬ 0 < lit.toInt), bZ_f c33]; rfl, rfl⟩
          | exact ⟨by rw [i_le, i_0] at c25; rw [fals_c hvi, e1, decide_eq_false (by omega : ¬ 0 < lit.toInt), bZ_t c33]; rfl, rfl⟩
  refine g_iload_n K 1 d_M_isFalse_0 rfl ?_
  refine g_if_ge K (tgt := 9) d_M_isFalse_1 (by decide) (fun c1 => ?_) (fun c1 => ?_)
  · refine g_iload_n K 1 d_M_isFalse_9 rfl ?_
    refine g_top K (lit_pos' h2 c1) ?_
    refine g_lv K [0, 1] rfl (J10 )
  · refine g_iload_n K 1 d_M_isFalse_4 rfl ?_
    refine g_ineg K d_M_isFalse_5 ?_
    refine g_goto K (tgt := 10) d_M_isFalse_6 (by decide) ?_
    refine g_top K (lit_neg' h2 c1) ?_
    refine g_lv K [0, 1] rfl (J10 )
theorem d_M_slack_0 : decode b_M_slack 0 = .ok (.aload_n 0, 1) := by decide +kernel
theorem d_M_slack_1 : decode b_M_slack 1 = .ok (.getfield 22, 3) := by decide +kernel
theorem d_M_slack_4 : decode b_M_slack 4 = .ok (.iload_n 1, 1) := by decide +kernel
theorem d_M_slack_5 : decode b_M_slack 5 = .ok (.iaload, 1) := by decide +kernel
theorem d_M_slack_6 : decode b_M_slack 6 = .ok (.ineg, 1) := by decide +kernel
theorem d_M_slack_7 : decode b_M_slack 7 = .ok (.istore_n 2, 1) := by decide +kernel
theorem d_M_slack_8 : decode b_M_slack 8 = .ok (.aload_n 0, 1) := by decide +kernel
theorem d_M_slack_9 : decode b_M_slack 9 = .ok (.getfield 19, 3) := by decide +kernel
theorem d_M_slack_12 : decode b_M_slack 12 = .ok (.iload_n 1, 1) := by decide +kernel
theorem d_M_slack_13 : decode b_M_slack 13 = .ok (.iaload, 1) := by decide +kernel
theorem d_M_slack_14 : decode b_M_slack 14 = .ok (.istore_n 3, 1) := by decide +kernel
theorem d_M_slack_15 : decode b_M_slack 15 = .ok (.iload_n 3, 1) := by decide +kernel
theorem d_M_slack_16 : decode b_M_slack 16 = .ok (.aload_n 0, 1) := by decide +kernel
theorem d_M_slack_17 : decode b_M_slack 17 = .ok (.getfield 19, 3) := by decide +kernel
theorem d_M_slack_20 : decode b_M_slack 20 = .ok (.iload_n 1, 1) := by decide +kernel
theorem d_M_slack_21 : decode b_M_slack 21 = .ok (.iconst 1, 1) := by decide +kernel
theorem d_M_slack_22 : decode b_M_slack 22 = .ok (.iadd, 1) := by decide +kernel
theorem d_M_slack_23 : decode b_M_slack 23 = .ok (.iaload, 1) := by decide +kernel
theorem d_M_slack_24 : decode b_M_slack 24 = .ok (.if_icmp .ge 35, 3) := by decide +kernel
theorem d_M_slack_27 : decode b_M_slack 27 = .ok (.aload_n 0, 1) := by decide +kernel
theorem d_M_slack_28 : decode b_M_slack 28 = .ok (.aload_n 0, 1) := by decide +kernel
theorem d_M_slack_29 : decode b_M_slack 29 = .ok (.getfield 16, 3) := by decide +kernel
theorem d_M_slack_32 : decode b_M_slack 32 = .ok (.iload_n 3, 1) := by decide +kernel
theorem d_M_slack_33 : decode b_M_slack 33 = .ok (.iaload, 1) := by decide +kernel
theorem d_M_slack_34 : decode b_M_slack 34 = .ok (.invokevirtual 82, 3) := by decide +kernel
theorem d_M_slack_37 : decode b_M_slack 37 = .ok (.ifCond .eq 7, 3) := by decide +kernel
theorem d_M_slack_40 : decode b_M_slack 40 = .ok (.iload_n 2, 1) := by decide +kernel
theorem d_M_slack_41 : decode b_M_slack 41 = .ok (.goto 11, 3) := by decide +kernel
theorem d_M_slack_44 : decode b_M_slack 44 = .ok (.iload_n 2, 1) := by decide +kernel
theorem d_M_slack_45 : decode b_M_slack 45 = .ok (.aload_n 0, 1) := by decide +kernel
theorem d_M_slack_46 : decode b_M_slack 46 = .ok (.getfield 13, 3) := by decide +kernel
theorem d_M_slack_49 : decode b_M_slack 49 = .ok (.iload_n 3, 1) := by decide +kernel
theorem d_M_slack_50 : decode b_M_slack 50 = .ok (.iaload, 1) := by decide +kernel
theorem d_M_slack_51 : decode b_M_slack 51 = .ok (.iadd, 1) := by decide +kernel
theorem d_M_slack_52 : decode b_M_slack 52 = .ok (.istore_n 2, 1) := by decide +kernel
theorem d_M_slack_53 : decode b_M_slack 53 = .ok (.iinc 3 1, 3) := by decide +kernel
theorem d_M_slack_56 : decode b_M_slack 56 = .ok (.goto (-41), 3) := by decide +kernel
theorem d_M_slack_59 : decode b_M_slack 59 = .ok (.iload_n 2, 1) := by decide +kernel
theorem d_M_slack_60 : decode b_M_slack 60 = .ok (.ireturn, 1) := by decide +kernel
set_option maxHeartbeats 4000000 in
set_option maxRecDepth 100000 in
theorem c_M_slack (l : Launch) (D : va_G) (g : Nat → ClassId) (a : Nat → Nat) (P : Nat → Nat → Int32) (I : Nat → Int32) (F : Nat → Nat → Int32) {n k : Nat} (hp : PWF P n k) {vl : Nat → Int32} (hvi : VI vl) (hb : MB2 (I 11) (I 12) vl) {c : Nat} (hc : c < n) : Ct l D g y_M_slack b_M_slack 4 (some .int) 2 [.ref (a 0), .int (nI c)] (MW a g P I F) (fun r w => r = some (.int (Int32.ofInt (sk P vl c))) ∧ w = MW a g P I F) := by
  refine Ct.of (lv := [(0, _), (1, _)]) (by decide) rfl (Nat.le_of_ble_eq_true rfl) rfl ?_
  intro G K
  have J15 : ∀ (N : Nat) (t : Nat) (z : Int), stn P (c + 1) - t < N → (t ≤ 120) → (z + sm (skf P vl) t (stn P (c + 1) - t) = sk P vl c) → G 15 [(0, .ref (a 0)), (1, .int (nI c)), (2, .int (Int32.ofInt z)), (3, .int (nI t))] [] (MW a g P I F) := by
    intro N
    induction N with
    | zero => intro t z hm; exact absurd hm (Nat.not_lt_zero _)
    | succ N ih15 =>
      intro t z hm15 ht hz
      have J52 : ∀ (z2 : Int), (t < stn P (c + 1)) → (z2 + sm (skf P vl) (t + 1) (stn P (c + 1) - (t + 1)) = sk P vl c) → G 52 [(0, .ref (a 0)), (1, .int (nI c)), (2, .int (Int32.ofInt z)), (3, .int (nI t))] [.int (Int32.ofInt z2)] (MW a g P I F) := by
        intro z2 h24 hz2
        refine g_istore_n (lv' := [(2, _), (0, _), (1, _), (3, _)]) K d_M_slack_52 (by decide) rfl ?_
        refine g_iinc (v := nI (t + 1)) (lv' := [(3, _), (2, _), (0, _), (1, _)]) K 3 d_M_slack_53 rfl (nI_1 t) (by decide) rfl ?_
        refine g_goto K (tgt := 15) d_M_slack_56 (by decide) ?_
        refine g_lv K [2, 3, 1, 0] rfl (ih15 (t + 1) z2 (by omega) (by have := (hp.2.2.1 (c + 1) hc).2; have := hp.2.1; omega) hz2)
      refine g_iload_n K 3 d_M_slack_15 rfl ?_
      refine g_aload_n K 0 d_M_slack_16 rfl ?_
      refine gM_get K 4 fl_M_19 (by decide) rfl d_M_slack_17 ?_
      refine g_iload_n K 1 d_M_slack_20 rfl ?_
      refine g_iconst K (v := 1) d_M_slack_21 (by decide) ?_
      refine g_iadd K d_M_slack_22 ?_
      refine g_iald K 4 (c + 1) rfl (nI_1 c) (by have := hp.1; omega) d_M_slack_23 ?_
      have hk1 := (hp.2.2.1 (c + 1) hc).2
      have hk2 := hp.2.1
      refine g_top K (hp.2.2.1 (c + 1) hc).1 ?_
      refine g_icmp_ge K (tgt := 59) d_M_slack_24 (by decide) (fun c24 => ?_) (fun c24 => ?_)
      · have h24 := (nI_leI (by omega) (by omega)).mp c24
        refine g_iload_n K 2 d_M_slack_59 rfl ?_
        refine g_iret K d_M_slack_60 (⟨by rw [← hz, sm_e h24, Int.add_zero], rfl⟩)
      · have h24 : t < stn P (c + 1) := Nat.lt_of_not_le (fun h => c24 ((nI_leI (by omega) (by omega)).mpr h))
        refine g_aload_n K 0 d_M_slack_27 rfl ?_
        refine g_aload_n K 0 d_M_slack_28 rfl ?_
        refine gM_get K 3 fl_M_16 (by decide) rfl d_M_slack_29 ?_
        refine g_iload_n K 3 d_M_slack_32 rfl ?_
        refine g_iald K 3 (t) rfl rfl (by omega) d_M_slack_33 ?_
        refine g_callW (q0 := 0) K (c_M_isFalse l D g a P I F hvi hb (hp.2.2.2.2.2 t (by omega)).2.1 (hp.2.2.2.2.2 t (by omega)).2.2) mf_M_isFalse im_M_isFalse se_M_isFalse ml_M_82 (by decide) rfl rfl (Nat.le_of_ble_eq_true rfl) d_M_slack_34 (fun v w1 hq => ?_) rfl
        obtain ⟨rfl, rfl⟩ := hq
        refine g_ri ?_
        refine g_if_eq K (tgt := 44) d_M_slack_37 (by decide) (fun c37 => ?_) (fun c37 => ?_)
        · refine g_iload_n K 2 d_M_slack_44 rfl ?_
          refine g_aload_n K 0 d_M_slack_45 rfl ?_
          refine gM_get K 2 fl_M_13 (by decide) rfl d_M_slack_46 ?_
          refine g_iload_n K 3 d_M_slack_49 rfl ?_
          refine g_iald K 2 (t) rfl rfl (by omega) d_M_slack_50 ?_
          refine g_iadd K d_M_slack_51 ?_
          refine g_top K (ofInt_addT z _) ?_
          refine g_lv K [0, 1, 2, 3] rfl (J52 (z + (P 3 t).toInt) h24 (by rw [← hz, sm_s h24, show skf P vl t = (P 3 t).toInt from if_neg (by rw [bZ_f c37]; decide)]; omega))
        · refine g_iload_n K 2 d_M_slack_40 rfl ?_
          refine g_goto K (tgt := 52) d_M_slack_41 (by decide) ?_
          refine g_lv K [0, 1, 2, 3] rfl (J52 z h24 (by rw [← hz, sm_s h24, show skf P vl t = 0 from if_pos (bZ_t c37)]; omega))
  refine g_aload_n K 0 d_M_slack_0 rfl ?_
  refine gM_get K 5 fl_M_22 (by decide) rfl d_M_slack_1 ?_
  refine g_iload_n K 1 d_M_slack_4 rfl ?_
  refine g_iald K 5 (c) rfl rfl (by have := hp.1; omega) d_M_slack_5 ?_
  refine g_ineg K d_M_slack_6 ?_
  refine g_top K (ofInt_toIntN _) ?_
  refine g_istore_n (lv' := [(2, _), (0, _), (1, _)]) K d_M_slack_7 (by decide) rfl ?_
  refine g_aload_n K 1 d_M_slack_8 rfl ?_
  refine gM_get K 4 fl_M_19 (by decide) rfl d_M_slack_9 ?_
  refine g_iload_n K 2 d_M_slack_12 rfl ?_
  refine g_iald K 4 (c) rfl rfl (by have := hp.1; omega) d_M_slack_13 ?_
  refine g_top K (hp.2.2.1 c (by omega)).1 ?_
  refine g_istore_n (lv' := [(3, _), (2, _), (0, _), (1, _)]) K d_M_slack_14 (by decide) rfl ?_
  refine g_lv K [2, 3, 1, 0] rfl (J15 _ (stn P c) (-(P 2 c).toInt) (Nat.lt_succ_self _) (by have := (hp.2.2.1 c (by omega)).2; have := hp.2.1; omega) rfl)
theorem d_M_cost_0 : decode b_M_cost 0 = .ok (.iconst 0, 1) := by decide +kernel
theorem d_M_cost_1 : decode b_M_cost 1 = .ok (.istore_n 1, 1) := by decide +kernel
theorem d_M_cost_2 : decode b_M_cost 2 = .ok (.iconst 1, 1) := by decide +kernel
theorem d_M_cost_3 : decode b_M_cost 3 = .ok (.istore_n 2, 1) := by decide +kernel
theorem d_M_cost_4 : decode b_M_cost 4 = .ok (.iload_n 2, 1) := by decide +kernel
theorem d_M_cost_5 : decode b_M_cost 5 = .ok (.bipush 16, 2) := by decide +kernel
theorem d_M_cost_7 : decode b_M_cost 7 = .ok (.if_icmp .gt 38, 3) := by decide +kernel
theorem d_M_cost_10 : decode b_M_cost 10 = .ok (.aload_n 0, 1) := by decide +kernel
theorem d_M_cost_11 : decode b_M_cost 11 = .ok (.iload_n 2, 1) := by decide +kernel
theorem d_M_cost_12 : decode b_M_cost 12 = .ok (.invokevirtual 75, 3) := by decide +kernel
theorem d_M_cost_15 : decode b_M_cost 15 = .ok (.ifCond .eq 22, 3) := by decide +kernel
theorem d_M_cost_18 : decode b_M_cost 18 = .ok (.aload_n 0, 1) := by decide +kernel
theorem d_M_cost_19 : decode b_M_cost 19 = .ok (.iload_n 2, 1) := by decide +kernel
theorem d_M_cost_20 : decode b_M_cost 20 = .ok (.invokevirtual 79, 3) := by decide +kernel
theorem d_M_cost_23 : decode b_M_cost 23 = .ok (.ifCond .eq 14, 3) := by decide +kernel
theorem d_M_cost_26 : decode b_M_cost 26 = .ok (.iload_n 1, 1) := by decide +kernel
theorem d_M_cost_27 : decode b_M_cost 27 = .ok (.aload_n 0, 1) := by decide +kernel
theorem d_M_cost_28 : decode b_M_cost 28 = .ok (.getfield 7, 3) := by decide +kernel
theorem d_M_cost_31 : decode b_M_cost 31 = .ok (.iload_n 2, 1) := by decide +kernel
theorem d_M_cost_32 : decode b_M_cost 32 = .ok (.iaload, 1) := by decide +kernel
theorem d_M_cost_33 : decode b_M_cost 33 = .ok (.iadd, 1) := by decide +kernel
theorem d_M_cost_34 : decode b_M_cost 34 = .ok (.goto 4, 3) := by decide +kernel
theorem d_M_cost_37 : decode b_M_cost 37 = .ok (.iload_n 1, 1) := by decide +kernel
theorem d_M_cost_38 : decode b_M_cost 38 = .ok (.istore_n 1, 1) := by decide +kernel
theorem d_M_cost_39 : decode b_M_cost 39 = .ok (.iinc 2 1, 3) := by decide +kernel
theorem d_M_cost_42 : decode b_M_cost 42 = .ok (.goto (-38), 3) := by decide +kernel
theorem d_M_cost_45 : decode b_M_cost 45 = .ok (.iload_n 1, 1) := by decide +kernel
theorem d_M_cost_46 : decode b_M_cost 46 = .ok (.ireturn, 1) := by decide +kernel
set_option maxHeartbeats 4000000 in
set_option maxRecDepth 100000 in
theorem c_M_cost (l : Launch) (D : va_G) (g : Nat → ClassId) (a : Nat → Nat) (P : Nat → Nat → Int32) (I : Nat → Int32) (F : Nat → Nat → Int32) {n k : Nat} (hp : PWF P n k) {vl : Nat → Int32} (hvi : VI vl) (hb : MB2 (I 11) (I 12) vl) : Ct l D g y_M_cost b_M_cost 3 (some .int) 1 [.ref (a 0)] (MW a g P I F) (fun r w => r = some (.int (Int32.ofInt (sp P vl))) ∧ w = MW a g P I F) := by
  refine Ct.of (lv := [(0, _)]) (by decide) rfl (Nat.le_of_ble_eq_true rfl) rfl ?_
  intro G K
  have J4 : ∀ (N : Nat) (v : Nat) (z : Int), 17 - v < N → (1 ≤ v) → (v ≤ 17) → (z + sm (spf P vl) v (17 - v) = sp P vl) → G 4 [(0, .ref (a 0)), (1, .int (Int32.ofInt z)), (2, .int (nI v))] [] (MW a g P I F) := by
    intro N
    induction N with
    | zero => intro v z hm; exact absurd hm (Nat.not_lt_zero _)
    | succ N ih4 =>
      intro v z hm4 h1 h2 hz
      have J38 : ∀ (z2 : Int), (v < 17) → (z2 + sm (spf P vl) (v + 1) (17 - (v + 1)) = sp P vl) → G 38 [(0, .ref (a 0)), (1, .int (Int32.ofInt z)), (2, .int (nI v))] [.int (Int32.ofInt z2)] (MW a g P I F) := by
        intro z2 h7 hz2
        refine g_istore_n (lv' := [(1, _), (0, _), (2, _)]) K d_M_cost_38 (by decide) rfl ?_
        refine g_iinc (v := nI (v + 1)) (lv' := [(2, _), (1, _), (0, _)]) K 2 d_M_cost_39 rfl (nI_1 v) (by decide) rfl ?_
        refine g_goto K (tgt := 4) d_M_cost_42 (by decide) ?_
        refine g_lv K [2, 1, 0] rfl (ih4 (v + 1) z2 (by omega) (by omega) (by omega) hz2)
      refine g_iload_n K 2 d_M_cost_4 rfl ?_
      refine g_bipush K (v := 16) d_M_cost_5 (by decide) ?_
      refine g_top K nI_16 ?_
      refine g_icmp_gt K (tgt := 45) d_M_cost_7 (by decide) (fun c7 => ?_) (fun c7 => ?_)
      · have h7 := (nI_ltI (by omega) (by omega)).mp c7
        refine g_iload_n K 1 d_M_cost_45 rfl ?_
        refine g_iret K d_M_cost_46 (⟨by rw [← hz, sm_e (by omega), Int.add_zero], rfl⟩)
      · have h7 : v < 17 := Nat.lt_of_not_le (fun h => c7 ((nI_ltI (by omega) (by omega)).mpr h))
        refine g_aload_n K 0 d_M_cost_10 rfl ?_
        refine g_iload_n K 2 d_M_cost_11 rfl ?_
        refine g_callW (q0 := 0) K (c_M_isSet l D g a P I F hb h1 (by omega)) mf_M_isSet im_M_isSet se_M_isSet ml_M_75 (by decide) rfl rfl (Nat.le_of_ble_eq_true rfl) d_M_cost_12 (fun v w1 hq => ?_) rfl
        obtain ⟨rfl, rfl⟩ := hq
        refine g_ri ?_
        refine g_if_eq K (tgt := 37) d_M_cost_15 (by decide) (fun c15 => ?_) (fun c15 => ?_)
        · have hf : spf P vl v = 0 := if_neg (by have := of_decide_eq_false (bZ_f c15); intro hh; exact this (by rw [hh]; decide))
          refine g_iload_n K 1 d_M_cost_37 rfl ?_
          refine g_lv K [0, 1, 2] rfl (J38 z h7 (by rw [← hz, sm_s h7, hf]; omega))
        · refine g_aload_n K 0 d_M_cost_18 rfl ?_
          refine g_iload_n K 2 d_M_cost_19 rfl ?_
          refine g_callW (q0 := 0) K (c_M_isOne l D g a P I F hb h1 (by omega)) mf_M_isOne im_M_isOne se_M_isOne ml_M_79 (by decide) rfl rfl (Nat.le_of_ble_eq_true rfl) d_M_cost_20 (fun v w1 hq => ?_) rfl
          obtain ⟨rfl, rfl⟩ := hq
          refine g_ri ?_
          refine g_if_eq K (tgt := 37) d_M_cost_23 (by decide) (fun c23 => ?_) (fun c23 => ?_)
          · have hf : spf P vl v = 0 := if_neg (of_decide_eq_false (bZ_f c23))
            refine g_iload_n K 1 d_M_cost_37 rfl ?_
            refine g_lv K [0, 1, 2] rfl (J38 z h7 (by rw [← hz, sm_s h7, hf]; omega))
          · have hf : spf P vl v = (P 0 v).toInt := if_pos (of_decide_eq_true (bZ_t c23))
            refine g_iload_n K 1 d_M_cost_26 rfl ?_
            refine g_aload_n K 0 d_M_cost_27 rfl ?_
            refine gM_get K 1 fl_M_7 (by decide) rfl d_M_cost_28 ?_
            refine g_iload_n K 2 d_M_cost_31 rfl ?_
            refine g_iald K 1 (v) rfl rfl (by omega) d_M_cost_32 ?_
            refine g_iadd K d_M_cost_33 ?_
            refine g_goto K (tgt := 38) d_M_cost_34 (by decide) ?_
            refine g_top K (ofInt_addT z _) ?_
            refine g_lv K [0, 1, 2] rfl (J38 (z + (P 0 v).toInt) h7 (by rw [← hz, sm_s h7, hf]; omega))
  refine g_iconst K (v := 0) d_M_cost_0 (by decide) ?_
  refine g_top K z_0 ?_
  refine g_istore_n (lv' := [(1, _), (0, _)]) K d_M_cost_1 (by decide) rfl ?_
  refine g_iconst K (v := 1) d_M_cost_2 (by decide) ?_
  refine g_top K nI_1' ?_
  refine g_istore_n (lv' := [(2, _), (1, _), (0, _)]) K d_M_cost_3 (by decide) rfl ?_
  refine g_lv K [2, 1, 0] rfl (J4 _ 1 0 (Nat.lt_succ_self _) (by omega) (by omega) (Int.zero_add _))
theorem d_M_isBroken_0 : decode b_M_isBroken 0 = .ok (.iload_n 1, 1) := by decide +kernel
theorem d_M_isBroken_1 : decode b_M_isBroken 1 = .ok (.ifCond .eq 16, 3) := by decide +kernel
theorem d_M_isBroken_4 : decode b_M_isBroken 4 = .ok (.iload_n 2, 1) := by decide +kernel
theorem d_M_isBroken_5 : decode b_M_isBroken 5 = .ok (.aload_n 0, 1) := by decide +kernel
theorem d_M_isBroken_6 : decode b_M_isBroken 6 = .ok (.invokevirtual 85, 3) := by decide +kernel
theorem d_M_isBroken_9 : decode b_M_isBroken 9 = .ok (.isub, 1) := by decide +kernel
theorem d_M_isBroken_10 : decode b_M_isBroken 10 = .ok (.ifCond .ge 7, 3) := by decide +kernel
theorem d_M_isBroken_13 : decode b_M_isBroken 13 = .ok (.iconst 1, 1) := by decide +kernel
theorem d_M_isBroken_14 : decode b_M_isBroken 14 = .ok (.goto 4, 3) := by decide +kernel
theorem d_M_isBroken_17 : decode b_M_isBroken 17 = .ok (.iconst 0, 1) := by decide +kernel
theorem d_M_isBroken_18 : decode b_M_isBroken 18 = .ok (.istore_n 3, 1) := by decide +kernel
theorem d_M_isBroken_19 : decode b_M_isBroken 19 = .ok (.iconst 0, 1) := by decide +kernel
theorem d_M_isBroken_20 : decode b_M_isBroken 20 = .ok (.istore 4, 2) := by decide +kernel
theorem d_M_isBroken_22 : decode b_M_isBroken 22 = .ok (.iload 4, 2) := by decide +kernel
theorem d_M_isBroken_24 : decode b_M_isBroken 24 = .ok (.aload_n 0, 1) := by decide +kernel
theorem d_M_isBroken_25 : decode b_M_isBroken 25 = .ok (.getfield 65, 3) := by decide +kernel
theorem d_M_isBroken_28 : decode b_M_isBroken 28 = .ok (.if_icmp .ge 28, 3) := by decide +kernel
theorem d_M_isBroken_31 : decode b_M_isBroken 31 = .ok (.iload_n 3, 1) := by decide +kernel
theorem d_M_isBroken_32 : decode b_M_isBroken 32 = .ok (.ifCond .ne 12, 3) := by decide +kernel
theorem d_M_isBroken_35 : decode b_M_isBroken 35 = .ok (.aload_n 0, 1) := by decide +kernel
theorem d_M_isBroken_36 : decode b_M_isBroken 36 = .ok (.iload 4, 2) := by decide +kernel
theorem d_M_isBroken_38 : decode b_M_isBroken 38 = .ok (.invokevirtual 89, 3) := by decide +kernel
theorem d_M_isBroken_41 : decode b_M_isBroken 41 = .ok (.ifCond .ge 7, 3) := by decide +kernel
theorem d_M_isBroken_44 : decode b_M_isBroken 44 = .ok (.iconst 1, 1) := by decide +kernel
theorem d_M_isBroken_45 : decode b_M_isBroken 45 = .ok (.goto 4, 3) := by decide +kernel
theorem d_M_isBroken_48 : decode b_M_isBroken 48 = .ok (.iconst 0, 1) := by decide +kernel
theorem d_M_isBroken_49 : decode b_M_isBroken 49 = .ok (.istore_n 3, 1) := by decide +kernel
theorem d_M_isBroken_50 : decode b_M_isBroken 50 = .ok (.iinc 4 1, 3) := by decide +kernel
theorem d_M_isBroken_53 : decode b_M_isBroken 53 = .ok (.goto (-31), 3) := by decide +kernel
theorem d_M_isBroken_56 : decode b_M_isBroken 56 = .ok (.iload_n 3, 1) := by decide +kernel
theorem d_M_isBroken_57 : decode b_M_isBroken 57 = .ok (.ireturn, 1) := by decide +kernel
set_option maxHeartbeats 4000000 in
set_option maxRecDepth 100000 in
theorem c_M_isBroken (l : Launch) (D : va_G) (g : Nat → ClassId) (a : Nat → Nat) (P : Nat → Nat → Int32) (I : Nat → Int32) (F : Nat → Nat → Int32) {n k : Nat} (hp : PWF P n k) {vl : Nat → Int32} (hvi : VI vl) (hb : MB2 (I 11) (I 12) vl) {lb : Bool} {L : Int32} (hL : lb = true → -1 ≤ L.toInt ∧ L.toInt ≤ 1073741824) (hn : I 6 = nI n) : Ct l D g y_M_isBroken b_M_isBroken 5 (some .boolean) 3 [.ref (a 0), .int (bZ lb), .int L] (MW a g P I F) (fun r w => r = some (.int (bZ (brk P n (limO lb L) vl))) ∧ w = MW a g P I F) := by
  refine Ct.of (lv := [(0, _), (1, _), (2, _)]) (by decide) rfl (Nat.le_of_ble_eq_true rfl) rfl ?_
  intro G K
  have J22 : ∀ (N : Nat) (c : Nat) (b1 : Bool), n - c < N → (c ≤ n) → ((b1 || an (fun c => decide (sk P vl c < 0)) c (n - c)) = brk P n (limO lb L) vl) → G 22 [(0, .ref (a 0)), (1, .int (bZ lb)), (2, .int L), (3, .int (bZ b1)), (4, .int (nI c))] [] (MW a g P I F) := by
    intro N
    induction N with
    | zero => intro c b1 hm; exact absurd hm (Nat.not_lt_zero _)
    | succ N ih22 =>
      intro c b1 hm22 hc hB
      have J49 : ∀ (b2 : Bool), (c < n) → ((b2 || an (fun c => decide (sk P vl c < 0)) (c + 1) (n - (c + 1))) = brk P n (limO lb L) vl) → G 49 [(0, .ref (a 0)), (1, .int (bZ lb)), (2, .int L), (3, .int (bZ b1)), (4, .int (nI c))] [.int (bZ b2)] (MW a g P I F) := by
        intro b2 h28 hB2
        refine g_istore_n (lv' := [(3, _), (0, _), (1, _), (2, _), (4, _)]) K d_M_isBroken_49 (by decide) rfl ?_
        refine g_iinc (v := nI (c + 1)) (lv' := [(4, _), (3, _), (0, _), (1, _), (2, _)]) K 4 d_M_isBroken_50 rfl (nI_1 c) (by decide) rfl ?_
        refine g_goto K (tgt := 22) d_M_isBroken_53 (by decide) ?_
        refine g_lv K [2, 3, 4, 1, 0] rfl (ih22 (c + 1) b2 (by omega) (by omega) hB2)
      refine g_iload K 4 d_M_isBroken_22 rfl ?_
      refine g_aload_n K 0 d_M_isBroken_24 rfl ?_
      refine gM_get K 6 fl_M_65 (by decide) rfl d_M_isBroken_25 ?_
      have hk1 := hp.1
      refine g_top K hn ?_
      refine g_icmp_ge K (tgt := 56) d_M_isBroken_28 (by decide) (fun c28 => ?_) (fun c28 => ?_)
      · have h28 := (nI_leI (by omega) (by omega)).mp c28
        refine g_iload_n K 3 d_M_isBroken_56 rfl ?_
        refine g_zret K (bZ_nar _) d_M_isBroken_57 (⟨by rw [← hB, an_e h28, Bool.or_false], rfl⟩)
      · have h28 : c < n := Nat.lt_of_not_le (fun h => c28 ((nI_leI (by omega) (by omega)).mpr h))
        refine g_iload_n K 3 d_M_isBroken_31 rfl ?_
        refine g_if_ne K (tgt := 44) d_M_isBroken_32 (by decide) (fun c32 => ?_) (fun c32 => ?_)
        · have hb2 : (true || an (fun c => decide (sk P vl c < 0)) (c + 1) (n - (c + 1))) = brk P n (limO lb L) vl := by rw [← hB, bZ_t c32]; rfl
          refine g_iconst K (v := 1) d_M_isBroken_44 (by decide) ?_
          refine g_goto K (tgt := 49) d_M_isBroken_45 (by decide) ?_
          refine g_lv K [0, 1, 2, 3, 4] rfl (J49 true h28 hb2)
        · have e32 := bZ_f c32
          refine g_aload_n K 0 d_M_isBroken_35 rfl ?_
          refine g_iload K 4 d_M_isBroken_36 rfl ?_
          refine g_callW (q0 := 0) K (c_M_slack l D g a P I F hp hvi hb h28) mf_M_slack im_M_slack se_M_slack ml_M_89 (by decide) rfl rfl (Nat.le_of_ble_eq_true rfl) d_M_isBroken_38 (fun v w1 hq => ?_) rfl
          obtain ⟨rfl, rfl⟩ := hq
          refine g_ri ?_
          refine g_if_ge K (tgt := 48) d_M_isBroken_41 (by decide) (fun c41 => ?_) (fun c41 => ?_)
          · have h41 : ¬ sk P vl c < 0 := by have := sk_bd hp vl h28; rw [i_le, i_0, i_of (by omega) (by omega)] at c41; omega
            refine g_iconst K (v := 0) d_M_isBroken_48 (by decide) ?_
            refine g_lv K [0, 1, 2, 3, 4] rfl (J49 false h28 (by rw [← hB, e32, an_s h28, decide_eq_false h41]; rfl))
          · have h41 : sk P vl c < 0 := by have := sk_bd hp vl h28; rw [i_le, i_0, i_of (by omega) (by omega)] at c41; omega
            have hb2 : (true || an (fun c => decide (sk P vl c < 0)) (c + 1) (n - (c + 1))) = brk P n (limO lb L) vl := by rw [← hB, e32, an_s h28, decide_eq_true h41]; rfl
            refine g_iconst K (v := 1) d_M_isBroken_44 (by decide) ?_
            refine g_goto K (tgt := 49) d_M_isBroken_45 (by decide) ?_
            refine g_lv K [0, 1, 2, 3, 4] rfl (J49 true h28 hb2)
  have J18 : ∀ (b0 : Bool), (b0 = lmb (limO lb L) (sp P vl)) → G 18 [(0, .ref (a 0)), (1, .int (bZ lb)), (2, .int L)] [.int (bZ b0)] (MW a g P I F) := by
    intro b0 hb0
    refine g_istore_n (lv' := [(3, _), (0, _), (1, _), (2, _)]) K d_M_isBroken_18 (by decide) rfl ?_
    refine g_iconst K (v := 0) d_M_isBroken_19 (by decide) ?_
    refine g_top K nI_0' ?_
    refine g_istore (lv' := [(4, _), (3, _), (0, _), (1, _), (2, _)]) K d_M_isBroken_20 (by decide) rfl ?_
    refine g_lv K [2, 3, 4, 1, 0] rfl (J22 _ 0 b0 (Nat.lt_succ_self _) (Nat.zero_le _) (by rw [hb0]; rfl))
  refine g_iload_n K 1 d_M_isBroken_0 rfl ?_
  refine g_if_eq K (tgt := 17) d_M_isBroken_1 (by decide) (fun c1 => ?_) (fun c1 => ?_)
  · have e1 := bZ_f c1
    refine g_iconst K (v := 0) d_M_isBroken_17 (by decide) ?_
    refine g_lv K [0, 1, 2] rfl (J18 false ?_)
    first | (rw [show limO lb L = none by rw [e1]; rfl]; rfl) | (rw [show limO lb L = some L.toInt by rw [e1]; rfl]; exact (decide_eq_false h10).symm)
  · have e1 := bZ_t c1
    have hs := sp_bd hp vl
    have hl := hL e1
    refine g_iload_n K 2 d_M_isBroken_4 rfl ?_
    refine g_aload_n K 0 d_M_isBroken_5 rfl ?_
    refine g_callW (q0 := 0) K (c_M_cost l D g a P I F hp hvi hb) mf_M_cost im_M_cost se_M_cost ml_M_85 (by decide) rfl rfl (Nat.le_of_ble_eq_true rfl) d_M_isBroken_6 (fun v w1 hq => ?_) rfl
    obtain ⟨rfl, rfl⟩ := hq
    refine g_ri ?_
    refine g_isub K d_M_isBroken_9 ?_
    refine g_if_ge K (tgt := 17) d_M_isBroken_10 (by decide) (fun c10 => ?_) (fun c10 => ?_)
    · have h10 : ¬ L.toInt - sp P vl < 0 := by rw [i_le, i_0, i_sub (by rw [i_of (by omega) (by omega)]; omega) (by rw [i_of (by omega) (by omega)]; omega), i_of (by omega) (by omega)] at c10; omega
      refine g_iconst K (v := 0) d_M_isBroken_17 (by decide) ?_
      refine g_lv K [0, 1, 2] rfl (J18 false ?_)
      first | (rw [show limO lb L = none by rw [e1]; rfl]; rfl) | (rw [show limO lb L = some L.toInt by rw [e1]; rfl]; exact (decide_eq_false h10).symm)
    · have h10 : L.toInt - sp P vl < 0 := by rw [i_le, i_0, i_sub (by rw [i_of (by omega) (by omega)]; omega) (by rw [i_of (by omega) (by omega)]; omega), i_of (by omega) (by omega)] at c10; omega
      refine g_iconst K (v := 1) d_M_isBroken_13 (by decide) ?_
      refine g_goto K (tgt := 18) d_M_isBroken_14 (by decide) ?_
      refine g_lv K [0, 1, 2] rfl (J18 true (by rw [show limO lb L = some L.toInt by rw [e1]; rfl]; exact (decide_eq_true h10).symm))
theorem d_M_forced_0 : decode b_M_forced 0 = .ok (.iconst 0, 1) := by decide +kernel
theorem d_M_forced_1 : decode b_M_forced 1 = .ok (.istore_n 3, 1) := by decide +kernel
theorem d_M_forced_2 : decode b_M_forced 2 = .ok (.iload_n 3, 1) := by decide +kernel
theorem d_M_forced_3 : decode b_M_forced 3 = .ok (.aload_n 0, 1) := by decide +kernel
theorem d_M_forced_4 : decode b_M_forced 4 = .ok (.getfield 65, 3) := by decide +kernel
theorem d_M_forced_7 : decode b_M_forced 7 = .ok (.if_icmp .ge 102, 3) := by decide +kernel
theorem d_M_forced_10 : decode b_M_forced 10 = .ok (.aload_n 0, 1) := by decide +kernel
theorem d_M_forced_11 : decode b_M_forced 11 = .ok (.iload_n 3, 1) := by decide +kernel
theorem d_M_forced_12 : decode b_M_forced 12 = .ok (.invokevirtual 89, 3) := by decide +kernel
theorem d_M_forced_15 : decode b_M_forced 15 = .ok (.istore 4, 2) := by decide +kernel
theorem d_M_forced_17 : decode b_M_forced 17 = .ok (.aload_n 0, 1) := by decide +kernel
theorem d_M_forced_18 : decode b_M_forced 18 = .ok (.getfield 19, 3) := by decide +kernel
theorem d_M_forced_21 : decode b_M_forced 21 = .ok (.iload_n 3, 1) := by decide +kernel
theorem d_M_forced_22 : decode b_M_forced 22 = .ok (.iaload, 1) := by decide +kernel
theorem d_M_forced_23 : decode b_M_forced 23 = .ok (.istore 5, 2) := by decide +kernel
theorem d_M_forced_25 : decode b_M_forced 25 = .ok (.iload 5, 2) := by decide +kernel
theorem d_M_forced_27 : decode b_M_forced 27 = .ok (.aload_n 0, 1) := by decide +kernel
theorem d_M_forced_28 : decode b_M_forced 28 = .ok (.getfield 19, 3) := by decide +kernel
theorem d_M_forced_31 : decode b_M_forced 31 = .ok (.iload_n 3, 1) := by decide +kernel
theorem d_M_forced_32 : decode b_M_forced 32 = .ok (.iconst 1, 1) := by decide +kernel
theorem d_M_forced_33 : decode b_M_forced 33 = .ok (.iadd, 1) := by decide +kernel
theorem d_M_forced_34 : decode b_M_forced 34 = .ok (.iaload, 1) := by decide +kernel
theorem d_M_forced_35 : decode b_M_forced 35 = .ok (.if_icmp .ge 68, 3) := by decide +kernel
theorem d_M_forced_38 : decode b_M_forced 38 = .ok (.aload_n 0, 1) := by decide +kernel
theorem d_M_forced_39 : decode b_M_forced 39 = .ok (.getfield 16, 3) := by decide +kernel
theorem d_M_forced_42 : decode b_M_forced 42 = .ok (.iload 5, 2) := by decide +kernel
theorem d_M_forced_44 : decode b_M_forced 44 = .ok (.iaload, 1) := by decide +kernel
theorem d_M_forced_45 : decode b_M_forced 45 = .ok (.ifCond .ge 14, 3) := by decide +kernel
theorem d_M_forced_48 : decode b_M_forced 48 = .ok (.aload_n 0, 1) := by decide +kernel
theorem d_M_forced_49 : decode b_M_forced 49 = .ok (.getfield 16, 3) := by decide +kernel
theorem d_M_forced_52 : decode b_M_forced 52 = .ok (.iload 5, 2) := by decide +kernel
theorem d_M_forced_54 : decode b_M_forced 54 = .ok (.iaload, 1) := by decide +kernel
theorem d_M_forced_55 : decode b_M_forced 55 = .ok (.ineg, 1) := by decide +kernel
theorem d_M_forced_56 : decode b_M_forced 56 = .ok (.goto 10, 3) := by decide +kernel
theorem d_M_forced_59 : decode b_M_forced 59 = .ok (.aload_n 0, 1) := by decide +kernel
theorem d_M_forced_60 : decode b_M_forced 60 = .ok (.getfield 16, 3) := by decide +kernel
theorem d_M_forced_63 : decode b_M_forced 63 = .ok (.iload 5, 2) := by decide +kernel
theorem d_M_forced_65 : decode b_M_forced 65 = .ok (.iaload, 1) := by decide +kernel
theorem d_M_forced_66 : decode b_M_forced 66 = .ok (.istore 6, 2) := by decide +kernel
theorem d_M_forced_68 : decode b_M_forced 68 = .ok (.aload_n 0, 1) := by decide +kernel
theorem d_M_forced_69 : decode b_M_forced 69 = .ok (.iload 6, 2) := by decide +kernel
theorem d_M_forced_71 : decode b_M_forced 71 = .ok (.invokevirtual 75, 3) := by decide +kernel
theorem d_M_forced_74 : decode b_M_forced 74 = .ok (.ifCond .ne 23, 3) := by decide +kernel
theorem d_M_forced_77 : decode b_M_forced 77 = .ok (.aload_n 0, 1) := by decide +kernel
theorem d_M_forced_78 : decode b_M_forced 78 = .ok (.getfield 13, 3) := by decide +kernel
theorem d_M_forced_81 : decode b_M_forced 81 = .ok (.iload 5, 2) := by decide +kernel
theorem d_M_forced_83 : decode b_M_forced 83 = .ok (.iaload, 1) := by decide +kernel
theorem d_M_forced_84 : decode b_M_forced 84 = .ok (.iload 4, 2) := by decide +kernel
theorem d_M_forced_86 : decode b_M_forced 86 = .ok (.if_icmp .le 11, 3) := by decide +kernel
theorem d_M_forced_89 : decode b_M_forced 89 = .ok (.aload_n 0, 1) := by decide +kernel
theorem d_M_forced_90 : decode b_M_forced 90 = .ok (.getfield 16, 3) := by decide +kernel
theorem d_M_forced_93 : decode b_M_forced 93 = .ok (.iload 5, 2) := by decide +kernel
theorem d_M_forced_95 : decode b_M_forced 95 = .ok (.iaload, 1) := by decide +kernel
theorem d_M_forced_96 : decode b_M_forced 96 = .ok (.ireturn, 1) := by decide +kernel
theorem d_M_forced_97 : decode b_M_forced 97 = .ok (.iinc 5 1, 3) := by decide +kernel
theorem d_M_forced_100 : decode b_M_forced 100 = .ok (.goto (-75), 3) := by decide +kernel
theorem d_M_forced_103 : decode b_M_forced 103 = .ok (.iinc 3 1, 3) := by decide +kernel
theorem d_M_forced_106 : decode b_M_forced 106 = .ok (.goto (-104), 3) := by decide +kernel
theorem d_M_forced_109 : decode b_M_forced 109 = .ok (.iconst 1, 1) := by decide +kernel
theorem d_M_forced_110 : decode b_M_forced 110 = .ok (.istore_n 3, 1) := by decide +kernel
theorem d_M_forced_111 : decode b_M_forced 111 = .ok (.iload_n 3, 1) := by decide +kernel
theorem d_M_forced_112 : decode b_M_forced 112 = .ok (.bipush 16, 2) := by decide +kernel
theorem d_M_forced_114 : decode b_M_forced 114 = .ok (.if_icmp .gt 48, 3) := by decide +kernel
theorem d_M_forced_117 : decode b_M_forced 117 = .ok (.iload_n 1, 1) := by decide +kernel
theorem d_M_forced_118 : decode b_M_forced 118 = .ok (.ifCond .eq 44, 3) := by decide +kernel
theorem d_M_forced_121 : decode b_M_forced 121 = .ok (.aload_n 0, 1) := by decide +kernel
theorem d_M_forced_122 : decode b_M_forced 122 = .ok (.iload_n 3, 1) := by decide +kernel
theorem d_M_forced_123 : decode b_M_forced 123 = .ok (.invokevirtual 75, 3) := by decide +kernel
theorem d_M_forced_126 : decode b_M_forced 126 = .ok (.ifCond .ne 30, 3) := by decide +kernel
theorem d_M_forced_129 : decode b_M_forced 129 = .ok (.aload_n 0, 1) := by decide +kernel
theorem d_M_forced_130 : decode b_M_forced 130 = .ok (.getfield 7, 3) := by decide +kernel
theorem d_M_forced_133 : decode b_M_forced 133 = .ok (.iload_n 3, 1) := by decide +kernel
theorem d_M_forced_134 : decode b_M_forced 134 = .ok (.iaload, 1) := by decide +kernel
theorem d_M_forced_135 : decode b_M_forced 135 = .ok (.ifCond .le 21, 3) := by decide +kernel
theorem d_M_forced_138 : decode b_M_forced 138 = .ok (.aload_n 0, 1) := by decide +kernel
theorem d_M_forced_139 : decode b_M_forced 139 = .ok (.getfield 7, 3) := by decide +kernel
theorem d_M_forced_142 : decode b_M_forced 142 = .ok (.iload_n 3, 1) := by decide +kernel
theorem d_M_forced_143 : decode b_M_forced 143 = .ok (.iaload, 1) := by decide +kernel
theorem d_M_forced_144 : decode b_M_forced 144 = .ok (.iload_n 2, 1) := by decide +kernel
theorem d_M_forced_145 : decode b_M_forced 145 = .ok (.aload_n 0, 1) := by decide +kernel
theorem d_M_forced_146 : decode b_M_forced 146 = .ok (.invokevirtual 85, 3) := by decide +kernel
theorem d_M_forced_149 : decode b_M_forced 149 = .ok (.isub, 1) := by decide +kernel
theorem d_M_forced_150 : decode b_M_forced 150 = .ok (.if_icmp .le 6, 3) := by decide +kernel
theorem d_M_forced_153 : decode b_M_forced 153 = .ok (.iload_n 3, 1) := by decide +kernel
theorem d_M_forced_154 : decode b_M_forced 154 = .ok (.ineg, 1) := by decide +kernel
theorem d_M_forced_155 : decode b_M_forced 155 = .ok (.ireturn, 1) := by decide +kernel
theorem d_M_forced_156 : decode b_M_forced 156 = .ok (.iinc 3 1, 3) := by decide +kernel
theorem d_M_forced_159 : decode b_M_forced 159 = .ok (.goto (-48), 3) := by decide +kernel
theorem d_M_forced_162 : decode b_M_forced 162 = .ok (.iconst 0, 1) := by decide +kernel
theorem d_M_forced_163 : decode b_M_forced 163 = .ok (.ireturn, 1) := by decide +kernel
set_option maxHeartbeats 4000000 in
set_option maxRecDepth 100000 in
theorem c_M_forced (l : Launch) (D : va_G) (g : Nat → ClassId) (a : Nat → Nat) (P : Nat → Nat → Int32) (I : Nat → Int32) (F : Nat → Nat → Int32) {n k : Nat} (hp : PWF P n k) {vl : Nat → Int32} (hvi : VI vl) (hb : MB2 (I 11) (I 12) vl) {lb : Bool} {L : Int32} (hL : lb = true → -1 ≤ L.toInt ∧ L.toInt ≤ 1073741824) (hn : I 6 = nI n) : Ct l D g y_M_forced b_M_forced 7 (some .int) 3 [.ref (a 0), .int (bZ lb), .int L] (MW a g P I F) (fun r w => r = some (.int (frc P n (limO lb L) vl)) ∧ w = MW a g P I F) := by
  refine Ct.of (lv := [(0, _), (1, _), (2, _)]) (by decide) rfl (Nat.le_of_ble_eq_true rfl) rfl ?_
  intro G K
  have J111 : ∀ (N : Nat) (v : Nat), 17 - v < N → (1 ≤ v) → (v ≤ 17) → (lb = false → frc P n (limO lb L) vl = 0) → (lb = true → frc P n (limO lb L) vl = (fi (frV P L.toInt vl) v (17 - v)).getD 0) → G 111 [(0, .ref (a 0)), (1, .int (bZ lb)), (2, .int L), (3, .int (nI v))] [] (MW a g P I F) := by
    intro N
    induction N with
    | zero => intro v hm; exact absurd hm (Nat.not_lt_zero _)
    | succ N ih111 =>
      intro v hm111 h1 h2 hF hV
      have J156 : (v < 17) → (frV P L.toInt vl v = none) → G 156 [(0, .ref (a 0)), (1, .int (bZ lb)), (2, .int L), (3, .int (nI v))] [] (MW a g P I F) := by
        intro  h114 hN
        refine g_iinc (v := nI (v + 1)) (lv' := [(3, _), (0, _), (1, _), (2, _)]) K 3 d_M_forced_156 rfl (nI_1 v) (by decide) rfl ?_
        refine g_goto K (tgt := 111) d_M_forced_159 (by decide) ?_
        refine g_lv K [1, 2, 3, 0] rfl (ih111 (v + 1) (by omega) (by omega) (by omega) hF (fun e => by rw [hV e, fi_none h114 hN]))
      refine g_iload_n K 3 d_M_forced_111 rfl ?_
      refine g_bipush K (v := 16) d_M_forced_112 (by decide) ?_
      refine g_top K nI_16 ?_
      refine g_icmp_gt K (tgt := 162) d_M_forced_114 (by decide) (fun c114 => ?_) (fun c114 => ?_)
      · have h114 := (nI_ltI (by omega) (by omega)).mp c114
        refine g_iconst K (v := 0) d_M_forced_162 (by decide) ?_
        refine g_iret K d_M_forced_163 (?_)
        first | exact ⟨by rw [hF e1], rfl⟩ | (by_cases hlb : lb = true; exact ⟨by rw [hV hlb, fi_e (by omega)]; rfl, rfl⟩; exact ⟨by rw [hF (by simpa using hlb)], rfl⟩)
      · have h114 : v < 17 := Nat.lt_of_not_le (fun h => c114 ((nI_ltI (by omega) (by omega)).mpr h))
        refine g_iload_n K 1 d_M_forced_117 rfl ?_
        refine g_if_eq K (tgt := 162) d_M_forced_118 (by decide) (fun c118 => ?_) (fun c118 => ?_)
        · have e1 := bZ_f c118
          refine g_iconst K (v := 0) d_M_forced_162 (by decide) ?_
          refine g_iret K d_M_forced_163 (?_)
          first | exact ⟨by rw [hF e1], rfl⟩ | (by_cases hlb : lb = true; exact ⟨by rw [hV hlb, fi_e (by omega)]; rfl, rfl⟩; exact ⟨by rw [hF (by simpa using hlb)], rfl⟩)
        · have e1 := bZ_t c118
          have hs := sp_bd hp vl
          have hl := hL e1
          have h0 := hp.2.2.2.1 v (by omega)
          refine g_aload_n K 0 d_M_forced_121 rfl ?_
          refine g_iload_n K 3 d_M_forced_122 rfl ?_
          refine g_callW (q0 := 0) K (c_M_isSet l D g a P I F hb h1 (by omega)) mf_M_isSet im_M_isSet se_M_isSet ml_M_75 (by decide) rfl rfl (Nat.le_of_ble_eq_true rfl) d_M_forced_123 (fun v w1 hq => ?_) rfl
          obtain ⟨rfl, rfl⟩ := hq
          refine g_ri ?_
          refine g_if_ne K (tgt := 156) d_M_forced_126 (by decide) (fun c126 => ?_) (fun c126 => ?_)
          · have h126 := of_decide_eq_true (bZ_t c126)
            refine g_lv K [0, 1, 2, 3] rfl (J156 h114 (if_neg (fun h => h126 h.1)))
          · have h126 : vl v = -1 := Decidable.of_not_not (of_decide_eq_false (bZ_f c126))
            refine g_aload_n K 0 d_M_forced_129 rfl ?_
            refine gM_get K 1 fl_M_7 (by decide) rfl d_M_forced_130 ?_
            refine g_iload_n K 3 d_M_forced_133 rfl ?_
            refine g_iald K 1 (v) rfl rfl (by omega) d_M_forced_134 ?_
            refine g_if_le K (tgt := 156) d_M_forced_135 (by decide) (fun c135 => ?_) (fun c135 => ?_)
            · have h135 : ¬ 0 < (P 0 v).toInt := by rw [i_le, i_0] at c135; omega
              refine g_lv K [0, 1, 2, 3] rfl (J156 h114 (if_neg (fun h => h135 h.2.1)))
            · have h135 : 0 < (P 0 v).toInt := by rw [i_le, i_0] at c135; omega
              refine g_aload_n K 0 d_M_forced_138 rfl ?_
              refine gM_get K 1 fl_M_7 (by decide) rfl d_M_forced_139 ?_
              refine g_iload_n K 3 d_M_forced_142 rfl ?_
              refine g_iald K 1 (v) rfl rfl (by omega) d_M_forced_143 ?_
              refine g_iload_n K 2 d_M_forced_144 rfl ?_
              refine g_aload_n K 0 d_M_forced_145 rfl ?_
              refine g_callW (q0 := 0) K (c_M_cost l D g a P I F hp hvi hb) mf_M_cost im_M_cost se_M_cost ml_M_85 (by decide) rfl rfl (Nat.le_of_ble_eq_true rfl) d_M_forced_146 (fun v w1 hq => ?_) rfl
              obtain ⟨rfl, rfl⟩ := hq
              refine g_ri ?_
              refine g_isub K d_M_forced_149 ?_
              refine g_icmp_le K (tgt := 156) d_M_forced_150 (by decide) (fun c150 => ?_) (fun c150 => ?_)
              · have h150 : ¬ L.toInt - sp P vl < (P 0 v).toInt := by rw [i_le, i_sub (by rw [i_of (by omega) (by omega)]; omega) (by rw [i_of (by omega) (by omega)]; omega), i_of (by omega) (by omega)] at c150; omega
                refine g_lv K [0, 1, 2, 3] rfl (J156 h114 (if_neg (fun h => h150 h.2.2)))
              · have h150 : L.toInt - sp P vl < (P 0 v).toInt := by rw [i_le, i_sub (by rw [i_of (by omega) (by omega)]; omega) (by rw [i_of (by omega) (by omega)]; omega), i_of (by omega) (by omega)] at c150; omega
                refine g_iload_n K 3 d_M_forced_153 rfl ?_
                refine g_ineg K d_M_forced_154 ?_
                refine g_iret K d_M_forced_155 (⟨by rw [hV e1, fi_some h114 (if_pos ⟨h126, h135, h150⟩)]; rfl, rfl⟩)
  have J2 : ∀ (N : Nat) (c : Nat), n - c < N → (c ≤ n) → (frc P n (limO lb L) vl = match fi (frC P vl) c (n - c) with | some x => x | none => frL P (limO lb L) vl) → G 2 [(0, .ref (a 0)), (1, .int (bZ lb)), (2, .int L), (3, .int (nI c))] [] (MW a g P I F) := by
    intro N
    induction N with
    | zero => intro c hm; exact absurd hm (Nat.not_lt_zero _)
    | succ N ih2 =>
      intro c hm2 hc hR
      have J25 : ∀ (N : Nat) (t : Nat), stn P (c + 1) - t < N → (c < n) → (t ≤ 120) → (frC P vl c = fi (frT P vl c) t (stn P (c + 1) - t)) → G 25 [(0, .ref (a 0)), (1, .int (bZ lb)), (2, .int L), (3, .int (nI c)), (4, .int (Int32.ofInt (sk P vl c))), (5, .int (nI t))] [] (MW a g P I F) := by
        intro N
        induction N with
        | zero => intro t hm; exact absurd hm (Nat.not_lt_zero _)
        | succ N ih25 =>
          intro t hm25 h7 ht hT
          have J97 : (t < stn P (c + 1)) → (frT P vl c t = none) → G 97 [(0, .ref (a 0)), (1, .int (bZ lb)), (2, .int L), (3, .int (nI c)), (4, .int (Int32.ofInt (sk P vl c))), (5, .int (nI t))] [] (MW a g P I F) := by
            intro  h35 hN
            refine g_iinc (v := nI (t + 1)) (lv' := [(5, _), (0, _), (1, _), (2, _), (3, _), (4, _)]) K 5 d_M_forced_97 rfl (nI_1 t) (by decide) rfl ?_
            refine g_goto K (tgt := 25) d_M_forced_100 (by decide) ?_
            refine g_lv K [1, 2, 3, 4, 5, 0] rfl (ih25 (t + 1) (by omega) h7 (by have := (hp.2.2.1 (c + 1) h7).2; have := hp.2.1; omega) (by rw [hT, fi_none h35 hN]))
          have J66 : (t < stn P (c + 1)) → (1 ≤ vx (P 4 t) ∧ vx (P 4 t) ≤ 16) → (1 ≤ (P 3 t).toInt ∧ (P 3 t).toInt ≤ 32767) → G 66 [(0, .ref (a 0)), (1, .int (bZ lb)), (2, .int L), (3, .int (nI c)), (4, .int (Int32.ofInt (sk P vl c))), (5, .int (nI t))] [.int (nI (vx (P 4 t)))] (MW a g P I F) := by
            intro  h35 hl hcf
            refine g_istore (lv' := [(6, _), (0, _), (1, _), (2, _), (3, _), (4, _), (5, _)]) K d_M_forced_66 (by decide) rfl ?_
            refine g_aload_n K 1 d_M_forced_68 rfl ?_
            refine g_iload K 0 d_M_forced_69 rfl ?_
            refine g_callW (q0 := 0) K (c_M_isSet l D g a P I F hb hl.1 hl.2) mf_M_isSet im_M_isSet se_M_isSet ml_M_75 (by decide) rfl rfl (Nat.le_of_ble_eq_true rfl) d_M_forced_71 (fun v w1 hq => ?_) rfl
            obtain ⟨rfl, rfl⟩ := hq
            refine g_ri ?_
            refine g_if_ne K (tgt := 97) d_M_forced_74 (by decide) (fun c74 => ?_) (fun c74 => ?_)
            · have h74 := of_decide_eq_true (bZ_t c74)
              refine g_lv K [1, 2, 3, 4, 5, 6] rfl (J97 h35 (if_neg (fun h => h74 h.1)))
            · have h74 : vl (vx (P 4 t)) = -1 := Decidable.of_not_not (of_decide_eq_false (bZ_f c74))
              refine g_aload_n K 1 d_M_forced_77 rfl ?_
              refine gM_get K 2 fl_M_13 (by decide) rfl d_M_forced_78 ?_
              refine g_iload K 6 d_M_forced_81 rfl ?_
              refine g_iald K 2 (t) rfl rfl (by have := (hp.2.2.1 (c + 1) h7).2; have := hp.2.1; omega) d_M_forced_83 ?_
              refine g_iload K 5 d_M_forced_84 rfl ?_
              refine g_icmp_le K (tgt := 97) d_M_forced_86 (by decide) (fun c86 => ?_) (fun c86 => ?_)
              · have h86 : ¬ sk P vl c < (P 3 t).toInt := by have := sk_bd hp vl h7; rw [i_le, i_of (by omega) (by omega)] at c86; omega
                refine g_lv K [1, 2, 3, 4, 5, 6] rfl (J97 h35 (if_neg (fun h => h86 h.2)))
              · have h86 : sk P vl c < (P 3 t).toInt := by have := sk_bd hp vl h7; rw [i_le, i_of (by omega) (by omega)] at c86; omega
                refine g_aload_n K 1 d_M_forced_89 rfl ?_
                refine gM_get K 3 fl_M_16 (by decide) rfl d_M_forced_90 ?_
                refine g_iload K 6 d_M_forced_93 rfl ?_
                refine g_iald K 3 (t) rfl rfl (by have := (hp.2.2.1 (c + 1) h7).2; have := hp.2.1; omega) d_M_forced_95 ?_
                refine g_iret K d_M_forced_96 (⟨by rw [hR, fi_some h7 (by rw [hT, fi_some h35 (if_pos ⟨h74, h86⟩)])], rfl⟩)
          refine g_iload K 5 d_M_forced_25 rfl ?_
          refine g_aload_n K 0 d_M_forced_27 rfl ?_
          refine gM_get K 4 fl_M_19 (by decide) rfl d_M_forced_28 ?_
          refine g_iload_n K 3 d_M_forced_31 rfl ?_
          refine g_iconst K (v := 1) d_M_forced_32 (by decide) ?_
          refine g_iadd K d_M_forced_33 ?_
          refine g_iald K 4 (c + 1) rfl (nI_1 c) (by have := hp.1; omega) d_M_forced_34 ?_
          have hk1 := (hp.2.2.1 (c + 1) h7).2
          have hk2 := hp.2.1
          refine g_top K (hp.2.2.1 (c + 1) h7).1 ?_
          refine g_icmp_ge K (tgt := 103) d_M_forced_35 (by decide) (fun c35 => ?_) (fun c35 => ?_)
          · have h35 := (nI_leI (by omega) (by omega)).mp c35
            refine g_iinc (v := nI (c + 1)) (lv' := [(3, _), (0, _), (1, _), (2, _), (4, _), (5, _)]) K 3 d_M_forced_103 rfl (nI_1 c) (by decide) rfl ?_
            refine g_goto K (tgt := 2) d_M_forced_106 (by decide) ?_
            refine g_lv K [1, 2, 3, 0] rfl (ih2 (c + 1) (by omega) (by omega) (by rw [hR, fi_none h7 (by rw [hT, fi_e h35])]))
          · have h35 : t < stn P (c + 1) := Nat.lt_of_not_le (fun h => c35 ((nI_leI (by omega) (by omega)).mpr h))
            have hl := (hp.2.2.2.2.2 t (by omega)).2
            have hcf := (hp.2.2.2.2.2 t (by omega)).1
            refine g_aload_n K 0 d_M_forced_38 rfl ?_
            refine gM_get K 3 fl_M_16 (by decide) rfl d_M_forced_39 ?_
            refine g_iload K 5 d_M_forced_42 rfl ?_
            refine g_iald K 3 (t) rfl rfl (by omega) d_M_forced_44 ?_
            refine g_if_ge K (tgt := 59) d_M_forced_45 (by decide) (fun c45 => ?_) (fun c45 => ?_)
            · refine g_aload_n K 0 d_M_forced_59 rfl ?_
              refine gM_get K 3 fl_M_16 (by decide) rfl d_M_forced_60 ?_
              refine g_iload K 5 d_M_forced_63 rfl ?_
              refine g_iald K 3 (t) rfl rfl (by omega) d_M_forced_65 ?_
              refine g_top K (lit_pos' hl.2 c45) ?_
              refine g_lv K [0, 1, 2, 3, 4, 5] rfl (J66 h35 hl hcf)
            · refine g_aload_n K 0 d_M_forced_48 rfl ?_
              refine gM_get K 3 fl_M_16 (by decide) rfl d_M_forced_49 ?_
              refine g_iload K 5 d_M_forced_52 rfl ?_
              refine g_iald K 3 (t) rfl rfl (by omega) d_M_forced_54 ?_
              refine g_ineg K d_M_forced_55 ?_
              refine g_goto K (tgt := 66) d_M_forced_56 (by decide) ?_
              refine g_top K (lit_neg' hl.2 c45) ?_
              refine g_lv K [0, 1, 2, 3, 4, 5] rfl (J66 h35 hl hcf)
      refine g_iload_n K 3 d_M_forced_2 rfl ?_
      refine g_aload_n K 0 d_M_forced_3 rfl ?_
      refine gM_get K 6 fl_M_65 (by decide) rfl d_M_forced_4 ?_
      have hk1 := hp.1
      refine g_top K hn ?_
      refine g_icmp_ge K (tgt := 109) d_M_forced_7 (by decide) (fun c7 => ?_) (fun c7 => ?_)
      · have h7 := (nI_leI (by omega) (by omega)).mp c7
        refine g_iconst K (v := 1) d_M_forced_109 (by decide) ?_
        refine g_top K nI_1' ?_
        refine g_istore_n (lv' := [(3, _), (0, _), (1, _), (2, _)]) K d_M_forced_110 (by decide) rfl ?_
        refine g_lv K [1, 2, 3, 0] rfl (J111 _ 1 (Nat.lt_succ_self _) (by omega) (by omega) (fun e => ?_) (fun e => ?_))
        · rw [hR, fi_e h7, e]; rfl
        · rw [hR, fi_e h7, e]; rfl
      · have h7 : c < n := Nat.lt_of_not_le (fun h => c7 ((nI_leI (by omega) (by omega)).mpr h))
        refine g_aload_n K 0 d_M_forced_10 rfl ?_
        refine g_iload_n K 3 d_M_forced_11 rfl ?_
        refine g_callW (q0 := 0) K (c_M_slack l D g a P I F hp hvi hb h7) mf_M_slack im_M_slack se_M_slack ml_M_89 (by decide) rfl rfl (Nat.le_of_ble_eq_true rfl) d_M_forced_12 (fun v w1 hq => ?_) rfl
        obtain ⟨rfl, rfl⟩ := hq
        refine g_ri ?_
        refine g_istore (lv' := [(4, _), (0, _), (1, _), (2, _), (3, _)]) K d_M_forced_15 (by decide) rfl ?_
        refine g_aload_n K 1 d_M_forced_17 rfl ?_
        refine gM_get K 4 fl_M_19 (by decide) rfl d_M_forced_18 ?_
        refine g_iload_n K 4 d_M_forced_21 rfl ?_
        refine g_iald K 4 (c) rfl rfl (by have := hp.1; omega) d_M_forced_22 ?_
        refine g_top K (hp.2.2.1 c (by omega)).1 ?_
        refine g_istore (lv' := [(5, _), (4, _), (0, _), (1, _), (2, _), (3, _)]) K d_M_forced_23 (by decide) rfl ?_
        refine g_lv K [2, 3, 4, 5, 1, 0] rfl (J25 _ (stn P c) (Nat.lt_succ_self _) h7 (by have := (hp.2.2.1 c (by omega)).2; have := hp.2.1; omega) rfl)
  refine g_iconst K (v := 0) d_M_forced_0 (by decide) ?_
  refine g_top K nI_0' ?_
  refine g_istore_n (lv' := [(3, _), (0, _), (1, _), (2, _)]) K d_M_forced_1 (by decide) rfl ?_
  refine g_lv K [1, 2, 3, 0] rfl (J2 _ 0 (Nat.lt_succ_self _) (Nat.zero_le _) rfl)
theorem d_M_put_0 : decode b_M_put 0 = .ok (.aload_n 0, 1) := by decide +kernel
theorem d_M_put_1 : decode b_M_put 1 = .ok (.aload_n 0, 1) := by decide +kernel
theorem d_M_put_2 : decode b_M_put 2 = .ok (.getfield 69, 3) := by decide +kernel
theorem d_M_put_5 : decode b_M_put 5 = .ok (.iconst 1, 1) := by decide +kernel
theorem d_M_put_6 : decode b_M_put 6 = .ok (.iload_n 1, 1) := by decide +kernel
theorem d_M_put_7 : decode b_M_put 7 = .ok (.iconst 1, 1) := by decide +kernel
theorem d_M_put_8 : decode b_M_put 8 = .ok (.isub, 1) := by decide +kernel
theorem d_M_put_9 : decode b_M_put 9 = .ok (.ishl, 1) := by decide +kernel
theorem d_M_put_10 : decode b_M_put 10 = .ok (.ior, 1) := by decide +kernel
theorem d_M_put_11 : decode b_M_put 11 = .ok (.putfield 69, 3) := by decide +kernel
theorem d_M_put_14 : decode b_M_put 14 = .ok (.aload_n 0, 1) := by decide +kernel
theorem d_M_put_15 : decode b_M_put 15 = .ok (.iload_n 2, 1) := by decide +kernel
theorem d_M_put_16 : decode b_M_put 16 = .ok (.ifCond .eq 16, 3) := by decide +kernel
theorem d_M_put_19 : decode b_M_put 19 = .ok (.aload_n 0, 1) := by decide +kernel
theorem d_M_put_20 : decode b_M_put 20 = .ok (.getfield 72, 3) := by decide +kernel
theorem d_M_put_23 : decode b_M_put 23 = .ok (.iconst 1, 1) := by decide +kernel
theorem d_M_put_24 : decode b_M_put 24 = .ok (.iload_n 1, 1) := by decide +kernel
theorem d_M_put_25 : decode b_M_put 25 = .ok (.iconst 1, 1) := by decide +kernel
theorem d_M_put_26 : decode b_M_put 26 = .ok (.isub, 1) := by decide +kernel
theorem d_M_put_27 : decode b_M_put 27 = .ok (.ishl, 1) := by decide +kernel
theorem d_M_put_28 : decode b_M_put 28 = .ok (.ior, 1) := by decide +kernel
theorem d_M_put_29 : decode b_M_put 29 = .ok (.goto 15, 3) := by decide +kernel
theorem d_M_put_32 : decode b_M_put 32 = .ok (.aload_n 0, 1) := by decide +kernel
theorem d_M_put_33 : decode b_M_put 33 = .ok (.getfield 72, 3) := by decide +kernel
theorem d_M_put_36 : decode b_M_put 36 = .ok (.iconst 1, 1) := by decide +kernel
theorem d_M_put_37 : decode b_M_put 37 = .ok (.iload_n 1, 1) := by decide +kernel
theorem d_M_put_38 : decode b_M_put 38 = .ok (.iconst 1, 1) := by decide +kernel
theorem d_M_put_39 : decode b_M_put 39 = .ok (.isub, 1) := by decide +kernel
theorem d_M_put_40 : decode b_M_put 40 = .ok (.ishl, 1) := by decide +kernel
theorem d_M_put_41 : decode b_M_put 41 = .ok (.iconst (-1), 1) := by decide +kernel
theorem d_M_put_42 : decode b_M_put 42 = .ok (.ixor, 1) := by decide +kernel
theorem d_M_put_43 : decode b_M_put 43 = .ok (.iand, 1) := by decide +kernel
theorem d_M_put_44 : decode b_M_put 44 = .ok (.putfield 72, 3) := by decide +kernel
theorem d_M_put_47 : decode b_M_put 47 = .ok (.return_, 1) := by decide +kernel
set_option maxHeartbeats 4000000 in
set_option maxRecDepth 100000 in
theorem c_M_put (l : Launch) (D : va_G) (g : Nat → ClassId) (a : Nat → Nat) (P : Nat → Nat → Int32) (I : Nat → Int32) (F : Nat → Nat → Int32) {vl : Nat → Int32} (hb : MB2 (I 11) (I 12) vl) {v : Nat} (h1 : 1 ≤ v) (h2 : v ≤ 16) (one : Bool) : Ct l D g y_M_put b_M_put 3 none 0 [.ref (a 0), .int (nI v), .int (bZ one)] (MW a g P I F) (fun r w => r = none ∧ ∃ s o, w = MW a g P (upd (upd I 11 s) 12 o) F ∧ MB2 s o (upd vl v (bZ one))) := by
  refine Ct.of (lv := [(0, _), (1, _), (2, _)]) (by decide) rfl (Nat.le_of_ble_eq_true rfl) rfl ?_
  intro G K
  refine g_aload_n K 0 d_M_put_0 rfl ?_
  refine g_aload_n K 0 d_M_put_1 rfl ?_
  refine gM_get K 11 fl_M_69 (by decide) rfl d_M_put_2 ?_
  refine g_iconst K (v := 1) d_M_put_5 (by decide) ?_
  refine g_iload_n K 1 d_M_put_6 rfl ?_
  refine g_iconst K (v := 1) d_M_put_7 (by decide) ?_
  refine g_isub K d_M_put_8 ?_
  refine g_ishl K d_M_put_9 ?_
  refine g_ior K d_M_put_10 ?_
  refine gM_put_set K fl_M_69 d_M_put_11 ?_
  refine g_aload_n K 0 d_M_put_14 rfl ?_
  refine g_iload_n K 2 d_M_put_15 rfl ?_
  refine g_if_eq K (tgt := 32) d_M_put_16 (by decide) (fun c16 => ?_) (fun c16 => ?_)
  · have e1 := bZ_f c16
    refine g_aload_n K 0 d_M_put_32 rfl ?_
    refine gM_get K 12 fl_M_72 (by decide) rfl d_M_put_33 ?_
    refine g_iconst K (v := 1) d_M_put_36 (by decide) ?_
    refine g_iload_n K 1 d_M_put_37 rfl ?_
    refine g_iconst K (v := 1) d_M_put_38 (by decide) ?_
    refine g_isub K d_M_put_39 ?_
    refine g_ishl K d_M_put_40 ?_
    refine g_iconst K (v := -1) d_M_put_41 (by decide) ?_
    refine g_ixor K d_M_put_42 ?_
    refine g_iand K d_M_put_43 ?_
    refine gM_put_ones K fl_M_72 d_M_put_44 ?_
    refine g_vret K d_M_put_47 (?_)
    first | exact ⟨rfl, _, _, rfl, by rw [e1]; exact mb_one hb h1 (by omega)⟩ | exact ⟨rfl, _, _, rfl, by rw [e1]; exact mb_zero hb h1 (by omega)⟩
  · have e1 := bZ_t c16
    refine g_aload_n K 0 d_M_put_19 rfl ?_
    refine gM_get K 12 fl_M_72 (by decide) rfl d_M_put_20 ?_
    refine g_iconst K (v := 1) d_M_put_23 (by decide) ?_
    refine g_iload_n K 1 d_M_put_24 rfl ?_
    refine g_iconst K (v := 1) d_M_put_25 (by decide) ?_
    refine g_isub K d_M_put_26 ?_
    refine g_ishl K d_M_put_27 ?_
    refine g_ior K d_M_put_28 ?_
    refine g_goto K (tgt := 44) d_M_put_29 (by decide) ?_
    refine gM_put_ones K fl_M_72 d_M_put_44 ?_
    refine g_vret K d_M_put_47 (?_)
    first | exact ⟨rfl, _, _, rfl, by rw [e1]; exact mb_one hb h1 (by omega)⟩ | exact ⟨rfl, _, _, rfl, by rw [e1]; exact mb_zero hb h1 (by omega)⟩
theorem d_M_write_0 : decode b_M_write 0 = .ok (.aload_n 0, 1) := by decide +kernel
theorem d_M_write_1 : decode b_M_write 1 = .ok (.getfield 93, 3) := by decide +kernel
theorem d_M_write_4 : decode b_M_write 4 = .ok (.sipush 400, 3) := by decide +kernel
theorem d_M_write_7 : decode b_M_write 7 = .ok (.if_icmp .ne 10, 3) := by decide +kernel
theorem d_M_write_10 : decode b_M_write 10 = .ok (.aload_n 0, 1) := by decide +kernel
theorem d_M_write_11 : decode b_M_write 11 = .ok (.iconst 1, 1) := by decide +kernel
theorem d_M_write_12 : decode b_M_write 12 = .ok (.putfield 96, 3) := by decide +kernel
theorem d_M_write_15 : decode b_M_write 15 = .ok (.iconst 0, 1) := by decide +kernel
theorem d_M_write_16 : decode b_M_write 16 = .ok (.ireturn, 1) := by decide +kernel
theorem d_M_write_17 : decode b_M_write 17 = .ok (.aload_n 0, 1) := by decide +kernel
theorem d_M_write_18 : decode b_M_write 18 = .ok (.getfield 36, 3) := by decide +kernel
theorem d_M_write_21 : decode b_M_write 21 = .ok (.aload_n 0, 1) := by decide +kernel
theorem d_M_write_22 : decode b_M_write 22 = .ok (.getfield 93, 3) := by decide +kernel
theorem d_M_write_25 : decode b_M_write 25 = .ok (.iload_n 1, 1) := by decide +kernel
theorem d_M_write_26 : decode b_M_write 26 = .ok (.iastore, 1) := by decide +kernel
theorem d_M_write_27 : decode b_M_write 27 = .ok (.aload_n 0, 1) := by decide +kernel
theorem d_M_write_28 : decode b_M_write 28 = .ok (.dup, 1) := by decide +kernel
theorem d_M_write_29 : decode b_M_write 29 = .ok (.getfield 93, 3) := by decide +kernel
theorem d_M_write_32 : decode b_M_write 32 = .ok (.iconst 1, 1) := by decide +kernel
theorem d_M_write_33 : decode b_M_write 33 = .ok (.iadd, 1) := by decide +kernel
theorem d_M_write_34 : decode b_M_write 34 = .ok (.putfield 93, 3) := by decide +kernel
theorem d_M_write_37 : decode b_M_write 37 = .ok (.iconst 1, 1) := by decide +kernel
theorem d_M_write_38 : decode b_M_write 38 = .ok (.ireturn, 1) := by decide +kernel
set_option maxHeartbeats 4000000 in
set_option maxRecDepth 100000 in
theorem c_M_write (l : Launch) (D : va_G) (g : Nat → ClassId) (a : Nat → Nat) (P : Nat → Nat → Int32) (I : Nat → Int32) (F : Nat → Nat → Int32) {ll : Nat} (hl : I 22 = nI ll) (hl4 : ll ≤ 400) (w0 : Int32) : Ct l D g y_M_write b_M_write 2 (some .boolean) 0 [.ref (a 0), .int w0] (MW a g P I F) (fun r w => ∃ b : Bool, r = some (.int (bZ b)) ∧ ((b = false ∧ ll = 400 ∧ w = MW a g P (upd I 10 1) F) ∨ (b = true ∧ ll < 400 ∧ w = MW a g P (upd I 22 (nI (ll + 1))) (va_up F 2 (upd (F 2) ll w0))))) := by
  refine Ct.of (lv := [(0, _), (1, _)]) (by decide) rfl (Nat.le_of_ble_eq_true rfl) rfl ?_
  intro G K
  refine g_aload_n K 0 d_M_write_0 rfl ?_
  refine gM_get K 22 fl_M_93 (by decide) rfl d_M_write_1 ?_
  refine g_sipush K (v := 400) d_M_write_4 (by decide) ?_
  refine g_top K (show (400 : Int32) = nI 400 by decide) ?_
  refine g_icmp_ne K (tgt := 17) d_M_write_7 (by decide) (fun c7 => ?_) (fun c7 => ?_)
  · have h7 : ll < 400 := by rcases Nat.lt_or_ge ll 400 with h | h; exact h; exact absurd (by rw [hl, show ll = 400 by omega]) c7
    refine g_aload_n K 0 d_M_write_17 rfl ?_
    refine gM_get K 21 fl_M_36 (by decide) rfl d_M_write_18 ?_
    refine g_aload_n K 0 d_M_write_21 rfl ?_
    refine gM_get K 22 fl_M_93 (by decide) rfl d_M_write_22 ?_
    refine g_iload_n K 1 d_M_write_25 rfl ?_
    refine gM_ast_log K (ll) hl (by omega) d_M_write_26 ?_
    refine g_aload_n K 0 d_M_write_27 rfl ?_
    refine g_dup K d_M_write_28 rfl ?_
    refine gM_get K 22 fl_M_93 (by decide) rfl d_M_write_29 ?_
    refine g_iconst K (v := 1) d_M_write_32 (by decide) ?_
    refine g_iadd K d_M_write_33 ?_
    refine g_top K (show _ = nI (ll + 1) from (congrArg (· + 1) hl).trans (nI_1 ll)) ?_
    refine gM_put_size K fl_M_93 d_M_write_34 ?_
    refine g_iconst K (v := 1) d_M_write_37 (by decide) ?_
    refine g_zret K rfl d_M_write_38 (⟨true, rfl, Or.inr ⟨rfl, h7, rfl⟩⟩)
  · have h7 : ll = 400 := nI_inj (by omega) (by omega) (hl.symm.trans c7)
    refine g_aload_n K 0 d_M_write_10 rfl ?_
    refine g_iconst K (v := 1) d_M_write_11 (by decide) ?_
    refine gM_put_over K true rfl fl_M_96 d_M_write_12 ?_
    refine g_iconst K (v := 0) d_M_write_15 (by decide) ?_
    refine g_zret K rfl d_M_write_16 (⟨false, rfl, Or.inl ⟨rfl, h7, rfl⟩⟩)
theorem d_M_lay_0 : decode b_M_lay 0 = .ok (.aload_n 0, 1) := by decide +kernel
theorem d_M_lay_1 : decode b_M_lay 1 = .ok (.iload_n 1, 1) := by decide +kernel
theorem d_M_lay_2 : decode b_M_lay 2 = .ok (.iload_n 2, 1) := by decide +kernel
theorem d_M_lay_3 : decode b_M_lay 3 = .ok (.invokevirtual 99, 3) := by decide +kernel
theorem d_M_lay_6 : decode b_M_lay 6 = .ok (.aload_n 0, 1) := by decide +kernel
theorem d_M_lay_7 : decode b_M_lay 7 = .ok (.getfield 25, 3) := by decide +kernel
theorem d_M_lay_10 : decode b_M_lay 10 = .ok (.aload_n 0, 1) := by decide +kernel
theorem d_M_lay_11 : decode b_M_lay 11 = .ok (.getfield 103, 3) := by decide +kernel
theorem d_M_lay_14 : decode b_M_lay 14 = .ok (.iload_n 1, 1) := by decide +kernel
theorem d_M_lay_15 : decode b_M_lay 15 = .ok (.iastore, 1) := by decide +kernel
theorem d_M_lay_16 : decode b_M_lay 16 = .ok (.aload_n 0, 1) := by decide +kernel
theorem d_M_lay_17 : decode b_M_lay 17 = .ok (.getfield 28, 3) := by decide +kernel
theorem d_M_lay_20 : decode b_M_lay 20 = .ok (.aload_n 0, 1) := by decide +kernel
theorem d_M_lay_21 : decode b_M_lay 21 = .ok (.getfield 103, 3) := by decide +kernel
theorem d_M_lay_24 : decode b_M_lay 24 = .ok (.iload_n 3, 1) := by decide +kernel
theorem d_M_lay_25 : decode b_M_lay 25 = .ok (.bastore, 1) := by decide +kernel
theorem d_M_lay_26 : decode b_M_lay 26 = .ok (.aload_n 0, 1) := by decide +kernel
theorem d_M_lay_27 : decode b_M_lay 27 = .ok (.dup, 1) := by decide +kernel
theorem d_M_lay_28 : decode b_M_lay 28 = .ok (.getfield 103, 3) := by decide +kernel
theorem d_M_lay_31 : decode b_M_lay 31 = .ok (.iconst 1, 1) := by decide +kernel
theorem d_M_lay_32 : decode b_M_lay 32 = .ok (.iadd, 1) := by decide +kernel
theorem d_M_lay_33 : decode b_M_lay 33 = .ok (.putfield 103, 3) := by decide +kernel
theorem d_M_lay_36 : decode b_M_lay 36 = .ok (.return_, 1) := by decide +kernel
set_option maxHeartbeats 4000000 in
set_option maxRecDepth 100000 in
theorem c_M_lay (l : Launch) (D : va_G) (g : Nat → ClassId) (a : Nat → Nat) (P : Nat → Nat → Int32) (I : Nat → Int32) (F : Nat → Nat → Int32) {vl : Nat → Int32} (hb : MB2 (I 11) (I 12) vl) {v : Nat} (h1 : 1 ≤ v) (h2 : v ≤ 16) (one ch : Bool) {len : Nat} (hd : I 15 = nI len) (hlen : len < 16) : Ct l D g y_M_lay b_M_lay 4 none 1 [.ref (a 0), .int (nI v), .int (bZ one), .int (bZ ch)] (MW a g P I F) (fun r w => r = none ∧ ∃ s o, w = MW a g P (upd (upd (upd I 11 s) 12 o) 15 (nI (len + 1))) (va_up (va_up F 0 (upd (F 0) len (nI v))) 1 (upd (F 1) len (bZ ch))) ∧ MB2 s o (upd vl v (bZ one))) := by
  refine Ct.of (lv := [(0, _), (1, _), (2, _), (3, _)]) (by decide) rfl (Nat.le_of_ble_eq_true rfl) rfl ?_
  intro G K
  refine g_aload_n K 0 d_M_lay_0 rfl ?_
  refine g_iload_n K 1 d_M_lay_1 rfl ?_
  refine g_iload_n K 2 d_M_lay_2 rfl ?_
  refine g_callW (q0 := 0) K (c_M_put l D g a P I F hb h1 h2 one) mf_M_put im_M_put se_M_put ml_M_99 (by decide) rfl rfl (Nat.le_of_ble_eq_true rfl) d_M_lay_3 (fun v w1 hq => ?_) rfl
  obtain ⟨rfl, s, o, rfl, hb2⟩ := hq
  refine g_rv ?_
  refine g_aload_n K 0 d_M_lay_6 rfl ?_
  refine gM_get K 13 fl_M_25 (by decide) rfl d_M_lay_7 ?_
  refine g_aload_n K 0 d_M_lay_10 rfl ?_
  refine gM_get K 15 fl_M_103 (by decide) rfl d_M_lay_11 ?_
  refine g_iload_n K 1 d_M_lay_14 rfl ?_
  refine gM_ast_trail K (len) hd hlen d_M_lay_15 ?_
  refine g_aload_n K 0 d_M_lay_16 rfl ?_
  refine gM_get K 14 fl_M_28 (by decide) rfl d_M_lay_17 ?_
  refine g_aload_n K 0 d_M_lay_20 rfl ?_
  refine gM_get K 15 fl_M_103 (by decide) rfl d_M_lay_21 ?_
  refine g_iload_n K 3 d_M_lay_24 rfl ?_
  refine gM_ast_choice K (len) ch rfl hd hlen d_M_lay_25 ?_
  refine g_aload_n K 0 d_M_lay_26 rfl ?_
  refine g_dup K d_M_lay_27 rfl ?_
  refine gM_get K 15 fl_M_103 (by decide) rfl d_M_lay_28 ?_
  refine g_iconst K (v := 1) d_M_lay_31 (by decide) ?_
  refine g_iadd K d_M_lay_32 ?_
  refine g_top K (show _ = nI (len + 1) from (congrArg (· + 1) hd).trans (nI_1 len)) ?_
  refine gM_put_depth K fl_M_103 d_M_lay_33 ?_
  refine g_vret K d_M_lay_36 (⟨rfl, s, o, rfl, hb2⟩)
end
section
/-! ===== a board's state ===== -/
def TI (vl tr : Nat → Int32) (len : Nat) : Prop := VI vl ∧ cn vl = len ∧ (∀ i, i < len → ∃ v, 1 ≤ v ∧ v ≤ 16 ∧ tr i = nI v ∧ ¬ vl v = -1) ∧ ∀ i j, i < len → j < len → tr i = tr j → i = j
def BI (P : Nat → Nat → Int32) (n : Nat) (B : BS) (len : Nat) : Prop := B.2.2.2.1 0 = nI len ∧ (∀ c, c < n → B.2.2.1 c = Int64.ofInt (sk P B.1 c)) ∧ B.2.2.2.2 0 = Int64.ofInt (sp P B.1) ∧ TI B.1 B.2.1 len
def BL (B : BS) (lim : Option Int) : Prop := B.2.2.2.1 1 = bZ lim.isSome ∧ ∀ L, lim = some L → B.2.2.2.2 1 = Int64.ofInt L ∧ -1 ≤ L ∧ L ≤ 1073741824
def LK (B B2 : BS) : Prop := B2.2.2.2.1 1 = B.2.2.2.1 1 ∧ B2.2.2.2.2 1 = B.2.2.2.2 1
theorem BL.of {B B2 : BS} {lim : Option Int} (h : BL B lim) (hs : LK B B2) : BL B2 lim := ⟨hs.1.trans h.1, fun L e => ⟨hs.2.trans (h.2 L e).1, (h.2 L e).2⟩⟩
theorem TI.le {vl tr : Nat → Int32} {len : Nat} (h : TI vl tr len) : len ≤ 16 := by
  have h1 := cn_bd vl
  have h2 := h.2.1
  omega
theorem VI.upd {vl : Nat → Int32} (h : VI vl) {v : Nat} (h1 : 1 ≤ v) (h2 : v ≤ 16) {x : Int32} (hx : x = -1 ∨ x = 0 ∨ x = 1) : VI (upd vl v x) := by
  refine ⟨fun w => ?_, fun w hw => ?_⟩
  · by_cases e : w = v
    · subst e; rw [upd_s]; exact hx
    · rw [upd_n e]; exact h.1 w
  · rw [upd_n (by omega)]; exact h.2 w hw
theorem TI.set {vl tr : Nat → Int32} {len v : Nat} (h : TI vl tr len) (h1 : 1 ≤ v) (h2 : v ≤ 16) (ho : vl v = -1) {x : Int32} (hx : x = 0 ∨ x = 1) : TI (upd vl v x) (upd tr len (nI v)) (len + 1) := by
  obtain ⟨a1, a2, a3, a4⟩ := h
  have hx1 : ¬ x = -1 := by rcases hx with rfl | rfl <;> decide
  refine ⟨a1.upd h1 h2 (Or.inr hx), by rw [cn_set ⟨h1, h2⟩ ho hx1, a2]; rfl, fun i hi => ?_, fun i j hi hj e => ?_⟩
  · by_cases e : i = len
    · subst e
      exact ⟨v, h1, h2, upd_s, by rw [upd_s]; exact hx1⟩
    · obtain ⟨w, w1, w2, w3, w4⟩ := a3 i (by omega)
      exact ⟨w, w1, w2, by rw [upd_n e]; exact w3, by rw [upd_n (fun z => by rw [z] at w4; exact w4 ho)]; exact w4⟩
  · have key : ∀ i, i < len → ¬ tr i = nI v := by
      intro i hi z
      obtain ⟨w, w1, w2, w3, w4⟩ := a3 i hi
      have : w = v := nI_inj (by omega) (by omega) (w3.symm.trans z)
      rw [this] at w4
      exact w4 ho
    by_cases e1 : i = len <;> by_cases e2 : j = len
    · omega
    · rw [e1, upd_s, upd_n e2] at e
      exact absurd e.symm (key j (by omega))
    · rw [e2, upd_s, upd_n e1] at e
      exact absurd e (key i (by omega))
    · rw [upd_n e1, upd_n e2] at e
      exact a4 i j (by omega) (by omega) e
theorem TI.top {vl tr : Nat → Int32} {len : Nat} (h : TI vl tr (len + 1)) : ∃ v, 1 ≤ v ∧ v ≤ 16 ∧ tr len = nI v ∧ (vl v = 0 ∨ vl v = 1) ∧ TI (upd vl v (-1)) tr len := by
  obtain ⟨a1, a2, a3, a4⟩ := h
  obtain ⟨v, h1, h2, h3, h4⟩ := a3 len (by omega)
  refine ⟨v, h1, h2, h3, (a1.1 v).resolve_left h4, a1.upd h1 h2 (Or.inl rfl), by rw [cn_unset ⟨h1, h2⟩ h4, a2]; omega, fun i hi => ?_, fun i j hi hj e => a4 i j (by omega) (by omega) e⟩
  obtain ⟨w, w1, w2, w3, w4⟩ := a3 i (by omega)
  refine ⟨w, w1, w2, w3, ?_⟩
  rw [upd_n (fun z => ?_)]
  · exact w4
  · have := a4 i len (by omega) (by omega) (by rw [w3, h3, z])
    omega
def tvn (tr : Nat → Int32) (k : Nat) : Nat := (tr k).toNatClampNeg
theorem tvn_of {tr : Nat → Int32} {k v : Nat} (h : tr k = nI v) (hv : v < 2 ^ 31) : tvn tr k = v := by unfold tvn; rw [h]; exact nI_clamp hv
/-- all that was set from place pos on is open again -/
def un (tr : Nat → Int32) (pos : Nat) : Nat → (Nat → Int32) → Nat → Int32
  | 0, vl => vl
  | k + 1, vl => if k + 1 ≤ pos then vl else un tr pos k (upd vl (tvn tr k) (-1))
theorem un_le {tr : Nat → Int32} {pos k : Nat} {vl : Nat → Int32} (h : k ≤ pos) : un tr pos k vl = vl := by
  cases k with
  | zero => rfl
  | succ k => exact if_pos h
theorem un_s {tr : Nat → Int32} {pos k : Nat} {vl : Nat → Int32} (h : pos < k + 1) : un tr pos (k + 1) vl = un tr pos k (upd vl (tvn tr k) (-1)) := if_neg (by omega)
def sv (vl : Nat → Int32) (lit : Int32) : Nat → Int32 := upd vl (vx lit) (if 0 < lit.toInt then 1 else 0)
theorem mulby {by' x : Int32} {w : Int} (h : (by' = 1 ∧ w = 1) ∨ (by' = -1 ∧ w = -1)) (h1 : 0 ≤ x.toInt) (h2 : x.toInt ≤ 32767) : (by' * x).toInt64 = Int64.ofInt (w * x.toInt) := by
  rw [← Int64.ofInt_int32ToInt]
  congr 1
  rcases h with ⟨rfl, rfl⟩ | ⟨rfl, rfl⟩
  · rw [Int32.one_mul, Int.one_mul]
  · rw [← Int32.neg_eq_neg_one_mul, i_neg (by omega)]
    omega
theorem fals_open (l : Int32) : fals (fun _ => -1) l = false := by
  unfold fals
  split <;> rfl
theorem skf_open {P : Nat → Nat → Int32} (t : Nat) : skf P (fun _ => -1) t = (P 3 t).toInt := by
  unfold skf
  rw [fals_open]
  rfl
theorem VI.none : VI (fun _ => -1) := ⟨fun _ => Or.inl rfl, fun _ _ => rfl⟩
theorem TI.none (tr : Nat → Int32) : TI (fun _ => -1) tr 0 := ⟨VI.none, by rfl, fun i hi => absurd hi (Nat.not_lt_zero i), fun i j hi => absurd hi (Nat.not_lt_zero i)⟩
theorem sp_none (P : Nat → Nat → Int32) : sp P (fun _ => -1) = 0 := by
  unfold sp
  rw [sm_ext 16 1 (f := spf P (fun _ => -1)) (f' := fun _ => 0) (fun i _ _ => show spf P _ i = 0 from if_neg (show ¬ (-1 : Int32) = 1 by decide))]
  rfl
theorem bw_vl {a : Nat → Nat} {b q0 q1 q2 : Nat} {g : Nat → ClassId} {fs : List Value} {P : Nat → Nat → Int32} {vl vl' tr x : Nat → Int32} {sl y : Nat → Int64} (h : ∀ j, j < 17 → vl j = vl' j) {D : va_G} (H : Heap) (hP : va_P D classes (BW a b q0 q1 q2 g fs P (vl, tr, sl, x, y)) H) : va_P D classes (BW a b q0 q1 q2 g fs P (vl', tr, sl, x, y)) H := by
  intro k q hq
  match k, hq with
  | 0, hq => exact hP 0 q hq
  | 1, hq =>
    cases hq
    have h1 : H[q0]? = some (vp_cell (g 0) (17, .inl vl)) := hP 1 _ rfl
    show H[q0]? = some (vp_cell (g 0) (17, .inl vl'))
    rw [h1, cell_i h]
  | 2, hq => exact hP 2 q hq
  | k + 3, hq => exact hP (k + 3) q hq
theorem updL_s {f : Nat → Int64} {k : Nat} {x : Int64} : vp_updL f k x k = x := pk_uLs
theorem updL_n {f : Nat → Int64} {k j : Nat} {x : Int64} (h : j ≠ k) : vp_updL f k x j = f j := pk_uLn h
theorem ofInt64_0 (x : Int64) : x + Int64.ofInt 0 = x := by rw [show Int64.ofInt 0 = 0 by decide, Int64.add_zero]
theorem l_0 : (0 : Int64).toInt = 0 := rfl
theorem d_B_limit_0 : decode b_B_limit 0 = .ok (.aload_n 0, 1) := by decide +kernel
theorem d_B_limit_1 : decode b_B_limit 1 = .ok (.iconst 1, 1) := by decide +kernel
theorem d_B_limit_2 : decode b_B_limit 2 = .ok (.putfield 34, 3) := by decide +kernel
theorem d_B_limit_5 : decode b_B_limit 5 = .ok (.aload_n 0, 1) := by decide +kernel
theorem d_B_limit_6 : decode b_B_limit 6 = .ok (.lload_n 1, 1) := by decide +kernel
theorem d_B_limit_7 : decode b_B_limit 7 = .ok (.putfield 50, 3) := by decide +kernel
theorem d_B_limit_10 : decode b_B_limit 10 = .ok (.return_, 1) := by decide +kernel
set_option maxHeartbeats 4000000 in
set_option maxRecDepth 100000 in
theorem c_B_limit (l : Launch) (D : va_G) (g : Nat → ClassId) (a : Nat → Nat) (b q0 q1 q2 : Nat) (fs : List Value) (P : Nat → Nat → Int32) (B : BS) (L : Int64) : Ct l D g y_B_limit b_B_limit 3 none 0 [.ref b, .long L] (BW a b q0 q1 q2 g fs P B) (fun r w9 => ∃ B2 : BS, w9 = BW a b q0 q1 q2 g fs P B2 ∧ (r = none ∧ B2 = (B.1, B.2.1, B.2.2.1, upd B.2.2.2.1 1 (bZ true), vp_updL B.2.2.2.2 1 L))) := by
  refine Ct.of (lv := [(0, _), (1, _)]) (by decide) rfl (Nat.le_of_ble_eq_true rfl) rfl ?_
  intro G K
  obtain ⟨vl, tr, sl, x, y⟩ := B
  refine g_aload_n K 0 d_B_limit_0 rfl ?_
  refine g_iconst K (v := 1) d_B_limit_1 (by decide) ?_
  refine gB_put_limited K true rfl fl_B_34 d_B_limit_2 ?_
  refine g_aload_n K 0 d_B_limit_5 rfl ?_
  refine g_lload_n K 1 d_B_limit_6 rfl ?_
  refine gB_put_limit K fl_B_50 d_B_limit_7 ?_
  refine g_vret K d_B_limit_10 (⟨_, rfl, rfl, rfl⟩)
theorem d_B_isOpen_0 : decode b_B_isOpen 0 = .ok (.aload_n 0, 1) := by decide +kernel
theorem d_B_isOpen_1 : decode b_B_isOpen 1 = .ok (.getfield 9, 3) := by decide +kernel
theorem d_B_isOpen_4 : decode b_B_isOpen 4 = .ok (.iload_n 1, 1) := by decide +kernel
theorem d_B_isOpen_5 : decode b_B_isOpen 5 = .ok (.invokestatic 53, 3) := by decide +kernel
theorem d_B_isOpen_8 : decode b_B_isOpen 8 = .ok (.iaload, 1) := by decide +kernel
theorem d_B_isOpen_9 : decode b_B_isOpen 9 = .ok (.iconst (-1), 1) := by decide +kernel
theorem d_B_isOpen_10 : decode b_B_isOpen 10 = .ok (.if_icmp .ne 7, 3) := by decide +kernel
theorem d_B_isOpen_13 : decode b_B_isOpen 13 = .ok (.iconst 1, 1) := by decide +kernel
theorem d_B_isOpen_14 : decode b_B_isOpen 14 = .ok (.goto 4, 3) := by decide +kernel
theorem d_B_isOpen_17 : decode b_B_isOpen 17 = .ok (.iconst 0, 1) := by decide +kernel
theorem d_B_isOpen_18 : decode b_B_isOpen 18 = .ok (.ireturn, 1) := by decide +kernel
set_option maxHeartbeats 4000000 in
set_option maxRecDepth 100000 in
theorem c_B_isOpen (l : Launch) (D : va_G) (g : Nat → ClassId) (a : Nat → Nat) (b q0 q1 q2 : Nat) (fs : List Value) (P : Nat → Nat → Int32) (B : BS) {lit : Int32} (h2 : vx lit ≤ 16) : Ct l D g y_B_isOpen b_B_isOpen 2 (some .boolean) 1 [.ref b, .int lit] (BW a b q0 q1 q2 g fs P B) (fun r w9 => ∃ B2 : BS, w9 = BW a b q0 q1 q2 g fs P B2 ∧ (r = some (.int (bZ (decide (B.1 (vx lit) = -1)))) ∧ B2 = B)) := by
  refine Ct.of (lv := [(0, _), (1, _)]) (by decide) rfl (Nat.le_of_ble_eq_true rfl) rfl ?_
  intro G K
  obtain ⟨vl, tr, sl, x, y⟩ := B
  refine g_aload_n K 0 d_B_isOpen_0 rfl ?_
  refine gB_get_values K fl_B_9 d_B_isOpen_1 ?_
  refine g_iload_n K 1 d_B_isOpen_4 rfl ?_
  refine g_abs K ml_B_53 (by decide) (Nat.le_of_ble_eq_true rfl) d_B_isOpen_5 ?_
  refine g_top K (lit_abs h2) ?_
  refine gB_ald_values K (vx lit) rfl (by omega) d_B_isOpen_8 ?_
  refine g_iconst K (v := -1) d_B_isOpen_9 (by decide) ?_
  refine g_icmp_ne K (tgt := 17) d_B_isOpen_10 (by decide) (fun c10 => ?_) (fun c10 => ?_)
  · refine g_iconst K (v := 0) d_B_isOpen_17 (by decide) ?_
    refine g_zret K rfl d_B_isOpen_18 (?_)
    first | exact ⟨_, rfl, rz_t c10, rfl⟩ | exact ⟨_, rfl, rz_f c10, rfl⟩
  · refine g_iconst K (v := 1) d_B_isOpen_13 (by decide) ?_
    refine g_goto K (tgt := 18) d_B_isOpen_14 (by decide) ?_
    refine g_zret K rfl d_B_isOpen_18 (?_)
    first | exact ⟨_, rfl, rz_t c10, rfl⟩ | exact ⟨_, rfl, rz_f c10, rfl⟩
theorem d_B_firstOpen_0 : decode b_B_firstOpen 0 = .ok (.iconst 1, 1) := by decide +kernel
theorem d_B_firstOpen_1 : decode b_B_firstOpen 1 = .ok (.istore_n 1, 1) := by decide +kernel
theorem d_B_firstOpen_2 : decode b_B_firstOpen 2 = .ok (.iload_n 1, 1) := by decide +kernel
theorem d_B_firstOpen_3 : decode b_B_firstOpen 3 = .ok (.bipush 16, 2) := by decide +kernel
theorem d_B_firstOpen_5 : decode b_B_firstOpen 5 = .ok (.if_icmp .gt 19, 3) := by decide +kernel
theorem d_B_firstOpen_8 : decode b_B_firstOpen 8 = .ok (.aload_n 0, 1) := by decide +kernel
theorem d_B_firstOpen_9 : decode b_B_firstOpen 9 = .ok (.getfield 9, 3) := by decide +kernel
theorem d_B_firstOpen_12 : decode b_B_firstOpen 12 = .ok (.iload_n 1, 1) := by decide +kernel
theorem d_B_firstOpen_13 : decode b_B_firstOpen 13 = .ok (.iaload, 1) := by decide +kernel
theorem d_B_firstOpen_14 : decode b_B_firstOpen 14 = .ok (.iconst (-1), 1) := by decide +kernel
theorem d_B_firstOpen_15 : decode b_B_firstOpen 15 = .ok (.if_icmp .eq 9, 3) := by decide +kernel
theorem d_B_firstOpen_18 : decode b_B_firstOpen 18 = .ok (.iinc 1 1, 3) := by decide +kernel
theorem d_B_firstOpen_21 : decode b_B_firstOpen 21 = .ok (.goto (-19), 3) := by decide +kernel
theorem d_B_firstOpen_24 : decode b_B_firstOpen 24 = .ok (.iload_n 1, 1) := by decide +kernel
theorem d_B_firstOpen_25 : decode b_B_firstOpen 25 = .ok (.bipush 16, 2) := by decide +kernel
theorem d_B_firstOpen_27 : decode b_B_firstOpen 27 = .ok (.if_icmp .gt 7, 3) := by decide +kernel
theorem d_B_firstOpen_30 : decode b_B_firstOpen 30 = .ok (.iload_n 1, 1) := by decide +kernel
theorem d_B_firstOpen_31 : decode b_B_firstOpen 31 = .ok (.goto 4, 3) := by decide +kernel
theorem d_B_firstOpen_34 : decode b_B_firstOpen 34 = .ok (.iconst 0, 1) := by decide +kernel
theorem d_B_firstOpen_35 : decode b_B_firstOpen 35 = .ok (.ireturn, 1) := by decide +kernel
set_option maxHeartbeats 4000000 in
set_option maxRecDepth 100000 in
theorem c_B_firstOpen (l : Launch) (D : va_G) (g : Nat → ClassId) (a : Nat → Nat) (b q0 q1 q2 : Nat) (fs : List Value) (P : Nat → Nat → Int32) (B : BS) : Ct l D g y_B_firstOpen b_B_firstOpen 2 (some .int) 0 [.ref b] (BW a b q0 q1 q2 g fs P B) (fun r w9 => ∃ B2 : BS, w9 = BW a b q0 q1 q2 g fs P B2 ∧ (r = some (.int (fop B.1)) ∧ B2 = B)) := by
  refine Ct.of (lv := [(0, _)]) (by decide) rfl (Nat.le_of_ble_eq_true rfl) rfl ?_
  intro G K
  obtain ⟨vl, tr, sl, x, y⟩ := B
  have J2 : ∀ (N : Nat) (v : Nat), 17 - v < N → (1 ≤ v) → (v ≤ 17) → (fop vl = (fi (fof vl) v (17 - v)).getD 0) → G 2 [(0, .ref b), (1, .int (nI v))] [] (BW a b q0 q1 q2 g fs P (vl, tr, sl, x, y)) := by
    intro N
    induction N with
    | zero => intro v hm; exact absurd hm (Nat.not_lt_zero _)
    | succ N ih2 =>
      intro v hm2 h1 h2 hF
      have J24 : ((v < 17 ∧ fop vl = nI v) ∨ (v = 17 ∧ fop vl = 0)) → G 24 [(0, .ref b), (1, .int (nI v))] [] (BW a b q0 q1 q2 g fs P (vl, tr, sl, x, y)) := by
        intro  hr
        refine g_iload_n K 1 d_B_firstOpen_24 rfl ?_
        refine g_bipush K (v := 16) d_B_firstOpen_25 (by decide) ?_
        refine g_top K nI_16 ?_
        refine g_icmp_gt K (tgt := 34) d_B_firstOpen_27 (by decide) (fun c27 => ?_) (fun c27 => ?_)
        · have h27 := (nI_ltI (by omega) (by omega)).mp c27
          refine g_iconst K (v := 0) d_B_firstOpen_34 (by decide) ?_
          refine g_iret K d_B_firstOpen_35 (?_)
          first | exact ⟨_, rfl, by rw [(hr.resolve_left (fun h => by omega)).2], rfl⟩ | exact ⟨_, rfl, by rw [(hr.resolve_right (fun h => by omega)).2], rfl⟩
        · have h27 : v < 17 := Nat.lt_of_not_le (fun h => c27 ((nI_ltI (by omega) (by omega)).mpr h))
          refine g_iload_n K 1 d_B_firstOpen_30 rfl ?_
          refine g_goto K (tgt := 35) d_B_firstOpen_31 (by decide) ?_
          refine g_iret K d_B_firstOpen_35 (?_)
          first | exact ⟨_, rfl, by rw [(hr.resolve_left (fun h => by omega)).2], rfl⟩ | exact ⟨_, rfl, by rw [(hr.resolve_right (fun h => by omega)).2], rfl⟩
      refine g_iload_n K 1 d_B_firstOpen_2 rfl ?_
      refine g_bipush K (v := 16) d_B_firstOpen_3 (by decide) ?_
      refine g_top K nI_16 ?_
      refine g_icmp_gt K (tgt := 24) d_B_firstOpen_5 (by decide) (fun c5 => ?_) (fun c5 => ?_)
      · have h5 := (nI_ltI (by omega) (by omega)).mp c5
        refine g_lv K [0, 1] rfl (J24 (Or.inr ⟨by omega, by rw [hF, fi_e (by omega)]; rfl⟩))
      · have h5 : v < 17 := Nat.lt_of_not_le (fun h => c5 ((nI_ltI (by omega) (by omega)).mpr h))
        refine g_aload_n K 0 d_B_firstOpen_8 rfl ?_
        refine gB_get_values K fl_B_9 d_B_firstOpen_9 ?_
        refine g_iload_n K 1 d_B_firstOpen_12 rfl ?_
        refine gB_ald_values K (v) rfl (by omega) d_B_firstOpen_13 ?_
        refine g_iconst K (v := -1) d_B_firstOpen_14 (by decide) ?_
        refine g_icmp_eq K (tgt := 24) d_B_firstOpen_15 (by decide) (fun c15 => ?_) (fun c15 => ?_)
        · refine g_lv K [0, 1] rfl (J24 (Or.inl ⟨h5, by rw [hF, fi_some h5 (if_pos c15)]; rfl⟩))
        · refine g_iinc (v := nI (v + 1)) (lv' := [(1, _), (0, _)]) K 1 d_B_firstOpen_18 rfl (nI_1 v) (by decide) rfl ?_
          refine g_goto K (tgt := 2) d_B_firstOpen_21 (by decide) ?_
          refine g_lv K [1, 0] rfl (ih2 (v + 1) (by omega) (by omega) (by omega) (by rw [hF, fi_none h5 (if_neg c15)]))
  refine g_iconst K (v := 1) d_B_firstOpen_0 (by decide) ?_
  refine g_top K nI_1' ?_
  refine g_istore_n (lv' := [(1, _), (0, _)]) K d_B_firstOpen_1 (by decide) rfl ?_
  refine g_lv K [1, 0] rfl (J2 _ 1 (Nat.lt_succ_self _) (by omega) (by omega) rfl)
theorem d_B_begin_0 : decode b_B_begin 0 = .ok (.iconst 0, 1) := by decide +kernel
theorem d_B_begin_1 : decode b_B_begin 1 = .ok (.istore_n 1, 1) := by decide +kernel
theorem d_B_begin_2 : decode b_B_begin 2 = .ok (.iload_n 1, 1) := by decide +kernel
theorem d_B_begin_3 : decode b_B_begin 3 = .ok (.bipush 16, 2) := by decide +kernel
theorem d_B_begin_5 : decode b_B_begin 5 = .ok (.if_icmp .gt 16, 3) := by decide +kernel
theorem d_B_begin_8 : decode b_B_begin 8 = .ok (.aload_n 0, 1) := by decide +kernel
theorem d_B_begin_9 : decode b_B_begin 9 = .ok (.getfield 9, 3) := by decide +kernel
theorem d_B_begin_12 : decode b_B_begin 12 = .ok (.iload_n 1, 1) := by decide +kernel
theorem d_B_begin_13 : decode b_B_begin 13 = .ok (.iconst (-1), 1) := by decide +kernel
theorem d_B_begin_14 : decode b_B_begin 14 = .ok (.iastore, 1) := by decide +kernel
theorem d_B_begin_15 : decode b_B_begin 15 = .ok (.iinc 1 1, 3) := by decide +kernel
theorem d_B_begin_18 : decode b_B_begin 18 = .ok (.goto (-16), 3) := by decide +kernel
theorem d_B_begin_21 : decode b_B_begin 21 = .ok (.aload_n 0, 1) := by decide +kernel
theorem d_B_begin_22 : decode b_B_begin 22 = .ok (.iconst 0, 1) := by decide +kernel
theorem d_B_begin_23 : decode b_B_begin 23 = .ok (.putfield 26, 3) := by decide +kernel
theorem d_B_begin_26 : decode b_B_begin 26 = .ok (.aload_n 0, 1) := by decide +kernel
theorem d_B_begin_27 : decode b_B_begin 27 = .ok (.lconst 0, 1) := by decide +kernel
theorem d_B_begin_28 : decode b_B_begin 28 = .ok (.putfield 30, 3) := by decide +kernel
theorem d_B_begin_31 : decode b_B_begin 31 = .ok (.aload_n 0, 1) := by decide +kernel
theorem d_B_begin_32 : decode b_B_begin 32 = .ok (.iconst 0, 1) := by decide +kernel
theorem d_B_begin_33 : decode b_B_begin 33 = .ok (.putfield 34, 3) := by decide +kernel
theorem d_B_begin_36 : decode b_B_begin 36 = .ok (.iconst 0, 1) := by decide +kernel
theorem d_B_begin_37 : decode b_B_begin 37 = .ok (.istore_n 1, 1) := by decide +kernel
theorem d_B_begin_38 : decode b_B_begin 38 = .ok (.iload_n 1, 1) := by decide +kernel
theorem d_B_begin_39 : decode b_B_begin 39 = .ok (.aload_n 0, 1) := by decide +kernel
theorem d_B_begin_40 : decode b_B_begin 40 = .ok (.getfield 22, 3) := by decide +kernel
theorem d_B_begin_43 : decode b_B_begin 43 = .ok (.getfield 38, 3) := by decide +kernel
theorem d_B_begin_46 : decode b_B_begin 46 = .ok (.if_icmp .ge 76, 3) := by decide +kernel
theorem d_B_begin_49 : decode b_B_begin 49 = .ok (.aload_n 0, 1) := by decide +kernel
theorem d_B_begin_50 : decode b_B_begin 50 = .ok (.getfield 18, 3) := by decide +kernel
theorem d_B_begin_53 : decode b_B_begin 53 = .ok (.iload_n 1, 1) := by decide +kernel
theorem d_B_begin_54 : decode b_B_begin 54 = .ok (.aload_n 0, 1) := by decide +kernel
theorem d_B_begin_55 : decode b_B_begin 55 = .ok (.getfield 22, 3) := by decide +kernel
theorem d_B_begin_58 : decode b_B_begin 58 = .ok (.getfield 41, 3) := by decide +kernel
theorem d_B_begin_61 : decode b_B_begin 61 = .ok (.iload_n 1, 1) := by decide +kernel
theorem d_B_begin_62 : decode b_B_begin 62 = .ok (.iaload, 1) := by decide +kernel
theorem d_B_begin_63 : decode b_B_begin 63 = .ok (.ineg, 1) := by decide +kernel
theorem d_B_begin_64 : decode b_B_begin 64 = .ok (.i2l, 1) := by decide +kernel
theorem d_B_begin_65 : decode b_B_begin 65 = .ok (.lastore, 1) := by decide +kernel
theorem d_B_begin_66 : decode b_B_begin 66 = .ok (.aload_n 0, 1) := by decide +kernel
theorem d_B_begin_67 : decode b_B_begin 67 = .ok (.getfield 22, 3) := by decide +kernel
theorem d_B_begin_70 : decode b_B_begin 70 = .ok (.getfield 44, 3) := by decide +kernel
theorem d_B_begin_73 : decode b_B_begin 73 = .ok (.iload_n 1, 1) := by decide +kernel
theorem d_B_begin_74 : decode b_B_begin 74 = .ok (.iaload, 1) := by decide +kernel
theorem d_B_begin_75 : decode b_B_begin 75 = .ok (.istore_n 2, 1) := by decide +kernel
theorem d_B_begin_76 : decode b_B_begin 76 = .ok (.iload_n 2, 1) := by decide +kernel
theorem d_B_begin_77 : decode b_B_begin 77 = .ok (.aload_n 0, 1) := by decide +kernel
theorem d_B_begin_78 : decode b_B_begin 78 = .ok (.getfield 22, 3) := by decide +kernel
theorem d_B_begin_81 : decode b_B_begin 81 = .ok (.getfield 44, 3) := by decide +kernel
theorem d_B_begin_84 : decode b_B_begin 84 = .ok (.iload_n 1, 1) := by decide +kernel
theorem d_B_begin_85 : decode b_B_begin 85 = .ok (.iconst 1, 1) := by decide +kernel
theorem d_B_begin_86 : decode b_B_begin 86 = .ok (.iadd, 1) := by decide +kernel
theorem d_B_begin_87 : decode b_B_begin 87 = .ok (.iaload, 1) := by decide +kernel
theorem d_B_begin_88 : decode b_B_begin 88 = .ok (.if_icmp .ge 28, 3) := by decide +kernel
theorem d_B_begin_91 : decode b_B_begin 91 = .ok (.aload_n 0, 1) := by decide +kernel
theorem d_B_begin_92 : decode b_B_begin 92 = .ok (.getfield 18, 3) := by decide +kernel
theorem d_B_begin_95 : decode b_B_begin 95 = .ok (.iload_n 1, 1) := by decide +kernel
theorem d_B_begin_96 : decode b_B_begin 96 = .ok (.dup2, 1) := by decide +kernel
theorem d_B_begin_97 : decode b_B_begin 97 = .ok (.laload, 1) := by decide +kernel
theorem d_B_begin_98 : decode b_B_begin 98 = .ok (.aload_n 0, 1) := by decide +kernel
theorem d_B_begin_99 : decode b_B_begin 99 = .ok (.getfield 22, 3) := by decide +kernel
theorem d_B_begin_102 : decode b_B_begin 102 = .ok (.getfield 47, 3) := by decide +kernel
theorem d_B_begin_105 : decode b_B_begin 105 = .ok (.iload_n 2, 1) := by decide +kernel
theorem d_B_begin_106 : decode b_B_begin 106 = .ok (.iaload, 1) := by decide +kernel
theorem d_B_begin_107 : decode b_B_begin 107 = .ok (.i2l, 1) := by decide +kernel
theorem d_B_begin_108 : decode b_B_begin 108 = .ok (.ladd, 1) := by decide +kernel
theorem d_B_begin_109 : decode b_B_begin 109 = .ok (.lastore, 1) := by decide +kernel
theorem d_B_begin_110 : decode b_B_begin 110 = .ok (.iinc 2 1, 3) := by decide +kernel
theorem d_B_begin_113 : decode b_B_begin 113 = .ok (.goto (-37), 3) := by decide +kernel
theorem d_B_begin_116 : decode b_B_begin 116 = .ok (.iinc 1 1, 3) := by decide +kernel
theorem d_B_begin_119 : decode b_B_begin 119 = .ok (.goto (-81), 3) := by decide +kernel
theorem d_B_begin_122 : decode b_B_begin 122 = .ok (.return_, 1) := by decide +kernel
set_option maxHeartbeats 4000000 in
set_option maxRecDepth 100000 in
theorem c_B_begin (l : Launch) (D : va_G) (g : Nat → ClassId) (a : Nat → Nat) (b q0 q1 q2 : Nat) (fs : List Value) (P : Nat → Nat → Int32) (B : BS) {n k : Nat} (hf : FS a fs (nI n)) (hp : PWF P n k) : Ct l D g y_B_begin b_B_begin 3 none 0 [.ref b] (BW a b q0 q1 q2 g fs P B) (fun r w9 => ∃ B2 : BS, w9 = BW a b q0 q1 q2 g fs P B2 ∧ (r = none ∧ B2.1 = (fun _ => -1) ∧ B2.2.1 = B.2.1 ∧ BI P n B2 0 ∧ BL B2 none)) := by
  refine Ct.of (lv := [(0, _)]) (by decide) rfl (Nat.le_of_ble_eq_true rfl) rfl ?_
  intro G K
  obtain ⟨vl, tr, sl, x, y⟩ := B
  have J38 : ∀ (N : Nat) (c : Nat) (s1 : Nat → Int64), n - c < N → (c ≤ n) → (∀ j, j < c → s1 j = Int64.ofInt (sk P (fun _ => -1) j)) → G 38 [(0, .ref b), (1, .int (nI c))] [] (BW a b q0 q1 q2 g fs P ((fun _ => -1), tr, s1, upd (upd x 0 0) 1 (bZ false), vp_updL y 0 0)) := by
    intro N
    induction N with
    | zero => intro c s1 hm; exact absurd hm (Nat.not_lt_zero _)
    | succ N ih38 =>
      intro c s1 hm38 hc hs
      have J76 : ∀ (N : Nat) (t : Nat) (s2 : Nat → Int64) (z : Int), stn P (c + 1) - t < N → (c < n) → (t ≤ 120) → (∀ j, j < c → s2 j = Int64.ofInt (sk P (fun _ => -1) j)) → (s2 c = Int64.ofInt z) → (z + sm (skf P (fun _ => -1)) t (stn P (c + 1) - t) = sk P (fun _ => -1) c) → G 76 [(0, .ref b), (1, .int (nI c)), (2, .int (nI t))] [] (BW a b q0 q1 q2 g fs P ((fun _ => -1), tr, s2, upd (upd x 0 0) 1 (bZ false), vp_updL y 0 0)) := by
        intro N
        induction N with
        | zero => intro t s2 z hm; exact absurd hm (Nat.not_lt_zero _)
        | succ N ih76 =>
          intro t s2 z hm76 h46 ht hs2 hz1 hz
          refine g_iload_n K 2 d_B_begin_76 rfl ?_
          refine g_aload_n K 0 d_B_begin_77 rfl ?_
          refine gB_get_of K fl_B_22 d_B_begin_78 ?_
          refine gB_of K 1 fn_B_44 (by decide) hf.2.1 d_B_begin_81 ?_
          refine g_iload_n K 1 d_B_begin_84 rfl ?_
          refine g_iconst K (v := 1) d_B_begin_85 (by decide) ?_
          refine g_iadd K d_B_begin_86 ?_
          refine g_iald K 6 (c + 1) rfl (nI_1 c) (by have := hp.1; omega) d_B_begin_87 ?_
          have hk1 := (hp.2.2.1 (c + 1) h46).2
          have hk2 := hp.2.1
          refine g_top K (hp.2.2.1 (c + 1) h46).1 ?_
          refine g_icmp_ge K (tgt := 116) d_B_begin_88 (by decide) (fun c88 => ?_) (fun c88 => ?_)
          · have h88 := (nI_leI (by omega) (by omega)).mp c88
            refine g_iinc (v := nI (c + 1)) (lv' := [(1, _), (0, _), (2, _)]) K 1 d_B_begin_116 rfl (nI_1 c) (by decide) rfl ?_
            refine g_goto K (tgt := 38) d_B_begin_119 (by decide) ?_
            refine g_lv K [1, 0] rfl (ih38 (c + 1) s2 (by omega) (by omega) (fun j hj => ?_))
            by_cases e : j = c
            · subst e; rw [hz1, ← hz, sm_e h88, Int.add_zero]
            · exact hs2 j (by omega)
          · have h88 : t < stn P (c + 1) := Nat.lt_of_not_le (fun h => c88 ((nI_leI (by omega) (by omega)).mpr h))
            refine g_aload_n K 0 d_B_begin_91 rfl ?_
            refine gB_get_slacks K fl_B_18 d_B_begin_92 ?_
            refine g_iload_n K 1 d_B_begin_95 rfl ?_
            refine g_dup2 K d_B_begin_96 rfl rfl ?_
            refine gB_ald_slacks K (c) rfl (by have := hp.1; omega) d_B_begin_97 ?_
            refine g_aload_n K 0 d_B_begin_98 rfl ?_
            refine gB_get_of K fl_B_22 d_B_begin_99 ?_
            refine gB_of K 3 fn_B_47 (by decide) hf.2.2.2.1 d_B_begin_102 ?_
            refine g_iload_n K 2 d_B_begin_105 rfl ?_
            refine g_iald K 8 (t) rfl rfl (by omega) d_B_begin_106 ?_
            refine g_i2l K d_B_begin_107 ?_
            refine g_ladd K d_B_begin_108 ?_
            refine gB_ast_slacks K (c) rfl (by have := hp.1; omega) d_B_begin_109 ?_
            refine g_iinc (v := nI (t + 1)) (lv' := [(2, _), (0, _), (1, _)]) K 2 d_B_begin_110 rfl (nI_1 t) (by decide) rfl ?_
            refine g_goto K (tgt := 76) d_B_begin_113 (by decide) ?_
            refine g_lv K [1, 2, 0] rfl (ih76 (t + 1) _ (z + (P 3 t).toInt) (by omega) h46 (by omega) (fun j hj => by rw [updL_n (by omega)]; exact hs2 j hj) (by rw [updL_s, hz1, Int64.ofInt_add, Int64.ofInt_int32ToInt]) (by rw [← hz, sm_s h88, skf_open]; omega))
      refine g_iload_n K 1 d_B_begin_38 rfl ?_
      refine g_aload_n K 0 d_B_begin_39 rfl ?_
      refine gB_get_of K fl_B_22 d_B_begin_40 ?_
      refine gB_of K 5 fn_B_38 (by decide) hf.2.2.2.2.2 d_B_begin_43 ?_
      have hk1 := hp.1
      refine g_icmp_ge K (tgt := 122) d_B_begin_46 (by decide) (fun c46 => ?_) (fun c46 => ?_)
      · have h46 := (nI_leI (by omega) (by omega)).mp c46
        refine g_vret K d_B_begin_122 (⟨_, rfl, rfl, rfl, rfl, ⟨nI_0', fun c hc => hs c (by omega), by rw [sp_none]; rfl, TI.none _⟩, rfl, fun L e => by cases e⟩)
      · have h46 : c < n := Nat.lt_of_not_le (fun h => c46 ((nI_leI (by omega) (by omega)).mpr h))
        refine g_aload_n K 0 d_B_begin_49 rfl ?_
        refine gB_get_slacks K fl_B_18 d_B_begin_50 ?_
        refine g_iload_n K 1 d_B_begin_53 rfl ?_
        refine g_aload_n K 0 d_B_begin_54 rfl ?_
        refine gB_get_of K fl_B_22 d_B_begin_55 ?_
        refine gB_of K 2 fn_B_41 (by decide) hf.2.2.1 d_B_begin_58 ?_
        refine g_iload_n K 1 d_B_begin_61 rfl ?_
        refine g_iald K 7 (c) rfl rfl (by omega) d_B_begin_62 ?_
        refine g_ineg K d_B_begin_63 ?_
        refine g_i2l K d_B_begin_64 ?_
        refine gB_ast_slacks K (c) rfl (by omega) d_B_begin_65 ?_
        refine g_aload_n K 0 d_B_begin_66 rfl ?_
        refine gB_get_of K fl_B_22 d_B_begin_67 ?_
        refine gB_of K 1 fn_B_44 (by decide) hf.2.1 d_B_begin_70 ?_
        refine g_iload_n K 1 d_B_begin_73 rfl ?_
        refine g_iald K 6 (c) rfl rfl (by omega) d_B_begin_74 ?_
        refine g_top K (hp.2.2.1 c (by omega)).1 ?_
        refine g_istore_n (lv' := [(2, _), (0, _), (1, _)]) K d_B_begin_75 (by decide) rfl ?_
        refine g_lv K [1, 2, 0] rfl (J76 _ (stn P c) _ (-(P 2 c).toInt) (Nat.lt_succ_self _) h46 (by have := (hp.2.2.1 c (by omega)).2; have := hp.2.1; omega) (fun j hj => by rw [updL_n (by omega)]; exact hs j hj) (by rw [updL_s, ofInt_toIntN, ← Int64.ofInt_int32ToInt, i_of (by have := hp.2.2.2.2.1 c h46; omega) (by have := hp.2.2.2.2.1 c h46; omega)]) rfl)
  have J2 : ∀ (N : Nat) (v : Nat) (v1 : Nat → Int32), 17 - v < N → (v ≤ 17) → (∀ j, j < v → v1 j = -1) → G 2 [(0, .ref b), (1, .int (nI v))] [] (BW a b q0 q1 q2 g fs P (v1, tr, sl, x, y)) := by
    intro N
    induction N with
    | zero => intro v v1 hm; exact absurd hm (Nat.not_lt_zero _)
    | succ N ih2 =>
      intro v v1 hm2 h2 hF
      refine g_iload_n K 1 d_B_begin_2 rfl ?_
      refine g_bipush K (v := 16) d_B_begin_3 (by decide) ?_
      refine g_top K nI_16 ?_
      refine g_icmp_gt K (tgt := 21) d_B_begin_5 (by decide) (fun c5 => ?_) (fun c5 => ?_)
      · have h5 := (nI_ltI (by omega) (by omega)).mp c5
        refine g_ws K (bw_vl (vl' := fun _ => -1) (fun j hj => hF j (by omega))) rfl ?_
        refine g_aload_n K 0 d_B_begin_21 rfl ?_
        refine g_iconst K (v := 0) d_B_begin_22 (by decide) ?_
        refine gB_put_length K fl_B_26 d_B_begin_23 ?_
        refine g_aload_n K 0 d_B_begin_26 rfl ?_
        refine g_lconst K (v := 0) d_B_begin_27 (by decide) ?_
        refine gB_put_spent K fl_B_30 d_B_begin_28 ?_
        refine g_aload_n K 0 d_B_begin_31 rfl ?_
        refine g_iconst K (v := 0) d_B_begin_32 (by decide) ?_
        refine gB_put_limited K false rfl fl_B_34 d_B_begin_33 ?_
        refine g_iconst K (v := 0) d_B_begin_36 (by decide) ?_
        refine g_top K nI_0' ?_
        refine g_istore_n (lv' := [(1, _), (0, _)]) K d_B_begin_37 (by decide) rfl ?_
        refine g_lv K [1, 0] rfl (J38 _ 0 sl (Nat.lt_succ_self _) (Nat.zero_le _) (fun j hj => absurd hj (Nat.not_lt_zero j)))
      · have h5 : v < 17 := Nat.lt_of_not_le (fun h => c5 ((nI_ltI (by omega) (by omega)).mpr h))
        refine g_aload_n K 0 d_B_begin_8 rfl ?_
        refine gB_get_values K fl_B_9 d_B_begin_9 ?_
        refine g_iload_n K 1 d_B_begin_12 rfl ?_
        refine g_iconst K (v := -1) d_B_begin_13 (by decide) ?_
        refine gB_ast_values K (v) rfl h5 d_B_begin_14 ?_
        refine g_iinc (v := nI (v + 1)) (lv' := [(1, _), (0, _)]) K 1 d_B_begin_15 rfl (nI_1 v) (by decide) rfl ?_
        refine g_goto K (tgt := 2) d_B_begin_18 (by decide) ?_
        refine g_lv K [1, 0] rfl (ih2 (v + 1) _ (by omega) (by omega) (fun j hj => ?_))
        by_cases e : j = v
        · subst e; exact upd_s
        · rw [upd_n e]; exact hF j (by omega)
  refine g_iconst K (v := 0) d_B_begin_0 (by decide) ?_
  refine g_top K nI_0' ?_
  refine g_istore_n (lv' := [(1, _), (0, _)]) K d_B_begin_1 (by decide) rfl ?_
  refine g_lv K [1, 0] rfl (J2 _ 0 vl (Nat.lt_succ_self _) (by omega) (fun j hj => absurd hj (Nat.not_lt_zero j)))
theorem d_B_weigh_0 : decode b_B_weigh 0 = .ok (.aload_n 0, 1) := by decide +kernel
theorem d_B_weigh_1 : decode b_B_weigh 1 = .ok (.getfield 9, 3) := by decide +kernel
theorem d_B_weigh_4 : decode b_B_weigh 4 = .ok (.iload_n 1, 1) := by decide +kernel
theorem d_B_weigh_5 : decode b_B_weigh 5 = .ok (.iaload, 1) := by decide +kernel
theorem d_B_weigh_6 : decode b_B_weigh 6 = .ok (.iconst 1, 1) := by decide +kernel
theorem d_B_weigh_7 : decode b_B_weigh 7 = .ok (.if_icmp .ne 24, 3) := by decide +kernel
theorem d_B_weigh_10 : decode b_B_weigh 10 = .ok (.aload_n 0, 1) := by decide +kernel
theorem d_B_weigh_11 : decode b_B_weigh 11 = .ok (.dup, 1) := by decide +kernel
theorem d_B_weigh_12 : decode b_B_weigh 12 = .ok (.getfield 30, 3) := by decide +kernel
theorem d_B_weigh_15 : decode b_B_weigh 15 = .ok (.iload_n 2, 1) := by decide +kernel
theorem d_B_weigh_16 : decode b_B_weigh 16 = .ok (.aload_n 0, 1) := by decide +kernel
theorem d_B_weigh_17 : decode b_B_weigh 17 = .ok (.getfield 22, 3) := by decide +kernel
theorem d_B_weigh_20 : decode b_B_weigh 20 = .ok (.getfield 63, 3) := by decide +kernel
theorem d_B_weigh_23 : decode b_B_weigh 23 = .ok (.iload_n 1, 1) := by decide +kernel
theorem d_B_weigh_24 : decode b_B_weigh 24 = .ok (.iaload, 1) := by decide +kernel
theorem d_B_weigh_25 : decode b_B_weigh 25 = .ok (.imul, 1) := by decide +kernel
theorem d_B_weigh_26 : decode b_B_weigh 26 = .ok (.i2l, 1) := by decide +kernel
theorem d_B_weigh_27 : decode b_B_weigh 27 = .ok (.lsub, 1) := by decide +kernel
theorem d_B_weigh_28 : decode b_B_weigh 28 = .ok (.putfield 30, 3) := by decide +kernel
theorem d_B_weigh_31 : decode b_B_weigh 31 = .ok (.iconst 0, 1) := by decide +kernel
theorem d_B_weigh_32 : decode b_B_weigh 32 = .ok (.istore_n 3, 1) := by decide +kernel
theorem d_B_weigh_33 : decode b_B_weigh 33 = .ok (.iload_n 3, 1) := by decide +kernel
theorem d_B_weigh_34 : decode b_B_weigh 34 = .ok (.aload_n 0, 1) := by decide +kernel
theorem d_B_weigh_35 : decode b_B_weigh 35 = .ok (.getfield 22, 3) := by decide +kernel
theorem d_B_weigh_38 : decode b_B_weigh 38 = .ok (.getfield 38, 3) := by decide +kernel
theorem d_B_weigh_41 : decode b_B_weigh 41 = .ok (.if_icmp .ge 93, 3) := by decide +kernel
theorem d_B_weigh_44 : decode b_B_weigh 44 = .ok (.aload_n 0, 1) := by decide +kernel
theorem d_B_weigh_45 : decode b_B_weigh 45 = .ok (.getfield 22, 3) := by decide +kernel
theorem d_B_weigh_48 : decode b_B_weigh 48 = .ok (.getfield 44, 3) := by decide +kernel
theorem d_B_weigh_51 : decode b_B_weigh 51 = .ok (.iload_n 3, 1) := by decide +kernel
theorem d_B_weigh_52 : decode b_B_weigh 52 = .ok (.iaload, 1) := by decide +kernel
theorem d_B_weigh_53 : decode b_B_weigh 53 = .ok (.istore 4, 2) := by decide +kernel
theorem d_B_weigh_55 : decode b_B_weigh 55 = .ok (.iload 4, 2) := by decide +kernel
theorem d_B_weigh_57 : decode b_B_weigh 57 = .ok (.aload_n 0, 1) := by decide +kernel
theorem d_B_weigh_58 : decode b_B_weigh 58 = .ok (.getfield 22, 3) := by decide +kernel
theorem d_B_weigh_61 : decode b_B_weigh 61 = .ok (.getfield 44, 3) := by decide +kernel
theorem d_B_weigh_64 : decode b_B_weigh 64 = .ok (.iload_n 3, 1) := by decide +kernel
theorem d_B_weigh_65 : decode b_B_weigh 65 = .ok (.iconst 1, 1) := by decide +kernel
theorem d_B_weigh_66 : decode b_B_weigh 66 = .ok (.iadd, 1) := by decide +kernel
theorem d_B_weigh_67 : decode b_B_weigh 67 = .ok (.iaload, 1) := by decide +kernel
theorem d_B_weigh_68 : decode b_B_weigh 68 = .ok (.if_icmp .ge 60, 3) := by decide +kernel
theorem d_B_weigh_71 : decode b_B_weigh 71 = .ok (.aload_n 0, 1) := by decide +kernel
theorem d_B_weigh_72 : decode b_B_weigh 72 = .ok (.getfield 22, 3) := by decide +kernel
theorem d_B_weigh_75 : decode b_B_weigh 75 = .ok (.getfield 66, 3) := by decide +kernel
theorem d_B_weigh_78 : decode b_B_weigh 78 = .ok (.iload 4, 2) := by decide +kernel
theorem d_B_weigh_80 : decode b_B_weigh 80 = .ok (.iaload, 1) := by decide +kernel
theorem d_B_weigh_81 : decode b_B_weigh 81 = .ok (.aload_n 0, 1) := by decide +kernel
theorem d_B_weigh_82 : decode b_B_weigh 82 = .ok (.getfield 9, 3) := by decide +kernel
theorem d_B_weigh_85 : decode b_B_weigh 85 = .ok (.iload_n 1, 1) := by decide +kernel
theorem d_B_weigh_86 : decode b_B_weigh 86 = .ok (.iaload, 1) := by decide +kernel
theorem d_B_weigh_87 : decode b_B_weigh 87 = .ok (.iconst 1, 1) := by decide +kernel
theorem d_B_weigh_88 : decode b_B_weigh 88 = .ok (.if_icmp .ne 8, 3) := by decide +kernel
theorem d_B_weigh_91 : decode b_B_weigh 91 = .ok (.iload_n 1, 1) := by decide +kernel
theorem d_B_weigh_92 : decode b_B_weigh 92 = .ok (.ineg, 1) := by decide +kernel
theorem d_B_weigh_93 : decode b_B_weigh 93 = .ok (.goto 4, 3) := by decide +kernel
theorem d_B_weigh_96 : decode b_B_weigh 96 = .ok (.iload_n 1, 1) := by decide +kernel
theorem d_B_weigh_97 : decode b_B_weigh 97 = .ok (.if_icmp .ne 25, 3) := by decide +kernel
theorem d_B_weigh_100 : decode b_B_weigh 100 = .ok (.aload_n 0, 1) := by decide +kernel
theorem d_B_weigh_101 : decode b_B_weigh 101 = .ok (.getfield 18, 3) := by decide +kernel
theorem d_B_weigh_104 : decode b_B_weigh 104 = .ok (.iload_n 3, 1) := by decide +kernel
theorem d_B_weigh_105 : decode b_B_weigh 105 = .ok (.dup2, 1) := by decide +kernel
theorem d_B_weigh_106 : decode b_B_weigh 106 = .ok (.laload, 1) := by decide +kernel
theorem d_B_weigh_107 : decode b_B_weigh 107 = .ok (.iload_n 2, 1) := by decide +kernel
theorem d_B_weigh_108 : decode b_B_weigh 108 = .ok (.aload_n 0, 1) := by decide +kernel
theorem d_B_weigh_109 : decode b_B_weigh 109 = .ok (.getfield 22, 3) := by decide +kernel
theorem d_B_weigh_112 : decode b_B_weigh 112 = .ok (.getfield 47, 3) := by decide +kernel
theorem d_B_weigh_115 : decode b_B_weigh 115 = .ok (.iload 4, 2) := by decide +kernel
theorem d_B_weigh_117 : decode b_B_weigh 117 = .ok (.iaload, 1) := by decide +kernel
theorem d_B_weigh_118 : decode b_B_weigh 118 = .ok (.imul, 1) := by decide +kernel
theorem d_B_weigh_119 : decode b_B_weigh 119 = .ok (.i2l, 1) := by decide +kernel
theorem d_B_weigh_120 : decode b_B_weigh 120 = .ok (.ladd, 1) := by decide +kernel
theorem d_B_weigh_121 : decode b_B_weigh 121 = .ok (.lastore, 1) := by decide +kernel
theorem d_B_weigh_122 : decode b_B_weigh 122 = .ok (.iinc 4 1, 3) := by decide +kernel
theorem d_B_weigh_125 : decode b_B_weigh 125 = .ok (.goto (-70), 3) := by decide +kernel
theorem d_B_weigh_128 : decode b_B_weigh 128 = .ok (.iinc 3 1, 3) := by decide +kernel
theorem d_B_weigh_131 : decode b_B_weigh 131 = .ok (.goto (-98), 3) := by decide +kernel
theorem d_B_weigh_134 : decode b_B_weigh 134 = .ok (.return_, 1) := by decide +kernel
set_option maxHeartbeats 4000000 in
set_option maxRecDepth 100000 in
theorem c_B_weigh (l : Launch) (D : va_G) (g : Nat → ClassId) (a : Nat → Nat) (b q0 q1 q2 : Nat) (fs : List Value) (P : Nat → Nat → Int32) (B : BS) {n k : Nat} (hf : FS a fs (nI n)) (hp : PWF P n k) {v : Nat} (h1 : 1 ≤ v) (h2 : v ≤ 16) {by1 : Int32} {w : Int} (hby : (by1 = 1 ∧ w = 1) ∨ (by1 = -1 ∧ w = -1)) : Ct l D g y_B_weigh b_B_weigh 5 none 0 [.ref b, .int (nI v), .int by1] (BW a b q0 q1 q2 g fs P B) (fun r w9 => ∃ B2 : BS, w9 = BW a b q0 q1 q2 g fs P B2 ∧ (r = none ∧ ∃ (s1 y1 : Nat → Int64), B2 = (B.1, B.2.1, s1, B.2.2.2.1, y1) ∧ (∀ c, c < n → s1 c = B.2.2.1 c + Int64.ofInt (w * wsm P (flt v (B.1 v)) c)) ∧ y1 0 = B.2.2.2.2 0 - Int64.ofInt (w * (if B.1 v = 1 then (P 0 v).toInt else 0)) ∧ y1 1 = B.2.2.2.2 1)) := by
  refine Ct.of (lv := [(0, _), (1, _), (2, _)]) (by decide) rfl (Nat.le_of_ble_eq_true rfl) rfl ?_
  intro G K
  obtain ⟨vl, tr, sl, x, y⟩ := B
  have J31 : ∀ (y1 : Nat → Int64), (y1 0 = y 0 - Int64.ofInt (w * (if vl v = 1 then (P 0 v).toInt else 0))) → (y1 1 = y 1) → G 31 [(0, .ref b), (1, .int (nI v)), (2, .int by1)] [] (BW a b q0 q1 q2 g fs P (vl, tr, sl, x, y1)) := by
    intro y1 hy0 hy1
    have J33 : ∀ (N : Nat) (c : Nat) (s1 : Nat → Int64), n - c < N → (c ≤ n) → (∀ j, j < n → s1 j = sl j + Int64.ofInt (w * (if j < c then wsm P (flt v (vl v)) j else 0))) → G 33 [(0, .ref b), (1, .int (nI v)), (2, .int by1), (3, .int (nI c))] [] (BW a b q0 q1 q2 g fs P (vl, tr, s1, x, y1)) := by
      intro N
      induction N with
      | zero => intro c s1 hm; exact absurd hm (Nat.not_lt_zero _)
      | succ N ih33 =>
        intro c s1 hm33 hc hs
        have J55 : ∀ (N : Nat) (t : Nat) (s2 : Nat → Int64) (z : Int), stn P (c + 1) - t < N → (c < n) → (t ≤ 120) → (∀ j, j < n → j ≠ c → s2 j = sl j + Int64.ofInt (w * (if j < c then wsm P (flt v (vl v)) j else 0))) → (s2 c = sl c + Int64.ofInt (w * z)) → (z + sm (wsf P (flt v (vl v))) t (stn P (c + 1) - t) = wsm P (flt v (vl v)) c) → G 55 [(0, .ref b), (1, .int (nI v)), (2, .int by1), (3, .int (nI c)), (4, .int (nI t))] [] (BW a b q0 q1 q2 g fs P (vl, tr, s2, x, y1)) := by
          intro N
          induction N with
          | zero => intro t s2 z hm; exact absurd hm (Nat.not_lt_zero _)
          | succ N ih55 =>
            intro t s2 z hm55 h41 ht hs2 hz1 hz
            have J122 : ∀ (s3 : Nat → Int64) (z2 : Int), (t < stn P (c + 1)) → (∀ j, j < n → j ≠ c → s3 j = sl j + Int64.ofInt (w * (if j < c then wsm P (flt v (vl v)) j else 0))) → (s3 c = sl c + Int64.ofInt (w * z2)) → (z2 + sm (wsf P (flt v (vl v))) (t + 1) (stn P (c + 1) - (t + 1)) = wsm P (flt v (vl v)) c) → G 122 [(0, .ref b), (1, .int (nI v)), (2, .int by1), (3, .int (nI c)), (4, .int (nI t))] [] (BW a b q0 q1 q2 g fs P (vl, tr, s3, x, y1)) := by
              intro s3 z2 h68 hs3 hz1b hzb
              refine g_iinc (v := nI (t + 1)) (lv' := [(4, _), (0, _), (1, _), (2, _), (3, _)]) K 4 d_B_weigh_122 rfl (nI_1 t) (by decide) rfl ?_
              refine g_goto K (tgt := 55) d_B_weigh_125 (by decide) ?_
              refine g_lv K [1, 2, 3, 4, 0] rfl (ih55 (t + 1) s3 z2 (by omega) h41 (by have := (hp.2.2.1 (c + 1) h41).2; have := hp.2.1; omega) hs3 hz1b hzb)
            have J97 : (t < stn P (c + 1)) → G 97 [(0, .ref b), (1, .int (nI v)), (2, .int by1), (3, .int (nI c)), (4, .int (nI t))] [.int (flt v (vl v)), .int (P 4 t)] (BW a b q0 q1 q2 g fs P (vl, tr, s2, x, y1)) := by
              intro  h68
              refine g_icmp_ne K (tgt := 122) d_B_weigh_97 (by decide) (fun c97 => ?_) (fun c97 => ?_)
              · refine g_lv K [0, 1, 2, 3, 4] rfl (J122 s2 z h68 hs2 hz1 (by rw [← hz, sm_s h68, show wsf P (flt v (vl v)) t = 0 from if_neg c97]; omega))
              · refine g_aload_n K 0 d_B_weigh_100 rfl ?_
                refine gB_get_slacks K fl_B_18 d_B_weigh_101 ?_
                refine g_iload_n K 3 d_B_weigh_104 rfl ?_
                refine g_dup2 K d_B_weigh_105 rfl rfl ?_
                refine gB_ald_slacks K (c) rfl (by have := hp.1; omega) d_B_weigh_106 ?_
                refine g_iload_n K 2 d_B_weigh_107 rfl ?_
                refine g_aload_n K 0 d_B_weigh_108 rfl ?_
                refine gB_get_of K fl_B_22 d_B_weigh_109 ?_
                refine gB_of K 3 fn_B_47 (by decide) hf.2.2.2.1 d_B_weigh_112 ?_
                refine g_iload K 4 d_B_weigh_115 rfl ?_
                refine g_iald K 8 (t) rfl rfl (by have := (hp.2.2.1 (c + 1) h41).2; have := hp.2.1; omega) d_B_weigh_117 ?_
                refine g_imul K d_B_weigh_118 ?_
                refine g_i2l K d_B_weigh_119 ?_
                refine g_ladd K d_B_weigh_120 ?_
                refine gB_ast_slacks K (c) rfl (by have := hp.1; omega) d_B_weigh_121 ?_
                refine g_lv K [0, 1, 2, 3, 4] rfl (J122 _ (z + (P 3 t).toInt) h68 (fun j hj hjc => by rw [updL_n hjc]; exact hs2 j hj hjc) ?_ (by rw [← hz, sm_s h68, show wsf P (flt v (vl v)) t = (P 3 t).toInt from if_pos c97]; omega))
                have hC := (hp.2.2.2.2.2 t (by have := (hp.2.2.1 (c + 1) h41).2; omega)).1
                rw [updL_s, mulby hby (by omega) (by omega), hz1, Int.mul_add, Int64.ofInt_add, Int64.add_assoc]
            refine g_iload K 4 d_B_weigh_55 rfl ?_
            refine g_aload_n K 0 d_B_weigh_57 rfl ?_
            refine gB_get_of K fl_B_22 d_B_weigh_58 ?_
            refine gB_of K 1 fn_B_44 (by decide) hf.2.1 d_B_weigh_61 ?_
            refine g_iload_n K 3 d_B_weigh_64 rfl ?_
            refine g_iconst K (v := 1) d_B_weigh_65 (by decide) ?_
            refine g_iadd K d_B_weigh_66 ?_
            refine g_iald K 6 (c + 1) rfl (nI_1 c) (by have := hp.1; omega) d_B_weigh_67 ?_
            have hk1 := (hp.2.2.1 (c + 1) h41).2
            have hk2 := hp.2.1
            refine g_top K (hp.2.2.1 (c + 1) h41).1 ?_
            refine g_icmp_ge K (tgt := 128) d_B_weigh_68 (by decide) (fun c68 => ?_) (fun c68 => ?_)
            · have h68 := (nI_leI (by omega) (by omega)).mp c68
              refine g_iinc (v := nI (c + 1)) (lv' := [(3, _), (0, _), (1, _), (2, _), (4, _)]) K 3 d_B_weigh_128 rfl (nI_1 c) (by decide) rfl ?_
              refine g_goto K (tgt := 33) d_B_weigh_131 (by decide) ?_
              refine g_lv K [1, 2, 3, 0] rfl (ih33 (c + 1) s2 (by omega) (by omega) (fun j hj => ?_))
              by_cases e : j = c
              · subst e; rw [hz1, if_pos (by omega), ← hz, sm_e h68, Int.add_zero]
              · rw [hs2 j hj e]
                by_cases e2 : j < c
                · rw [if_pos e2, if_pos (by omega)]
                · rw [if_neg e2, if_neg (by omega)]
            · have h68 : t < stn P (c + 1) := Nat.lt_of_not_le (fun h => c68 ((nI_leI (by omega) (by omega)).mpr h))
              refine g_aload_n K 0 d_B_weigh_71 rfl ?_
              refine gB_get_of K fl_B_22 d_B_weigh_72 ?_
              refine gB_of K 4 fn_B_66 (by decide) hf.2.2.2.2.1 d_B_weigh_75 ?_
              refine g_iload K 4 d_B_weigh_78 rfl ?_
              refine g_iald K 9 (t) rfl rfl (by omega) d_B_weigh_80 ?_
              refine g_aload_n K 0 d_B_weigh_81 rfl ?_
              refine gB_get_values K fl_B_9 d_B_weigh_82 ?_
              refine g_iload_n K 1 d_B_weigh_85 rfl ?_
              refine gB_ald_values K (v) rfl (by omega) d_B_weigh_86 ?_
              refine g_iconst K (v := 1) d_B_weigh_87 (by decide) ?_
              refine g_icmp_ne K (tgt := 96) d_B_weigh_88 (by decide) (fun c88 => ?_) (fun c88 => ?_)
              · refine g_iload_n K 1 d_B_weigh_96 rfl ?_
                refine g_top K (show nI v = flt v (vl v) from (if_neg c88).symm) ?_
                refine g_lv K [0, 1, 2, 3, 4] rfl (J97 h68)
              · refine g_iload_n K 1 d_B_weigh_91 rfl ?_
                refine g_ineg K d_B_weigh_92 ?_
                refine g_goto K (tgt := 97) d_B_weigh_93 (by decide) ?_
                refine g_top K (show -nI v = flt v (vl v) from (if_pos c88).symm) ?_
                refine g_lv K [0, 1, 2, 3, 4] rfl (J97 h68)
        refine g_iload_n K 3 d_B_weigh_33 rfl ?_
        refine g_aload_n K 0 d_B_weigh_34 rfl ?_
        refine gB_get_of K fl_B_22 d_B_weigh_35 ?_
        refine gB_of K 5 fn_B_38 (by decide) hf.2.2.2.2.2 d_B_weigh_38 ?_
        have hk1 := hp.1
        refine g_icmp_ge K (tgt := 134) d_B_weigh_41 (by decide) (fun c41 => ?_) (fun c41 => ?_)
        · have h41 := (nI_leI (by omega) (by omega)).mp c41
          refine g_vret K d_B_weigh_134 (⟨_, rfl, rfl, s1, y1, rfl, fun j hj => by rw [hs j hj, if_pos (by omega)], hy0, hy1⟩)
        · have h41 : c < n := Nat.lt_of_not_le (fun h => c41 ((nI_leI (by omega) (by omega)).mpr h))
          refine g_aload_n K 0 d_B_weigh_44 rfl ?_
          refine gB_get_of K fl_B_22 d_B_weigh_45 ?_
          refine gB_of K 1 fn_B_44 (by decide) hf.2.1 d_B_weigh_48 ?_
          refine g_iload_n K 3 d_B_weigh_51 rfl ?_
          refine g_iald K 6 (c) rfl rfl (by omega) d_B_weigh_52 ?_
          refine g_top K (hp.2.2.1 c (by omega)).1 ?_
          refine g_istore (lv' := [(4, _), (0, _), (1, _), (2, _), (3, _)]) K d_B_weigh_53 (by decide) rfl ?_
          refine g_lv K [1, 2, 3, 4, 0] rfl (J55 _ (stn P c) s1 0 (Nat.lt_succ_self _) h41 (by have := (hp.2.2.1 c (by omega)).2; have := hp.2.1; omega) (fun j hj _ => hs j hj) (by rw [hs c h41, if_neg (by omega)]) (Int.zero_add _))
    refine g_iconst K (v := 0) d_B_weigh_31 (by decide) ?_
    refine g_top K nI_0' ?_
    refine g_istore_n (lv' := [(3, _), (0, _), (1, _), (2, _)]) K d_B_weigh_32 (by decide) rfl ?_
    refine g_lv K [1, 2, 3, 0] rfl (J33 _ 0 sl (Nat.lt_succ_self _) (Nat.zero_le _) (fun j hj => by rw [if_neg (Nat.not_lt_zero j), Int.mul_zero, ofInt64_0]))
  refine g_aload_n K 0 d_B_weigh_0 rfl ?_
  refine gB_get_values K fl_B_9 d_B_weigh_1 ?_
  refine g_iload_n K 1 d_B_weigh_4 rfl ?_
  refine gB_ald_values K (v) rfl (by omega) d_B_weigh_5 ?_
  refine g_iconst K (v := 1) d_B_weigh_6 (by decide) ?_
  refine g_icmp_ne K (tgt := 31) d_B_weigh_7 (by decide) (fun c7 => ?_) (fun c7 => ?_)
  · refine g_lv K [0, 1, 2] rfl (J31 y (by rw [if_neg c7, Int.mul_zero, show Int64.ofInt 0 = 0 by decide, Int64.sub_zero]) rfl)
  · refine g_aload_n K 0 d_B_weigh_10 rfl ?_
    refine g_dup K d_B_weigh_11 rfl ?_
    refine gB_get_spent K fl_B_30 d_B_weigh_12 ?_
    refine g_iload_n K 2 d_B_weigh_15 rfl ?_
    refine g_aload_n K 0 d_B_weigh_16 rfl ?_
    refine gB_get_of K fl_B_22 d_B_weigh_17 ?_
    refine gB_of K 0 fn_B_63 (by decide) hf.1 d_B_weigh_20 ?_
    refine g_iload_n K 1 d_B_weigh_23 rfl ?_
    refine g_iald K 5 (v) rfl rfl (by omega) d_B_weigh_24 ?_
    refine g_imul K d_B_weigh_25 ?_
    refine g_i2l K d_B_weigh_26 ?_
    refine g_lsub K d_B_weigh_27 ?_
    refine gB_put_spent K fl_B_30 d_B_weigh_28 ?_
    refine g_lv K [0, 1, 2] rfl (J31 _ (by rw [updL_s, if_pos c7, mulby hby (hp.2.2.2.1 v (by omega)).1 (hp.2.2.2.1 v (by omega)).2]) rfl)
theorem d_B_set_0 : decode b_B_set 0 = .ok (.iload_n 1, 1) := by decide +kernel
theorem d_B_set_1 : decode b_B_set 1 = .ok (.invokestatic 53, 3) := by decide +kernel
theorem d_B_set_4 : decode b_B_set 4 = .ok (.istore_n 2, 1) := by decide +kernel
theorem d_B_set_5 : decode b_B_set 5 = .ok (.aload_n 0, 1) := by decide +kernel
theorem d_B_set_6 : decode b_B_set 6 = .ok (.getfield 9, 3) := by decide +kernel
theorem d_B_set_9 : decode b_B_set 9 = .ok (.iload_n 2, 1) := by decide +kernel
theorem d_B_set_10 : decode b_B_set 10 = .ok (.iload_n 1, 1) := by decide +kernel
theorem d_B_set_11 : decode b_B_set 11 = .ok (.ifCond .le 7, 3) := by decide +kernel
theorem d_B_set_14 : decode b_B_set 14 = .ok (.iconst 1, 1) := by decide +kernel
theorem d_B_set_15 : decode b_B_set 15 = .ok (.goto 4, 3) := by decide +kernel
theorem d_B_set_18 : decode b_B_set 18 = .ok (.iconst 0, 1) := by decide +kernel
theorem d_B_set_19 : decode b_B_set 19 = .ok (.iastore, 1) := by decide +kernel
theorem d_B_set_20 : decode b_B_set 20 = .ok (.aload_n 0, 1) := by decide +kernel
theorem d_B_set_21 : decode b_B_set 21 = .ok (.getfield 15, 3) := by decide +kernel
theorem d_B_set_24 : decode b_B_set 24 = .ok (.aload_n 0, 1) := by decide +kernel
theorem d_B_set_25 : decode b_B_set 25 = .ok (.getfield 26, 3) := by decide +kernel
theorem d_B_set_28 : decode b_B_set 28 = .ok (.iload_n 2, 1) := by decide +kernel
theorem d_B_set_29 : decode b_B_set 29 = .ok (.iastore, 1) := by decide +kernel
theorem d_B_set_30 : decode b_B_set 30 = .ok (.aload_n 0, 1) := by decide +kernel
theorem d_B_set_31 : decode b_B_set 31 = .ok (.dup, 1) := by decide +kernel
theorem d_B_set_32 : decode b_B_set 32 = .ok (.getfield 26, 3) := by decide +kernel
theorem d_B_set_35 : decode b_B_set 35 = .ok (.iconst 1, 1) := by decide +kernel
theorem d_B_set_36 : decode b_B_set 36 = .ok (.iadd, 1) := by decide +kernel
theorem d_B_set_37 : decode b_B_set 37 = .ok (.putfield 26, 3) := by decide +kernel
theorem d_B_set_40 : decode b_B_set 40 = .ok (.aload_n 0, 1) := by decide +kernel
theorem d_B_set_41 : decode b_B_set 41 = .ok (.iload_n 2, 1) := by decide +kernel
theorem d_B_set_42 : decode b_B_set 42 = .ok (.iconst (-1), 1) := by decide +kernel
theorem d_B_set_43 : decode b_B_set 43 = .ok (.invokevirtual 59, 3) := by decide +kernel
theorem d_B_set_46 : decode b_B_set 46 = .ok (.return_, 1) := by decide +kernel
set_option maxHeartbeats 4000000 in
set_option maxRecDepth 100000 in
theorem c_B_set (l : Launch) (D : va_G) (g : Nat → ClassId) (a : Nat → Nat) (b q0 q1 q2 : Nat) (fs : List Value) (P : Nat → Nat → Int32) (B : BS) {n k : Nat} (hf : FS a fs (nI n)) (hp : PWF P n k) {len : Nat} (hB : BI P n B len) {lit : Int32} (h1 : 1 ≤ vx lit) (h2 : vx lit ≤ 16) (ho : B.1 (vx lit) = -1) : Ct l D g y_B_set b_B_set 3 none 1 [.ref b, .int lit] (BW a b q0 q1 q2 g fs P B) (fun r w9 => ∃ B2 : BS, w9 = BW a b q0 q1 q2 g fs P B2 ∧ (r = none ∧ B2.1 = sv B.1 lit ∧ B2.2.1 = upd B.2.1 len (nI (vx lit)) ∧ BI P n B2 (len + 1) ∧ LK B B2)) := by
  refine Ct.of (lv := [(0, _), (1, _)]) (by decide) rfl (Nat.le_of_ble_eq_true rfl) rfl ?_
  intro G K
  obtain ⟨vl, tr, sl, x, y⟩ := B
  obtain ⟨hl0, hsl, hsp, hti⟩ := id hB
  dsimp only at hl0 hsl hsp hti ho
  have hlen : len < 16 := by have h3 := cn_open ⟨h1, h2⟩ ho; have h4 := hti.2.1; omega
  have hx : ∀ {x0 : Int32}, (x0 = if 0 < lit.toInt then 1 else 0) → x0 = 0 ∨ x0 = 1 := fun h => by rw [h]; split; exact Or.inr rfl; exact Or.inl rfl
  have J19 : ∀ (x0 : Int32), (x0 = if 0 < lit.toInt then 1 else 0) → G 19 [(0, .ref b), (1, .int lit), (2, .int (nI (vx lit)))] [.int x0, .int (nI (vx lit)), .ref q0] (BW a b q0 q1 q2 g fs P (vl, tr, sl, x, y)) := by
    intro x0 hx0
    refine gB_ast_values K (vx lit) rfl (by omega) d_B_set_19 ?_
    refine g_aload_n K 0 d_B_set_20 rfl ?_
    refine gB_get_trail K fl_B_15 d_B_set_21 ?_
    refine g_aload_n K 0 d_B_set_24 rfl ?_
    refine gB_get_length K fl_B_26 d_B_set_25 ?_
    refine g_iload_n K 2 d_B_set_28 rfl ?_
    refine gB_ast_trail K (len) hB.1 hlen d_B_set_29 ?_
    refine g_aload_n K 0 d_B_set_30 rfl ?_
    refine g_dup K d_B_set_31 rfl ?_
    refine gB_get_length K fl_B_26 d_B_set_32 ?_
    refine g_iconst K (v := 1) d_B_set_35 (by decide) ?_
    refine g_iadd K d_B_set_36 ?_
    refine g_top K (show _ = nI (len + 1) from (congrArg (· + 1) hB.1).trans (nI_1 len)) ?_
    refine gB_put_length K fl_B_26 d_B_set_37 ?_
    refine g_aload_n K 0 d_B_set_40 rfl ?_
    refine g_iload_n K 2 d_B_set_41 rfl ?_
    refine g_iconst K (v := -1) d_B_set_42 (by decide) ?_
    refine g_callW (q0 := 0) K (c_B_weigh l D g a b q0 q1 q2 fs P _ hf hp h1 h2 (Or.inr ⟨rfl, rfl⟩)) mf_B_weigh im_B_weigh se_B_weigh ml_B_59 (by decide) rfl rfl (Nat.le_of_ble_eq_true rfl) d_B_set_43 (fun v w1 hq => ?_) rfl
    obtain ⟨B2, rfl, rfl, s1, y1, rfl, hs, hy0, hy1⟩ := hq
    refine g_rv ?_
    refine g_vret K d_B_set_46 (⟨_, rfl, rfl, by rw [hx0]; rfl, rfl, ⟨rfl, fun c hc => ?_, ?_, hti.set h1 h2 ho (hx hx0)⟩, rfl, hy1⟩)
    · show s1 c = Int64.ofInt (sk P (upd vl (vx lit) x0) c)
      have e := hs c hc
      dsimp only at e
      rw [upd_s] at e
      rw [e, sk_set hp ⟨h1, h2⟩ ho (hx hx0) hc, hsl c hc, ← Int64.ofInt_add]
      congr 1
      omega
    · show y1 0 = Int64.ofInt (sp P (upd vl (vx lit) x0))
      dsimp only at hy0
      simp only [upd_s] at hy0
      rw [hy0, sp_set ⟨h1, h2⟩ ho, hsp, ← Int64.ofInt_sub]
      congr 1
      omega
  refine g_iload_n K 1 d_B_set_0 rfl ?_
  refine g_abs K ml_B_53 (by decide) (Nat.le_of_ble_eq_true rfl) d_B_set_1 ?_
  refine g_top K (lit_abs h2) ?_
  refine g_istore_n (lv' := [(2, _), (0, _), (1, _)]) K d_B_set_4 (by decide) rfl ?_
  refine g_aload_n K 1 d_B_set_5 rfl ?_
  refine gB_get_values K fl_B_9 d_B_set_6 ?_
  refine g_iload_n K 0 d_B_set_9 rfl ?_
  refine g_iload_n K 2 d_B_set_10 rfl ?_
  refine g_if_le K (tgt := 18) d_B_set_11 (by decide) (fun c11 => ?_) (fun c11 => ?_)
  · refine g_iconst K (v := 0) d_B_set_18 (by decide) ?_
    refine g_lv K [1, 2, 0] rfl (J19 0 (by rw [i_le, i_0] at c11; rw [if_neg (by omega)]))
  · refine g_iconst K (v := 1) d_B_set_14 (by decide) ?_
    refine g_goto K (tgt := 19) d_B_set_15 (by decide) ?_
    refine g_lv K [1, 2, 0] rfl (J19 1 (by rw [i_le, i_0] at c11; rw [if_pos (by omega)]))
theorem d_B_back_0 : decode b_B_back 0 = .ok (.aload_n 0, 1) := by decide +kernel
theorem d_B_back_1 : decode b_B_back 1 = .ok (.getfield 26, 3) := by decide +kernel
theorem d_B_back_4 : decode b_B_back 4 = .ok (.iload_n 1, 1) := by decide +kernel
theorem d_B_back_5 : decode b_B_back 5 = .ok (.if_icmp .le 39, 3) := by decide +kernel
theorem d_B_back_8 : decode b_B_back 8 = .ok (.aload_n 0, 1) := by decide +kernel
theorem d_B_back_9 : decode b_B_back 9 = .ok (.dup, 1) := by decide +kernel
theorem d_B_back_10 : decode b_B_back 10 = .ok (.getfield 26, 3) := by decide +kernel
theorem d_B_back_13 : decode b_B_back 13 = .ok (.iconst 1, 1) := by decide +kernel
theorem d_B_back_14 : decode b_B_back 14 = .ok (.isub, 1) := by decide +kernel
theorem d_B_back_15 : decode b_B_back 15 = .ok (.putfield 26, 3) := by decide +kernel
theorem d_B_back_18 : decode b_B_back 18 = .ok (.aload_n 0, 1) := by decide +kernel
theorem d_B_back_19 : decode b_B_back 19 = .ok (.getfield 15, 3) := by decide +kernel
theorem d_B_back_22 : decode b_B_back 22 = .ok (.aload_n 0, 1) := by decide +kernel
theorem d_B_back_23 : decode b_B_back 23 = .ok (.getfield 26, 3) := by decide +kernel
theorem d_B_back_26 : decode b_B_back 26 = .ok (.iaload, 1) := by decide +kernel
theorem d_B_back_27 : decode b_B_back 27 = .ok (.istore_n 2, 1) := by decide +kernel
theorem d_B_back_28 : decode b_B_back 28 = .ok (.aload_n 0, 1) := by decide +kernel
theorem d_B_back_29 : decode b_B_back 29 = .ok (.iload_n 2, 1) := by decide +kernel
theorem d_B_back_30 : decode b_B_back 30 = .ok (.iconst 1, 1) := by decide +kernel
theorem d_B_back_31 : decode b_B_back 31 = .ok (.invokevirtual 59, 3) := by decide +kernel
theorem d_B_back_34 : decode b_B_back 34 = .ok (.aload_n 0, 1) := by decide +kernel
theorem d_B_back_35 : decode b_B_back 35 = .ok (.getfield 9, 3) := by decide +kernel
theorem d_B_back_38 : decode b_B_back 38 = .ok (.iload_n 2, 1) := by decide +kernel
theorem d_B_back_39 : decode b_B_back 39 = .ok (.iconst (-1), 1) := by decide +kernel
theorem d_B_back_40 : decode b_B_back 40 = .ok (.iastore, 1) := by decide +kernel
theorem d_B_back_41 : decode b_B_back 41 = .ok (.goto (-41), 3) := by decide +kernel
theorem d_B_back_44 : decode b_B_back 44 = .ok (.return_, 1) := by decide +kernel
set_option maxHeartbeats 4000000 in
set_option maxRecDepth 100000 in
theorem c_B_back (l : Launch) (D : va_G) (g : Nat → ClassId) (a : Nat → Nat) (b q0 q1 q2 : Nat) (fs : List Value) (P : Nat → Nat → Int32) (B : BS) {n k : Nat} (hf : FS a fs (nI n)) (hp : PWF P n k) {len to : Nat} (hB : BI P n B len) (hto : to ≤ len) : Ct l D g y_B_back b_B_back 3 none 1 [.ref b, .int (nI to)] (BW a b q0 q1 q2 g fs P B) (fun r w9 => ∃ B2 : BS, w9 = BW a b q0 q1 q2 g fs P B2 ∧ (r = none ∧ B2.1 = un B.2.1 to len B.1 ∧ B2.2.1 = B.2.1 ∧ BI P n B2 to ∧ LK B B2)) := by
  refine Ct.of (lv := [(0, _), (1, _)]) (by decide) rfl (Nat.le_of_ble_eq_true rfl) rfl ?_
  intro G K
  obtain ⟨vl, tr, sl, x, y⟩ := B
  have J0 : ∀ (N : Nat) (len1 : Nat) (v1 : Nat → Int32) (s1 : Nat → Int64) (x1 : Nat → Int32) (y1 : Nat → Int64), len1 < N → (BI P n (v1, tr, s1, x1, y1) len1) → (to ≤ len1) → (un tr to len1 v1 = un tr to len vl) → (x1 1 = x 1 ∧ y1 1 = y 1) → G 0 [(0, .ref b), (1, .int (nI to))] [] (BW a b q0 q1 q2 g fs P (v1, tr, s1, x1, y1)) := by
    intro N
    induction N with
    | zero => intro len1 v1 s1 x1 y1 hm; exact absurd hm (Nat.not_lt_zero _)
    | succ N ih0 =>
      intro len1 v1 s1 x1 y1 hm0 hB1 hle hun hls
      obtain ⟨hl0, hsl, hsp, hti⟩ := id hB1
      dsimp only at hl0 hsl hsp hti
      have hle16 := hti.le
      refine g_aload_n K 0 d_B_back_0 rfl ?_
      refine gB_get_length K fl_B_26 d_B_back_1 ?_
      refine g_iload_n K 1 d_B_back_4 rfl ?_
      skip
      refine g_icmp_le K (tgt := 44) d_B_back_5 (by decide) (fun c5 => ?_) (fun c5 => ?_)
      · have h5 : len1 ≤ to := by rw [show x1 0 = nI len1 from hl0] at c5; exact (nI_leI (by omega) (by omega)).mp c5
        refine g_vret K d_B_back_44 (?_)
        have e : len1 = to := by omega
        subst e
        exact ⟨_, rfl, rfl, hun ▸ (un_le (Nat.le_refl _)).symm, rfl, hB1, hls⟩
      · have h5 : to < len1 := by rw [show x1 0 = nI len1 from hl0] at c5; exact Nat.lt_of_not_le (fun h => c5 ((nI_leI (by omega) (by omega)).mpr h))
        refine g_aload_n K 0 d_B_back_8 rfl ?_
        refine g_dup K d_B_back_9 rfl ?_
        refine gB_get_length K fl_B_26 d_B_back_10 ?_
        refine g_iconst K (v := 1) d_B_back_13 (by decide) ?_
        refine g_isub K d_B_back_14 ?_
        obtain ⟨m, rfl⟩ : ∃ m, len1 = m + 1 := ⟨len1 - 1, by omega⟩
        obtain ⟨v, t1, t2, t3, t4, t5⟩ := hti.top
        refine g_top K (show _ = nI m from (congrArg (· - 1) hl0).trans (nI_pred m)) ?_
        refine gB_put_length K fl_B_26 d_B_back_15 ?_
        refine g_aload_n K 0 d_B_back_18 rfl ?_
        refine gB_get_trail K fl_B_15 d_B_back_19 ?_
        refine g_aload_n K 0 d_B_back_22 rfl ?_
        refine gB_get_length K fl_B_26 d_B_back_23 ?_
        refine gB_ald_trail K (m) rfl (by omega) d_B_back_26 ?_
        refine g_top K t3 ?_
        refine g_istore_n (lv' := [(2, _), (0, _), (1, _)]) K d_B_back_27 (by decide) rfl ?_
        refine g_aload_n K 1 d_B_back_28 rfl ?_
        refine g_iload_n K 0 d_B_back_29 rfl ?_
        refine g_iconst K (v := 1) d_B_back_30 (by decide) ?_
        refine g_callW (q0 := 0) K (c_B_weigh l D g a b q0 q1 q2 fs P _ hf hp t1 t2 (Or.inl ⟨rfl, rfl⟩)) mf_B_weigh im_B_weigh se_B_weigh ml_B_59 (by decide) rfl rfl (Nat.le_of_ble_eq_true rfl) d_B_back_31 (fun v w1 hq => ?_) rfl
        obtain ⟨B2, rfl, rfl, s2, y2, rfl, hs, hy0, hy1⟩ := hq
        refine g_rv ?_
        refine g_aload_n K 1 d_B_back_34 rfl ?_
        refine gB_get_values K fl_B_9 d_B_back_35 ?_
        refine g_iload_n K 0 d_B_back_38 rfl ?_
        refine g_iconst K (v := -1) d_B_back_39 (by decide) ?_
        refine gB_ast_values K (v) rfl (by omega) d_B_back_40 ?_
        refine g_goto K (tgt := 0) d_B_back_41 (by decide) ?_
        refine g_lv K [1, 2] rfl (ih0 m _ s2 _ y2 (by omega) ⟨rfl, fun c hc => ?_, ?_, t5⟩ (by omega) ?_ ⟨hls.1, hy1.trans hls.2⟩)
        · show s2 c = Int64.ofInt (sk P (upd v1 v (-1)) c)
          have e := hs c hc
          dsimp only at e
          have e2 := sk_set hp (vl := upd v1 v (-1)) ⟨t1, t2⟩ upd_s t4 hc
          rw [upd_u, upd_id rfl] at e2
          rw [e, hsl c hc, ← Int64.ofInt_add]
          congr 1
          omega
        · show y2 0 = Int64.ofInt (sp P (upd v1 v (-1)))
          dsimp only at hy0
          have e2 := sp_set (P := P) (vl := upd v1 v (-1)) (x := v1 v) ⟨t1, t2⟩ upd_s
          rw [upd_u, upd_id rfl] at e2
          rw [hy0, hsp, ← Int64.ofInt_sub]
          congr 1
          omega
        · rw [← hun, un_s (by omega), tvn_of t3 (by omega)]
  refine g_lv K [0, 1] rfl (J0 _ len vl sl x y (Nat.lt_succ_self _) hB hto rfl ⟨rfl, rfl⟩)
theorem d_B_isBroken_0 : decode b_B_isBroken 0 = .ok (.aload_n 0, 1) := by decide +kernel
theorem d_B_isBroken_1 : decode b_B_isBroken 1 = .ok (.getfield 34, 3) := by decide +kernel
theorem d_B_isBroken_4 : decode b_B_isBroken 4 = .ok (.ifCond .eq 21, 3) := by decide +kernel
theorem d_B_isBroken_7 : decode b_B_isBroken 7 = .ok (.aload_n 0, 1) := by decide +kernel
theorem d_B_isBroken_8 : decode b_B_isBroken 8 = .ok (.getfield 50, 3) := by decide +kernel
theorem d_B_isBroken_11 : decode b_B_isBroken 11 = .ok (.aload_n 0, 1) := by decide +kernel
theorem d_B_isBroken_12 : decode b_B_isBroken 12 = .ok (.getfield 30, 3) := by decide +kernel
theorem d_B_isBroken_15 : decode b_B_isBroken 15 = .ok (.lsub, 1) := by decide +kernel
theorem d_B_isBroken_16 : decode b_B_isBroken 16 = .ok (.lconst 0, 1) := by decide +kernel
theorem d_B_isBroken_17 : decode b_B_isBroken 17 = .ok (.lcmp, 1) := by decide +kernel
theorem d_B_isBroken_18 : decode b_B_isBroken 18 = .ok (.ifCond .ge 7, 3) := by decide +kernel
theorem d_B_isBroken_21 : decode b_B_isBroken 21 = .ok (.iconst 1, 1) := by decide +kernel
theorem d_B_isBroken_22 : decode b_B_isBroken 22 = .ok (.goto 4, 3) := by decide +kernel
theorem d_B_isBroken_25 : decode b_B_isBroken 25 = .ok (.iconst 0, 1) := by decide +kernel
theorem d_B_isBroken_26 : decode b_B_isBroken 26 = .ok (.istore_n 1, 1) := by decide +kernel
theorem d_B_isBroken_27 : decode b_B_isBroken 27 = .ok (.iconst 0, 1) := by decide +kernel
theorem d_B_isBroken_28 : decode b_B_isBroken 28 = .ok (.istore_n 2, 1) := by decide +kernel
theorem d_B_isBroken_29 : decode b_B_isBroken 29 = .ok (.iload_n 2, 1) := by decide +kernel
theorem d_B_isBroken_30 : decode b_B_isBroken 30 = .ok (.aload_n 0, 1) := by decide +kernel
theorem d_B_isBroken_31 : decode b_B_isBroken 31 = .ok (.getfield 22, 3) := by decide +kernel
theorem d_B_isBroken_34 : decode b_B_isBroken 34 = .ok (.getfield 38, 3) := by decide +kernel
theorem d_B_isBroken_37 : decode b_B_isBroken 37 = .ok (.if_icmp .ge 30, 3) := by decide +kernel
theorem d_B_isBroken_40 : decode b_B_isBroken 40 = .ok (.iload_n 1, 1) := by decide +kernel
theorem d_B_isBroken_41 : decode b_B_isBroken 41 = .ok (.ifCond .ne 26, 3) := by decide +kernel
theorem d_B_isBroken_44 : decode b_B_isBroken 44 = .ok (.aload_n 0, 1) := by decide +kernel
theorem d_B_isBroken_45 : decode b_B_isBroken 45 = .ok (.getfield 18, 3) := by decide +kernel
theorem d_B_isBroken_48 : decode b_B_isBroken 48 = .ok (.iload_n 2, 1) := by decide +kernel
theorem d_B_isBroken_49 : decode b_B_isBroken 49 = .ok (.laload, 1) := by decide +kernel
theorem d_B_isBroken_50 : decode b_B_isBroken 50 = .ok (.lconst 0, 1) := by decide +kernel
theorem d_B_isBroken_51 : decode b_B_isBroken 51 = .ok (.lcmp, 1) := by decide +kernel
theorem d_B_isBroken_52 : decode b_B_isBroken 52 = .ok (.ifCond .ge 7, 3) := by decide +kernel
theorem d_B_isBroken_55 : decode b_B_isBroken 55 = .ok (.iconst 1, 1) := by decide +kernel
theorem d_B_isBroken_56 : decode b_B_isBroken 56 = .ok (.goto 4, 3) := by decide +kernel
theorem d_B_isBroken_59 : decode b_B_isBroken 59 = .ok (.iconst 0, 1) := by decide +kernel
theorem d_B_isBroken_60 : decode b_B_isBroken 60 = .ok (.istore_n 1, 1) := by decide +kernel
theorem d_B_isBroken_61 : decode b_B_isBroken 61 = .ok (.iinc 2 1, 3) := by decide +kernel
theorem d_B_isBroken_64 : decode b_B_isBroken 64 = .ok (.goto (-35), 3) := by decide +kernel
theorem d_B_isBroken_67 : decode b_B_isBroken 67 = .ok (.iload_n 1, 1) := by decide +kernel
theorem d_B_isBroken_68 : decode b_B_isBroken 68 = .ok (.ireturn, 1) := by decide +kernel
set_option maxHeartbeats 4000000 in
set_option maxRecDepth 100000 in
theorem c_B_isBroken (l : Launch) (D : va_G) (g : Nat → ClassId) (a : Nat → Nat) (b q0 q1 q2 : Nat) (fs : List Value) (P : Nat → Nat → Int32) (B : BS) {n k : Nat} (hf : FS a fs (nI n)) (hp : PWF P n k) {len : Nat} (hB : BI P n B len) {lim : Option Int} (hl : BL B lim) : Ct l D g y_B_isBroken b_B_isBroken 3 (some .boolean) 0 [.ref b] (BW a b q0 q1 q2 g fs P B) (fun r w9 => ∃ B2 : BS, w9 = BW a b q0 q1 q2 g fs P B2 ∧ (r = some (.int (bZ (brk P n lim B.1))) ∧ B2 = B)) := by
  refine Ct.of (lv := [(0, _)]) (by decide) rfl (Nat.le_of_ble_eq_true rfl) rfl ?_
  intro G K
  obtain ⟨vl, tr, sl, x, y⟩ := B
  obtain ⟨hl0, hsl, hsp, hti⟩ := id hB
  dsimp only at hl0 hsl hsp hti
  have J29 : ∀ (N : Nat) (c : Nat) (b1 : Bool), n - c < N → (c ≤ n) → ((b1 || an (fun c => decide (sk P vl c < 0)) c (n - c)) = brk P n lim vl) → G 29 [(0, .ref b), (1, .int (bZ b1)), (2, .int (nI c))] [] (BW a b q0 q1 q2 g fs P (vl, tr, sl, x, y)) := by
    intro N
    induction N with
    | zero => intro c b1 hm; exact absurd hm (Nat.not_lt_zero _)
    | succ N ih29 =>
      intro c b1 hm29 hc hR
      have J67 : (b1 = brk P n lim vl) → G 67 [(0, .ref b), (1, .int (bZ b1)), (2, .int (nI c))] [] (BW a b q0 q1 q2 g fs P (vl, tr, sl, x, y)) := by
        intro  hE
        refine g_iload_n K 1 d_B_isBroken_67 rfl ?_
        refine g_zret K (bZ_nar _) d_B_isBroken_68 (⟨_, rfl, by rw [hE], rfl⟩)
      have J60 : ∀ (b2 : Bool), (c < n) → ((b2 || an (fun c => decide (sk P vl c < 0)) (c + 1) (n - (c + 1))) = brk P n lim vl) → G 60 [(0, .ref b), (1, .int (bZ b1)), (2, .int (nI c))] [.int (bZ b2)] (BW a b q0 q1 q2 g fs P (vl, tr, sl, x, y)) := by
        intro b2 h37 hR2
        refine g_istore_n (lv' := [(1, _), (0, _), (2, _)]) K d_B_isBroken_60 (by decide) rfl ?_
        refine g_iinc (v := nI (c + 1)) (lv' := [(2, _), (1, _), (0, _)]) K 2 d_B_isBroken_61 rfl (nI_1 c) (by decide) rfl ?_
        refine g_goto K (tgt := 29) d_B_isBroken_64 (by decide) ?_
        refine g_lv K [2, 1, 0] rfl (ih29 (c + 1) b2 (by omega) (by omega) hR2)
      refine g_iload_n K 2 d_B_isBroken_29 rfl ?_
      refine g_aload_n K 0 d_B_isBroken_30 rfl ?_
      refine gB_get_of K fl_B_22 d_B_isBroken_31 ?_
      refine gB_of K 5 fn_B_38 (by decide) hf.2.2.2.2.2 d_B_isBroken_34 ?_
      have hk1 := hp.1
      refine g_icmp_ge K (tgt := 67) d_B_isBroken_37 (by decide) (fun c37 => ?_) (fun c37 => ?_)
      · have h37 := (nI_leI (by omega) (by omega)).mp c37
        refine g_lv K [0, 1, 2] rfl (J67 (by rw [← hR, an_e h37, Bool.or_false]))
      · have h37 : c < n := Nat.lt_of_not_le (fun h => c37 ((nI_leI (by omega) (by omega)).mpr h))
        refine g_iload_n K 1 d_B_isBroken_40 rfl ?_
        refine g_if_ne K (tgt := 67) d_B_isBroken_41 (by decide) (fun c41 => ?_) (fun c41 => ?_)
        · refine g_lv K [0, 1, 2] rfl (J67 (by rw [← hR, bZ_t c41]; rfl))
        · have e41 := bZ_f c41
          refine g_aload_n K 0 d_B_isBroken_44 rfl ?_
          refine gB_get_slacks K fl_B_18 d_B_isBroken_45 ?_
          refine g_iload_n K 2 d_B_isBroken_48 rfl ?_
          refine gB_ald_slacks K (c) rfl (by omega) d_B_isBroken_49 ?_
          refine g_lconst K (v := 0) d_B_isBroken_50 (by decide) ?_
          refine g_lcmp K d_B_isBroken_51 ?_
          refine g_if_ge K (tgt := 59) d_B_isBroken_52 (by decide) (fun c52 => ?_) (fun c52 => ?_)
          · have h52 : ¬ sk P vl c < 0 := by have := sk_bd hp vl h37; rw [cmp_ge, l_0, hsl c h37, l_of (by omega) (by omega)] at c52; omega
            refine g_iconst K (v := 0) d_B_isBroken_59 (by decide) ?_
            refine g_lv K [0, 1, 2] rfl (J60 false h37 (by rw [← hR, e41, an_s h37, decide_eq_false h52]; rfl))
          · have h52 : sk P vl c < 0 := by have := sk_bd hp vl h37; rw [cmp_ge, l_0, hsl c h37, l_of (by omega) (by omega)] at c52; omega
            refine g_iconst K (v := 1) d_B_isBroken_55 (by decide) ?_
            refine g_goto K (tgt := 60) d_B_isBroken_56 (by decide) ?_
            refine g_lv K [0, 1, 2] rfl (J60 true h37 (by rw [← hR, e41, an_s h37, decide_eq_true h52]; rfl))
  have J26 : ∀ (b0 : Bool), (b0 = lmb lim (sp P vl)) → G 26 [(0, .ref b)] [.int (bZ b0)] (BW a b q0 q1 q2 g fs P (vl, tr, sl, x, y)) := by
    intro b0 hb0
    refine g_istore_n (lv' := [(1, _), (0, _)]) K d_B_isBroken_26 (by decide) rfl ?_
    refine g_iconst K (v := 0) d_B_isBroken_27 (by decide) ?_
    refine g_top K nI_0' ?_
    refine g_istore_n (lv' := [(2, _), (1, _), (0, _)]) K d_B_isBroken_28 (by decide) rfl ?_
    refine g_lv K [2, 1, 0] rfl (J29 _ 0 b0 (Nat.lt_succ_self _) (Nat.zero_le _) (by rw [hb0]; rfl))
  refine g_aload_n K 0 d_B_isBroken_0 rfl ?_
  refine gB_get_limited K fl_B_34 d_B_isBroken_1 ?_
  refine g_if_eq K (tgt := 25) d_B_isBroken_4 (by decide) (fun c4 => ?_) (fun c4 => ?_)
  · have e1 : lim = none := by cases lim with | none => rfl | some L => exact absurd (hl.1.symm.trans c4) (show ¬ bZ true = 0 by decide)
    refine g_iconst K (v := 0) d_B_isBroken_25 (by decide) ?_
    refine g_lv K [0] rfl (J26 false ?_)
    first | (rw [e1]; rfl) | exact (decide_eq_false h18).symm
  · obtain ⟨L, rfl⟩ : ∃ L, lim = some L := by cases lim with | none => exact absurd hl.1 c4 | some L => exact ⟨L, rfl⟩
    have hs := sp_bd hp vl
    obtain ⟨g1, g2, g3⟩ := hl.2 L rfl
    dsimp only at g1
    refine g_aload_n K 0 d_B_isBroken_7 rfl ?_
    refine gB_get_limit K fl_B_50 d_B_isBroken_8 ?_
    refine g_aload_n K 0 d_B_isBroken_11 rfl ?_
    refine gB_get_spent K fl_B_30 d_B_isBroken_12 ?_
    refine g_lsub K d_B_isBroken_15 ?_
    refine g_lconst K (v := 0) d_B_isBroken_16 (by decide) ?_
    refine g_lcmp K d_B_isBroken_17 ?_
    refine g_if_ge K (tgt := 25) d_B_isBroken_18 (by decide) (fun c18 => ?_) (fun c18 => ?_)
    · have h18 : ¬ L - sp P vl < 0 := by rw [cmp_ge, l_0, g1, hsp, ← Int64.ofInt_sub, l_of (by omega) (by omega)] at c18; omega
      refine g_iconst K (v := 0) d_B_isBroken_25 (by decide) ?_
      refine g_lv K [0] rfl (J26 false ?_)
      first | (rw [e1]; rfl) | exact (decide_eq_false h18).symm
    · have h18 : L - sp P vl < 0 := by rw [cmp_ge, l_0, g1, hsp, ← Int64.ofInt_sub, l_of (by omega) (by omega)] at c18; omega
      refine g_iconst K (v := 1) d_B_isBroken_21 (by decide) ?_
      refine g_goto K (tgt := 26) d_B_isBroken_22 (by decide) ?_
      refine g_lv K [0] rfl (J26 true (decide_eq_true h18).symm)
theorem d_B_forces_0 : decode b_B_forces 0 = .ok (.iconst 0, 1) := by decide +kernel
theorem d_B_forces_1 : decode b_B_forces 1 = .ok (.istore_n 1, 1) := by decide +kernel
theorem d_B_forces_2 : decode b_B_forces 2 = .ok (.iload_n 1, 1) := by decide +kernel
theorem d_B_forces_3 : decode b_B_forces 3 = .ok (.aload_n 0, 1) := by decide +kernel
theorem d_B_forces_4 : decode b_B_forces 4 = .ok (.getfield 22, 3) := by decide +kernel
theorem d_B_forces_7 : decode b_B_forces 7 = .ok (.getfield 38, 3) := by decide +kernel
theorem d_B_forces_10 : decode b_B_forces 10 = .ok (.if_icmp .ge 86, 3) := by decide +kernel
theorem d_B_forces_13 : decode b_B_forces 13 = .ok (.aload_n 0, 1) := by decide +kernel
theorem d_B_forces_14 : decode b_B_forces 14 = .ok (.getfield 22, 3) := by decide +kernel
theorem d_B_forces_17 : decode b_B_forces 17 = .ok (.getfield 44, 3) := by decide +kernel
theorem d_B_forces_20 : decode b_B_forces 20 = .ok (.iload_n 1, 1) := by decide +kernel
theorem d_B_forces_21 : decode b_B_forces 21 = .ok (.iaload, 1) := by decide +kernel
theorem d_B_forces_22 : decode b_B_forces 22 = .ok (.istore_n 2, 1) := by decide +kernel
theorem d_B_forces_23 : decode b_B_forces 23 = .ok (.iload_n 2, 1) := by decide +kernel
theorem d_B_forces_24 : decode b_B_forces 24 = .ok (.aload_n 0, 1) := by decide +kernel
theorem d_B_forces_25 : decode b_B_forces 25 = .ok (.getfield 22, 3) := by decide +kernel
theorem d_B_forces_28 : decode b_B_forces 28 = .ok (.getfield 44, 3) := by decide +kernel
theorem d_B_forces_31 : decode b_B_forces 31 = .ok (.iload_n 1, 1) := by decide +kernel
theorem d_B_forces_32 : decode b_B_forces 32 = .ok (.iconst 1, 1) := by decide +kernel
theorem d_B_forces_33 : decode b_B_forces 33 = .ok (.iadd, 1) := by decide +kernel
theorem d_B_forces_34 : decode b_B_forces 34 = .ok (.iaload, 1) := by decide +kernel
theorem d_B_forces_35 : decode b_B_forces 35 = .ok (.if_icmp .ge 55, 3) := by decide +kernel
theorem d_B_forces_38 : decode b_B_forces 38 = .ok (.aload_n 0, 1) := by decide +kernel
theorem d_B_forces_39 : decode b_B_forces 39 = .ok (.aload_n 0, 1) := by decide +kernel
theorem d_B_forces_40 : decode b_B_forces 40 = .ok (.getfield 22, 3) := by decide +kernel
theorem d_B_forces_43 : decode b_B_forces 43 = .ok (.getfield 66, 3) := by decide +kernel
theorem d_B_forces_46 : decode b_B_forces 46 = .ok (.iload_n 2, 1) := by decide +kernel
theorem d_B_forces_47 : decode b_B_forces 47 = .ok (.iaload, 1) := by decide +kernel
theorem d_B_forces_48 : decode b_B_forces 48 = .ok (.invokevirtual 69, 3) := by decide +kernel
theorem d_B_forces_51 : decode b_B_forces 51 = .ok (.ifCond .eq 33, 3) := by decide +kernel
theorem d_B_forces_54 : decode b_B_forces 54 = .ok (.aload_n 0, 1) := by decide +kernel
theorem d_B_forces_55 : decode b_B_forces 55 = .ok (.getfield 22, 3) := by decide +kernel
theorem d_B_forces_58 : decode b_B_forces 58 = .ok (.getfield 47, 3) := by decide +kernel
theorem d_B_forces_61 : decode b_B_forces 61 = .ok (.iload_n 2, 1) := by decide +kernel
theorem d_B_forces_62 : decode b_B_forces 62 = .ok (.iaload, 1) := by decide +kernel
theorem d_B_forces_63 : decode b_B_forces 63 = .ok (.i2l, 1) := by decide +kernel
theorem d_B_forces_64 : decode b_B_forces 64 = .ok (.aload_n 0, 1) := by decide +kernel
theorem d_B_forces_65 : decode b_B_forces 65 = .ok (.getfield 18, 3) := by decide +kernel
theorem d_B_forces_68 : decode b_B_forces 68 = .ok (.iload_n 1, 1) := by decide +kernel
theorem d_B_forces_69 : decode b_B_forces 69 = .ok (.laload, 1) := by decide +kernel
theorem d_B_forces_70 : decode b_B_forces 70 = .ok (.lcmp, 1) := by decide +kernel
theorem d_B_forces_71 : decode b_B_forces 71 = .ok (.ifCond .le 13, 3) := by decide +kernel
theorem d_B_forces_74 : decode b_B_forces 74 = .ok (.aload_n 0, 1) := by decide +kernel
theorem d_B_forces_75 : decode b_B_forces 75 = .ok (.getfield 22, 3) := by decide +kernel
theorem d_B_forces_78 : decode b_B_forces 78 = .ok (.getfield 66, 3) := by decide +kernel
theorem d_B_forces_81 : decode b_B_forces 81 = .ok (.iload_n 2, 1) := by decide +kernel
theorem d_B_forces_82 : decode b_B_forces 82 = .ok (.iaload, 1) := by decide +kernel
theorem d_B_forces_83 : decode b_B_forces 83 = .ok (.ireturn, 1) := by decide +kernel
theorem d_B_forces_84 : decode b_B_forces 84 = .ok (.iinc 2 1, 3) := by decide +kernel
theorem d_B_forces_87 : decode b_B_forces 87 = .ok (.goto (-64), 3) := by decide +kernel
theorem d_B_forces_90 : decode b_B_forces 90 = .ok (.iinc 1 1, 3) := by decide +kernel
theorem d_B_forces_93 : decode b_B_forces 93 = .ok (.goto (-91), 3) := by decide +kernel
theorem d_B_forces_96 : decode b_B_forces 96 = .ok (.iconst 1, 1) := by decide +kernel
theorem d_B_forces_97 : decode b_B_forces 97 = .ok (.istore_n 1, 1) := by decide +kernel
theorem d_B_forces_98 : decode b_B_forces 98 = .ok (.iload_n 1, 1) := by decide +kernel
theorem d_B_forces_99 : decode b_B_forces 99 = .ok (.bipush 16, 2) := by decide +kernel
theorem d_B_forces_101 : decode b_B_forces 101 = .ok (.if_icmp .gt 64, 3) := by decide +kernel
theorem d_B_forces_104 : decode b_B_forces 104 = .ok (.aload_n 0, 1) := by decide +kernel
theorem d_B_forces_105 : decode b_B_forces 105 = .ok (.getfield 34, 3) := by decide +kernel
theorem d_B_forces_108 : decode b_B_forces 108 = .ok (.ifCond .eq 57, 3) := by decide +kernel
theorem d_B_forces_111 : decode b_B_forces 111 = .ok (.aload_n 0, 1) := by decide +kernel
theorem d_B_forces_112 : decode b_B_forces 112 = .ok (.getfield 9, 3) := by decide +kernel
theorem d_B_forces_115 : decode b_B_forces 115 = .ok (.iload_n 1, 1) := by decide +kernel
theorem d_B_forces_116 : decode b_B_forces 116 = .ok (.iaload, 1) := by decide +kernel
theorem d_B_forces_117 : decode b_B_forces 117 = .ok (.iconst (-1), 1) := by decide +kernel
theorem d_B_forces_118 : decode b_B_forces 118 = .ok (.if_icmp .ne 41, 3) := by decide +kernel
theorem d_B_forces_121 : decode b_B_forces 121 = .ok (.aload_n 0, 1) := by decide +kernel
theorem d_B_forces_122 : decode b_B_forces 122 = .ok (.getfield 22, 3) := by decide +kernel
theorem d_B_forces_125 : decode b_B_forces 125 = .ok (.getfield 63, 3) := by decide +kernel
theorem d_B_forces_128 : decode b_B_forces 128 = .ok (.iload_n 1, 1) := by decide +kernel
theorem d_B_forces_129 : decode b_B_forces 129 = .ok (.iaload, 1) := by decide +kernel
theorem d_B_forces_130 : decode b_B_forces 130 = .ok (.ifCond .le 29, 3) := by decide +kernel
theorem d_B_forces_133 : decode b_B_forces 133 = .ok (.aload_n 0, 1) := by decide +kernel
theorem d_B_forces_134 : decode b_B_forces 134 = .ok (.getfield 22, 3) := by decide +kernel
theorem d_B_forces_137 : decode b_B_forces 137 = .ok (.getfield 63, 3) := by decide +kernel
theorem d_B_forces_140 : decode b_B_forces 140 = .ok (.iload_n 1, 1) := by decide +kernel
theorem d_B_forces_141 : decode b_B_forces 141 = .ok (.iaload, 1) := by decide +kernel
theorem d_B_forces_142 : decode b_B_forces 142 = .ok (.i2l, 1) := by decide +kernel
theorem d_B_forces_143 : decode b_B_forces 143 = .ok (.aload_n 0, 1) := by decide +kernel
theorem d_B_forces_144 : decode b_B_forces 144 = .ok (.getfield 50, 3) := by decide +kernel
theorem d_B_forces_147 : decode b_B_forces 147 = .ok (.aload_n 0, 1) := by decide +kernel
theorem d_B_forces_148 : decode b_B_forces 148 = .ok (.getfield 30, 3) := by decide +kernel
theorem d_B_forces_151 : decode b_B_forces 151 = .ok (.lsub, 1) := by decide +kernel
theorem d_B_forces_152 : decode b_B_forces 152 = .ok (.lcmp, 1) := by decide +kernel
theorem d_B_forces_153 : decode b_B_forces 153 = .ok (.ifCond .le 6, 3) := by decide +kernel
theorem d_B_forces_156 : decode b_B_forces 156 = .ok (.iload_n 1, 1) := by decide +kernel
theorem d_B_forces_157 : decode b_B_forces 157 = .ok (.ineg, 1) := by decide +kernel
theorem d_B_forces_158 : decode b_B_forces 158 = .ok (.ireturn, 1) := by decide +kernel
theorem d_B_forces_159 : decode b_B_forces 159 = .ok (.iinc 1 1, 3) := by decide +kernel
theorem d_B_forces_162 : decode b_B_forces 162 = .ok (.goto (-64), 3) := by decide +kernel
theorem d_B_forces_165 : decode b_B_forces 165 = .ok (.iconst 0, 1) := by decide +kernel
theorem d_B_forces_166 : decode b_B_forces 166 = .ok (.ireturn, 1) := by decide +kernel
set_option maxHeartbeats 4000000 in
set_option maxRecDepth 100000 in
theorem c_B_forces (l : Launch) (D : va_G) (g : Nat → ClassId) (a : Nat → Nat) (b q0 q1 q2 : Nat) (fs : List Value) (P : Nat → Nat → Int32) (B : BS) {n k : Nat} (hf : FS a fs (nI n)) (hp : PWF P n k) {len : Nat} (hB : BI P n B len) {lim : Option Int} (hl : BL B lim) : Ct l D g y_B_forces b_B_forces 3 (some .int) 2 [.ref b] (BW a b q0 q1 q2 g fs P B) (fun r w9 => ∃ B2 : BS, w9 = BW a b q0 q1 q2 g fs P B2 ∧ (r = some (.int (frc P n lim B.1)) ∧ B2 = B)) := by
  refine Ct.of (lv := [(0, _)]) (by decide) rfl (Nat.le_of_ble_eq_true rfl) rfl ?_
  intro G K
  obtain ⟨vl, tr, sl, x, y⟩ := B
  obtain ⟨hl0, hsl, hsp, hti⟩ := id hB
  dsimp only at hl0 hsl hsp hti
  have J98 : ∀ (N : Nat) (v : Nat), 17 - v < N → (1 ≤ v) → (v ≤ 17) → (lim = none → frc P n lim vl = 0) → (∀ L, lim = some L → frc P n lim vl = (fi (frV P L vl) v (17 - v)).getD 0) → G 98 [(0, .ref b), (1, .int (nI v))] [] (BW a b q0 q1 q2 g fs P (vl, tr, sl, x, y)) := by
    intro N
    induction N with
    | zero => intro v hm; exact absurd hm (Nat.not_lt_zero _)
    | succ N ih98 =>
      intro v hm98 h1 h2 hF hV
      have J159 : (v < 17) → (∀ L, lim = some L → frV P L vl v = none) → G 159 [(0, .ref b), (1, .int (nI v))] [] (BW a b q0 q1 q2 g fs P (vl, tr, sl, x, y)) := by
        intro  h101 hN
        refine g_iinc (v := nI (v + 1)) (lv' := [(1, _), (0, _)]) K 1 d_B_forces_159 rfl (nI_1 v) (by decide) rfl ?_
        refine g_goto K (tgt := 98) d_B_forces_162 (by decide) ?_
        refine g_lv K [1, 0] rfl (ih98 (v + 1) (by omega) (by omega) (by omega) hF (fun L e => by rw [hV L e, fi_none h101 (hN L e)]))
      refine g_iload_n K 1 d_B_forces_98 rfl ?_
      refine g_bipush K (v := 16) d_B_forces_99 (by decide) ?_
      refine g_top K nI_16 ?_
      refine g_icmp_gt K (tgt := 165) d_B_forces_101 (by decide) (fun c101 => ?_) (fun c101 => ?_)
      · have h101 := (nI_ltI (by omega) (by omega)).mp c101
        refine g_iconst K (v := 0) d_B_forces_165 (by decide) ?_
        refine g_iret K d_B_forces_166 (?_)
        first | exact ⟨_, rfl, by rw [hF e1], rfl⟩ | (cases hlm : lim; exact ⟨_, rfl, by rw [← hlm, hF hlm], rfl⟩; exact ⟨_, rfl, by rw [← hlm, hV _ hlm, fi_e (by omega)]; rfl, rfl⟩)
      · have h101 : v < 17 := Nat.lt_of_not_le (fun h => c101 ((nI_ltI (by omega) (by omega)).mpr h))
        refine g_aload_n K 0 d_B_forces_104 rfl ?_
        refine gB_get_limited K fl_B_34 d_B_forces_105 ?_
        refine g_if_eq K (tgt := 165) d_B_forces_108 (by decide) (fun c108 => ?_) (fun c108 => ?_)
        · have e1 : lim = none := by cases lim with | none => rfl | some L => exact absurd (hl.1.symm.trans c108) (show ¬ bZ true = 0 by decide)
          refine g_iconst K (v := 0) d_B_forces_165 (by decide) ?_
          refine g_iret K d_B_forces_166 (?_)
          first | exact ⟨_, rfl, by rw [hF e1], rfl⟩ | (cases hlm : lim; exact ⟨_, rfl, by rw [← hlm, hF hlm], rfl⟩; exact ⟨_, rfl, by rw [← hlm, hV _ hlm, fi_e (by omega)]; rfl, rfl⟩)
        · obtain ⟨L, hL⟩ : ∃ L, lim = some L := by cases lim with | none => exact absurd hl.1 c108 | some L => exact ⟨L, rfl⟩
          have hs := sp_bd hp vl
          obtain ⟨g1, g2, g3⟩ := hl.2 L hL
          dsimp only at g1
          have h0 := hp.2.2.2.1 v (by omega)
          have hS : ∀ L2, lim = some L2 → L2 = L := fun L2 e => Option.some.inj (e.symm.trans hL)
          refine g_aload_n K 0 d_B_forces_111 rfl ?_
          refine gB_get_values K fl_B_9 d_B_forces_112 ?_
          refine g_iload_n K 1 d_B_forces_115 rfl ?_
          refine gB_ald_values K (v) rfl (by omega) d_B_forces_116 ?_
          refine g_iconst K (v := -1) d_B_forces_117 (by decide) ?_
          refine g_icmp_ne K (tgt := 159) d_B_forces_118 (by decide) (fun c118 => ?_) (fun c118 => ?_)
          · refine g_lv K [0, 1] rfl (J159 h101 (fun _ _ => if_neg (fun h => c118 h.1)))
          · refine g_aload_n K 0 d_B_forces_121 rfl ?_
            refine gB_get_of K fl_B_22 d_B_forces_122 ?_
            refine gB_of K 0 fn_B_63 (by decide) hf.1 d_B_forces_125 ?_
            refine g_iload_n K 1 d_B_forces_128 rfl ?_
            refine g_iald K 5 (v) rfl rfl (by omega) d_B_forces_129 ?_
            refine g_if_le K (tgt := 159) d_B_forces_130 (by decide) (fun c130 => ?_) (fun c130 => ?_)
            · have h130 : ¬ 0 < (P 0 v).toInt := by rw [i_le, i_0] at c130; omega
              refine g_lv K [0, 1] rfl (J159 h101 (fun _ _ => if_neg (fun h => h130 h.2.1)))
            · have h130 : 0 < (P 0 v).toInt := by rw [i_le, i_0] at c130; omega
              refine g_aload_n K 0 d_B_forces_133 rfl ?_
              refine gB_get_of K fl_B_22 d_B_forces_134 ?_
              refine gB_of K 0 fn_B_63 (by decide) hf.1 d_B_forces_137 ?_
              refine g_iload_n K 1 d_B_forces_140 rfl ?_
              refine g_iald K 5 (v) rfl rfl (by omega) d_B_forces_141 ?_
              refine g_i2l K d_B_forces_142 ?_
              refine g_aload_n K 0 d_B_forces_143 rfl ?_
              refine gB_get_limit K fl_B_50 d_B_forces_144 ?_
              refine g_aload_n K 0 d_B_forces_147 rfl ?_
              refine gB_get_spent K fl_B_30 d_B_forces_148 ?_
              refine g_lsub K d_B_forces_151 ?_
              refine g_lcmp K d_B_forces_152 ?_
              refine g_if_le K (tgt := 159) d_B_forces_153 (by decide) (fun c153 => ?_) (fun c153 => ?_)
              · have h153 : ¬ L - sp P vl < (P 0 v).toInt := by rw [cmp_le, l_ext, g1, hsp, ← Int64.ofInt_sub, l_of (by omega) (by omega)] at c153; omega
                refine g_lv K [0, 1] rfl (J159 h101 (fun L2 e => if_neg (fun h => h153 (hS L2 e ▸ h.2.2))))
              · have h153 : L - sp P vl < (P 0 v).toInt := by rw [cmp_le, l_ext, g1, hsp, ← Int64.ofInt_sub, l_of (by omega) (by omega)] at c153; omega
                refine g_iload_n K 1 d_B_forces_156 rfl ?_
                refine g_ineg K d_B_forces_157 ?_
                refine g_iret K d_B_forces_158 (⟨_, rfl, by rw [hV L hL, fi_some h101 (if_pos ⟨c118, h130, h153⟩)]; rfl, rfl⟩)
  have J2 : ∀ (N : Nat) (c : Nat), n - c < N → (c ≤ n) → (frc P n lim vl = match fi (frC P vl) c (n - c) with | some x => x | none => frL P lim vl) → G 2 [(0, .ref b), (1, .int (nI c))] [] (BW a b q0 q1 q2 g fs P (vl, tr, sl, x, y)) := by
    intro N
    induction N with
    | zero => intro c hm; exact absurd hm (Nat.not_lt_zero _)
    | succ N ih2 =>
      intro c hm2 hc hR
      have J23 : ∀ (N : Nat) (t : Nat), stn P (c + 1) - t < N → (c < n) → (t ≤ 120) → (frC P vl c = fi (frT P vl c) t (stn P (c + 1) - t)) → G 23 [(0, .ref b), (1, .int (nI c)), (2, .int (nI t))] [] (BW a b q0 q1 q2 g fs P (vl, tr, sl, x, y)) := by
        intro N
        induction N with
        | zero => intro t hm; exact absurd hm (Nat.not_lt_zero _)
        | succ N ih23 =>
          intro t hm23 h10 ht hT
          have J84 : (t < stn P (c + 1)) → (frT P vl c t = none) → G 84 [(0, .ref b), (1, .int (nI c)), (2, .int (nI t))] [] (BW a b q0 q1 q2 g fs P (vl, tr, sl, x, y)) := by
            intro  h35 hN
            refine g_iinc (v := nI (t + 1)) (lv' := [(2, _), (0, _), (1, _)]) K 2 d_B_forces_84 rfl (nI_1 t) (by decide) rfl ?_
            refine g_goto K (tgt := 23) d_B_forces_87 (by decide) ?_
            refine g_lv K [1, 2, 0] rfl (ih23 (t + 1) (by omega) h10 (by have := (hp.2.2.1 (c + 1) h10).2; have := hp.2.1; omega) (by rw [hT, fi_none h35 hN]))
          refine g_iload_n K 2 d_B_forces_23 rfl ?_
          refine g_aload_n K 0 d_B_forces_24 rfl ?_
          refine gB_get_of K fl_B_22 d_B_forces_25 ?_
          refine gB_of K 1 fn_B_44 (by decide) hf.2.1 d_B_forces_28 ?_
          refine g_iload_n K 1 d_B_forces_31 rfl ?_
          refine g_iconst K (v := 1) d_B_forces_32 (by decide) ?_
          refine g_iadd K d_B_forces_33 ?_
          refine g_iald K 6 (c + 1) rfl (nI_1 c) (by have := hp.1; omega) d_B_forces_34 ?_
          have hk1 := (hp.2.2.1 (c + 1) h10).2
          have hk2 := hp.2.1
          refine g_top K (hp.2.2.1 (c + 1) h10).1 ?_
          refine g_icmp_ge K (tgt := 90) d_B_forces_35 (by decide) (fun c35 => ?_) (fun c35 => ?_)
          · have h35 := (nI_leI (by omega) (by omega)).mp c35
            refine g_iinc (v := nI (c + 1)) (lv' := [(1, _), (0, _), (2, _)]) K 1 d_B_forces_90 rfl (nI_1 c) (by decide) rfl ?_
            refine g_goto K (tgt := 2) d_B_forces_93 (by decide) ?_
            refine g_lv K [1, 0] rfl (ih2 (c + 1) (by omega) (by omega) (by rw [hR, fi_none h10 (by rw [hT, fi_e h35])]))
          · have h35 : t < stn P (c + 1) := Nat.lt_of_not_le (fun h => c35 ((nI_leI (by omega) (by omega)).mpr h))
            have hl2 := (hp.2.2.2.2.2 t (by omega)).2
            have hcf := (hp.2.2.2.2.2 t (by omega)).1
            refine g_aload_n K 0 d_B_forces_38 rfl ?_
            refine g_aload_n K 0 d_B_forces_39 rfl ?_
            refine gB_get_of K fl_B_22 d_B_forces_40 ?_
            refine gB_of K 4 fn_B_66 (by decide) hf.2.2.2.2.1 d_B_forces_43 ?_
            refine g_iload_n K 2 d_B_forces_46 rfl ?_
            refine g_iald K 9 (t) rfl rfl (by omega) d_B_forces_47 ?_
            refine g_callW (q0 := 0) K (c_B_isOpen l D g a b q0 q1 q2 fs P _ hl2.2) mf_B_isOpen im_B_isOpen se_B_isOpen ml_B_69 (by decide) rfl rfl (Nat.le_of_ble_eq_true rfl) d_B_forces_48 (fun v w1 hq => ?_) rfl
            obtain ⟨B2, rfl, rfl, rfl⟩ := hq
            refine g_ri ?_
            refine g_if_eq K (tgt := 84) d_B_forces_51 (by decide) (fun c51 => ?_) (fun c51 => ?_)
            · have h51 := of_decide_eq_false (bZ_f c51)
              refine g_lv K [0, 1, 2] rfl (J84 h35 (if_neg (fun h => h51 h.1)))
            · have h51 := of_decide_eq_true (bZ_t c51)
              refine g_aload_n K 0 d_B_forces_54 rfl ?_
              refine gB_get_of K fl_B_22 d_B_forces_55 ?_
              refine gB_of K 3 fn_B_47 (by decide) hf.2.2.2.1 d_B_forces_58 ?_
              refine g_iload_n K 2 d_B_forces_61 rfl ?_
              refine g_iald K 8 (t) rfl rfl (by omega) d_B_forces_62 ?_
              refine g_i2l K d_B_forces_63 ?_
              refine g_aload_n K 0 d_B_forces_64 rfl ?_
              refine gB_get_slacks K fl_B_18 d_B_forces_65 ?_
              refine g_iload_n K 1 d_B_forces_68 rfl ?_
              refine gB_ald_slacks K (c) rfl (by have := hp.1; omega) d_B_forces_69 ?_
              refine g_lcmp K d_B_forces_70 ?_
              refine g_if_le K (tgt := 84) d_B_forces_71 (by decide) (fun c71 => ?_) (fun c71 => ?_)
              · have h71 : ¬ sk P vl c < (P 3 t).toInt := by have := sk_bd hp vl h10; rw [cmp_le, l_ext, hsl c h10, l_of (by omega) (by omega)] at c71; omega
                refine g_lv K [0, 1, 2] rfl (J84 h35 (if_neg (fun h => h71 h.2)))
              · have h71 : sk P vl c < (P 3 t).toInt := by have := sk_bd hp vl h10; rw [cmp_le, l_ext, hsl c h10, l_of (by omega) (by omega)] at c71; omega
                refine g_aload_n K 0 d_B_forces_74 rfl ?_
                refine gB_get_of K fl_B_22 d_B_forces_75 ?_
                refine gB_of K 4 fn_B_66 (by decide) hf.2.2.2.2.1 d_B_forces_78 ?_
                refine g_iload_n K 2 d_B_forces_81 rfl ?_
                refine g_iald K 9 (t) rfl rfl (by omega) d_B_forces_82 ?_
                refine g_iret K d_B_forces_83 (⟨_, rfl, by rw [hR, fi_some h10 (by rw [hT, fi_some h35 (if_pos ⟨h51, h71⟩)])], rfl⟩)
      refine g_iload_n K 1 d_B_forces_2 rfl ?_
      refine g_aload_n K 0 d_B_forces_3 rfl ?_
      refine gB_get_of K fl_B_22 d_B_forces_4 ?_
      refine gB_of K 5 fn_B_38 (by decide) hf.2.2.2.2.2 d_B_forces_7 ?_
      have hk1 := hp.1
      refine g_icmp_ge K (tgt := 96) d_B_forces_10 (by decide) (fun c10 => ?_) (fun c10 => ?_)
      · have h10 := (nI_leI (by omega) (by omega)).mp c10
        refine g_iconst K (v := 1) d_B_forces_96 (by decide) ?_
        refine g_top K nI_1' ?_
        refine g_istore_n (lv' := [(1, _), (0, _)]) K d_B_forces_97 (by decide) rfl ?_
        refine g_lv K [1, 0] rfl (J98 _ 1 (Nat.lt_succ_self _) (by omega) (by omega) (fun e => ?_) (fun L e => ?_))
        · rw [hR, fi_e h10, e]; rfl
        · rw [hR, fi_e h10, e]; rfl
      · have h10 : c < n := Nat.lt_of_not_le (fun h => c10 ((nI_leI (by omega) (by omega)).mpr h))
        refine g_aload_n K 0 d_B_forces_13 rfl ?_
        refine gB_get_of K fl_B_22 d_B_forces_14 ?_
        refine gB_of K 1 fn_B_44 (by decide) hf.2.1 d_B_forces_17 ?_
        refine g_iload_n K 1 d_B_forces_20 rfl ?_
        refine g_iald K 6 (c) rfl rfl (by omega) d_B_forces_21 ?_
        refine g_top K (hp.2.2.1 c (by omega)).1 ?_
        refine g_istore_n (lv' := [(2, _), (0, _), (1, _)]) K d_B_forces_22 (by decide) rfl ?_
        refine g_lv K [1, 2, 0] rfl (J23 _ (stn P c) (Nat.lt_succ_self _) h10 (by have := (hp.2.2.1 c (by omega)).2; have := hp.2.1; omega) rfl)
  refine g_iconst K (v := 0) d_B_forces_0 (by decide) ?_
  refine g_top K nI_0' ?_
  refine g_istore_n (lv' := [(1, _), (0, _)]) K d_B_forces_1 (by decide) rfl ?_
  refine g_lv K [1, 0] rfl (J2 _ 0 (Nat.lt_succ_self _) (Nat.zero_le _) rfl)
end
section
/-! ===== the search, abstractly ===== -/
def limS (best : Int32) : Option Int := if 0 ≤ best.toInt then some (best.toInt - 1) else none
/-- the ones as bits -/
def bo (vl : Nat → Int32) : Nat → Int32
  | 0 => 0
  | k + 1 => bo vl k ||| (vl (k + 1) <<< ((nI (k + 1) - 1) &&& 31))
/-- the latest choice that is at 0 -/
def ft (vl tr tc : Nat → Int32) : Nat → Option Nat
  | 0 => none
  | i + 1 => if tc i = 1 ∧ vl (tvn tr i) = 0 then some i else ft vl tr tc i
/-- assignment, trail, which are choices, length; best, its bits; log, its length; done, lost -/
abbrev SA : Type := (Nat → Int32) × (Nat → Int32) × (Nat → Int32) × Nat × Int32 × Int32 × (Nat → Int32) × Nat × Bool × Bool
/-- broken: the latest choice that is at 0 becomes 1; if there is none, the end -/
def gbA (vl tr tc : Nat → Int32) (len : Nat) (best bb : Int32) (log : Nat → Int32) (ll : Nat) : SA :=
  if ll = 400 then (vl, tr, tc, len, best, bb, log, ll, false, true)
  else match ft vl tr tc len with
    | some i => (upd (un tr i len vl) (tvn tr i) 1, tr, tc, i + 1, best, bb, upd log ll 0, ll + 1, false, false)
    | none =>
      if ll + 1 = 400 then (vl, tr, tc, len, best, bb, upd log ll 0, ll + 1, false, true)
      else if ll + 2 = 400 then (vl, tr, tc, len, best, bb, upd (upd log ll 0) (ll + 1) best, ll + 2, false, true)
      else (vl, tr, tc, len, best, bb, upd (upd (upd log ll 0) (ll + 1) best) (ll + 2) bb, ll + 3, true, false)
def stepA (P : Nat → Nat → Int32) (n : Nat) (vl tr tc : Nat → Int32) (len : Nat) (best bb : Int32) (log : Nat → Int32) (ll : Nat) : SA :=
  if brk P n (limS best) vl = true then gbA vl tr tc len best bb log ll
  else if ¬ frc P n (limS best) vl = 0 then
    (sv vl (frc P n (limS best) vl), upd tr len (nI (vx (frc P n (limS best) vl))), upd tc len 0, len + 1, best, bb, log, ll, false, false)
  else if fop vl = 0 then (vl, tr, tc, len, Int32.ofInt (sp P vl), bo vl 16, log, ll, false, false)
  else if ll = 400 then (vl, tr, tc, len, best, bb, log, ll, false, true)
  else (upd vl (vx (fop vl)) 0, upd tr len (fop vl), upd tc len 1, len + 1, best, bb, upd log ll (fop vl), ll + 1, false, false)
def stepT (P : Nat → Nat → Int32) (n : Nat) (z : SA) : SA := stepA P n z.1 z.2.1 z.2.2.1 z.2.2.2.1 z.2.2.2.2.1 z.2.2.2.2.2.1 z.2.2.2.2.2.2.1 z.2.2.2.2.2.2.2.1
def runA (P : Nat → Nat → Int32) (n : Nat) : Nat → SA → Int32 → SA × Int32
  | 0, z, c => (z, c)
  | f + 1, z, c => if z.2.2.2.2.2.2.2.2.1 = true ∨ z.2.2.2.2.2.2.2.2.2 = true then (z, c) else runA P n f (stepT P n z) (c + 1)
/-- what holds of the search's numbers -/
def SI (z : SA) : Prop := (z.2.2.2.2.1 = -1 ∧ z.2.2.2.2.2.1 = 0 ∨ 0 ≤ z.2.2.2.2.1.toInt ∧ z.2.2.2.2.1.toInt ≤ 524272) ∧ z.2.2.2.2.2.2.2.1 ≤ 400
theorem SI.step {P : Nat → Nat → Int32} {n k : Nat} (hp : PWF P n k) {z : SA} (h : SI z) : SI (stepT P n z) := by
  obtain ⟨vl, tr, tc, len, best, bb, log, ll, dn, ls⟩ := z
  obtain ⟨h1, h2⟩ := h
  dsimp only at h1 h2
  unfold stepT stepA gbA
  dsimp only
  have hs := sp_bd hp vl
  repeat' split
  all_goals first
    | exact ⟨h1, by dsimp only; omega⟩
    | exact ⟨Or.inr (by dsimp only; rw [i_of (by omega) (by omega)]; omega), by dsimp only; omega⟩
theorem limS_bd {best : Int32} (h : best = -1 ∨ 0 ≤ best.toInt ∧ best.toInt ≤ 524272) {L : Int} (e : limS best = some L) : -1 ≤ L ∧ L ≤ 1073741824 := by
  unfold limS at e
  split at e
  · rename_i h0
    cases e
    rcases h with rfl | h
    · exact absurd h0 (by decide)
    · omega
  · cases e
theorem limS_O {best : Int32} (h : best = -1 ∨ 0 ≤ best.toInt ∧ best.toInt ≤ 524272) : limO (decide (0 ≤ best)) (best - 1) = limS best := by
  unfold limS limO
  by_cases h0 : 0 ≤ best
  · rw [decide_eq_true h0, if_pos (by rwa [i_le, i_0] at h0)]
    rw [i_le, i_0] at h0
    have := i_bd best
    show some (best - 1).toInt = _
    rw [i_sub (by rw [i_1]; omega) (by rw [i_1]; omega), i_1]
  · rw [decide_eq_false h0, if_neg (by rwa [i_le, i_0] at h0)]
    rfl
theorem un_at {tr : Nat → Int32} {pos : Nat} : ∀ {len : Nat} {vl : Nat → Int32}, TI vl tr len → ∀ j, j < pos → j < len → un tr pos len vl (tvn tr j) = vl (tvn tr j)
  | 0, vl, _, j, _, h2 => absurd h2 (Nat.not_lt_zero j)
  | len + 1, vl, h, j, h1, h2 => by
    by_cases hle : len + 1 ≤ pos
    · rw [un_le hle]
    · obtain ⟨v, t1, t2, t3, t4, t5⟩ := h.top
      obtain ⟨w, w1, w2, w3, w4⟩ := h.2.2.1 j h2
      have e1 := tvn_of t3 (by omega)
      have e2 := tvn_of w3 (by omega)
      rw [un_s (by omega), e1, un_at t5 j h1 (by omega), e2]
      refine upd_n (fun z => ?_)
      have := h.2.2.2 j len h2 (by omega) (by rw [w3, t3, z])
      omega
theorem ft_congr {vl vl' tr tc : Nat → Int32} : ∀ {i : Nat}, (∀ j, j < i → vl' (tvn tr j) = vl (tvn tr j)) → ft vl' tr tc i = ft vl tr tc i
  | 0, _ => rfl
  | i + 1, h => by
    show (if tc i = 1 ∧ vl' (tvn tr i) = 0 then some i else ft vl' tr tc i) = (if tc i = 1 ∧ vl (tvn tr i) = 0 then some i else ft vl tr tc i)
    rw [h i (by omega), ft_congr (fun j hj => h j (by omega))]
/-- the stack of choices is the trail's choices -/
def CHR (c0 c1 c2 vl tr tc : Nat → Int32) : Nat → Nat → Prop
  | 0, ch => ch = 0
  | i + 1, ch => (tc i = 1 ∧ ∃ c', ch = c' + 1 ∧ c2 c' = nI i ∧ c0 c' = tr i ∧ c1 c' = vl (tvn tr i) ∧ CHR c0 c1 c2 vl tr tc i c') ∨ (tc i = 0 ∧ CHR c0 c1 c2 vl tr tc i ch)
theorem CHR.le {c0 c1 c2 vl tr tc : Nat → Int32} : ∀ {len ch : Nat}, CHR c0 c1 c2 vl tr tc len ch → ch ≤ len
  | 0, ch, h => by have h' : ch = 0 := h; omega
  | i + 1, ch, h => by
    rcases h with ⟨-, c', e, -, -, -, h⟩ | ⟨-, h⟩
    · have := h.le
      omega
    · have := h.le
      omega
theorem CHR.congr {c0 c1 c2 vl tr tc c0' c1' c2' vl' tr' tc' : Nat → Int32} : ∀ {len ch : Nat}, CHR c0 c1 c2 vl tr tc len ch → (∀ j, j < ch → c0' j = c0 j ∧ c1' j = c1 j ∧ c2' j = c2 j) → (∀ i, i < len → tr' i = tr i ∧ tc' i = tc i ∧ vl' (tvn tr i) = vl (tvn tr i)) → CHR c0' c1' c2' vl' tr' tc' len ch
  | 0, ch, h, _, _ => h
  | i + 1, ch, h, hc, ht => by
    obtain ⟨t1, t2, t3⟩ := ht i (by omega)
    have e : tvn tr' i = tvn tr i := by unfold tvn; rw [t1]
    rcases h with ⟨h1, c', rfl, h2, h3, h4, h⟩ | ⟨h1, h⟩
    · obtain ⟨g0, g1, g2⟩ := hc c' (by omega)
      exact Or.inl ⟨t2.trans h1, c', rfl, g2.trans h2, by rw [g0, h3, t1], by rw [g1, h4, e, t3], h.congr (fun j hj => hc j (by omega)) (fun j hj => ht j (by omega))⟩
    · exact Or.inr ⟨t2.trans h1, h.congr hc (fun j hj => ht j (by omega))⟩
theorem CHR.zero {c0 c1 c2 vl tr tc : Nat → Int32} : ∀ {len : Nat}, CHR c0 c1 c2 vl tr tc len 0 → ft vl tr tc len = none
  | 0, _ => rfl
  | i + 1, h => by
    rcases h with ⟨-, c', e, -⟩ | ⟨h1, h⟩
    · omega
    · show (if tc i = 1 ∧ vl (tvn tr i) = 0 then some i else ft vl tr tc i) = none
      rw [if_neg (fun z => absurd (h1.symm.trans z.1) (by decide)), h.zero]
theorem CHR.top {c0 c1 c2 vl tr tc : Nat → Int32} : ∀ {len c : Nat}, CHR c0 c1 c2 vl tr tc len (c + 1) → ∃ i, i < len ∧ tc i = 1 ∧ c2 c = nI i ∧ c0 c = tr i ∧ c1 c = vl (tvn tr i) ∧ CHR c0 c1 c2 vl tr tc i c ∧ ft vl tr tc len = (if vl (tvn tr i) = 0 then some i else ft vl tr tc i)
  | 0, c, h => by have h' : c + 1 = 0 := h; omega
  | i + 1, c, h => by
    rcases h with ⟨h1, c', e, h2, h3, h4, h⟩ | ⟨h1, h⟩
    · have e2 : c' = c := by omega
      subst e2
      refine ⟨i, by omega, h1, h2, h3, h4, h, ?_⟩
      show (if tc i = 1 ∧ vl (tvn tr i) = 0 then some i else ft vl tr tc i) = _
      by_cases z : vl (tvn tr i) = 0
      · rw [if_pos ⟨h1, z⟩, if_pos z]
      · rw [if_neg (fun q => z q.2), if_neg z]
    · obtain ⟨j, j1, j2, j3, j4, j5, j6, j7⟩ := h.top
      refine ⟨j, by omega, j2, j3, j4, j5, j6, ?_⟩
      show (if tc i = 1 ∧ vl (tvn tr i) = 0 then some i else ft vl tr tc i) = _
      rw [if_neg (fun z => absurd (h1.symm.trans z.1) (by decide)), j7]
/-! frames of numbers and arrays -/
def FrI (S : List Nat) (I I' : Nat → Int32) : Prop := ∀ j, j ∉ S → I' j = I j
theorem FrI.rf {S : List Nat} {I : Nat → Int32} : FrI S I I := fun _ _ => rfl
theorem FrI.u {S : List Nat} {I I' : Nat → Int32} {k : Nat} {v : Int32} (h : FrI S I I') (hk : k ∈ S) : FrI S I (upd I' k v) := fun j hj => by have hne : j ≠ k := (fun e => hj (by rw [e]; exact hk)); rw [upd_n hne]; exact h j hj
theorem FrI.t {S : List Nat} {I I' I'' : Nat → Int32} (h : FrI S I I') (h2 : FrI S I' I'') : FrI S I I'' := fun j hj => (h2 j hj).trans (h j hj)
theorem FrI.m {S S' : List Nat} {I I' : Nat → Int32} (h : FrI S I I') (hs : ∀ k ∈ S, k ∈ S') : FrI S' I I' := fun j hj => h j (fun z => hj (hs j z))
def FrF (S : List Nat) (F F' : Nat → Nat → Int32) : Prop := ∀ j, j ∉ S → F' j = F j
theorem FrF.rf {S : List Nat} {F : Nat → Nat → Int32} : FrF S F F := fun _ _ => rfl
theorem FrF.u {S : List Nat} {F F' : Nat → Nat → Int32} {k : Nat} {v : Nat → Int32} (h : FrF S F F') (hk : k ∈ S) : FrF S F (va_up F' k v) := fun j hj => by have hne : j ≠ k := (fun e => hj (by rw [e]; exact hk)); rw [va_up_ne F' v hne]; exact h j hj
theorem FrF.t {S : List Nat} {F F' F'' : Nat → Nat → Int32} (h : FrF S F F') (h2 : FrF S F' F'') : FrF S F F'' := fun j hj => (h2 j hj).trans (h j hj)
theorem FrF.m {S S' : List Nat} {F F' : Nat → Nat → Int32} (h : FrF S F F') (hs : ∀ k ∈ S, k ∈ S') : FrF S' F F' := fun j hj => h j (fun z => hj (hs j z))
/-! what the problem's methods allow -/
def okC (bg : Bool) (v c : Int32) : Bool := !bg && decide ((1 ≤ v.toInt ∧ v.toInt ≤ 16) ∧ 0 ≤ c.toInt ∧ c.toInt ≤ 32767)
def okE (bg : Bool) (n : Nat) (b : Int32) : Bool := !bg && decide (n < 20 ∧ 0 ≤ b.toInt ∧ b.toInt ≤ 1073741824)
def dupf (P : Nat → Nat → Int32) (lit : Int32) (t : Nat) : Bool := decide (P 4 t = lit ∨ P 4 t = -lit)
def okT0 (bg : Bool) (n k : Nat) (cf lit : Int32) : Bool := !bg && decide (n < 20 ∧ k < 120 ∧ (1 ≤ cf.toInt ∧ cf.toInt ≤ 32767) ∧ 1 ≤ vx lit ∧ vx lit ≤ 16)
def okT (P : Nat → Nat → Int32) (bg : Bool) (n k : Nat) (cf lit : Int32) : Bool := okT0 bg n k cf lit && !an (dupf P lit) (stn P n) (k - stn P n)
def PC (P : Nat → Nat → Int32) (v c : Int32) : Nat → Nat → Int32 := va_up P 0 (upd (P 0) (vx v) c)
def PT (P : Nat → Nat → Int32) (k : Nat) (cf lit : Int32) : Nat → Nat → Int32 := va_up (va_up P 3 (upd (P 3) k cf)) 4 (upd (P 4) k lit)
def PE (P : Nat → Nat → Int32) (n k : Nat) (b : Int32) : Nat → Nat → Int32 := va_up (va_up P 2 (upd (P 2) n b)) 1 (upd (P 1) (n + 1) (nI k))
theorem PWF.c {P : Nat → Nat → Int32} {n k : Nat} (h : PWF P n k) {v c : Int32} (hc : 0 ≤ c.toInt ∧ c.toInt ≤ 32767) : PWF (PC P v c) n k := by
  obtain ⟨h1, h2, h3, h4, h5, h6⟩ := h
  refine ⟨h1, h2, h3, fun w hw => ?_, h5, h6⟩
  show 0 ≤ (upd (P 0) (vx v) c w).toInt ∧ (upd (P 0) (vx v) c w).toInt ≤ 32767
  by_cases e : w = vx v
  · rw [e, upd_s]; exact hc
  · rw [upd_n e]; exact h4 w hw
theorem PWF.tt {P : Nat → Nat → Int32} {n k : Nat} (h : PWF P n k) (hk : k < 120) {cf lit : Int32} (hc : 1 ≤ cf.toInt ∧ cf.toInt ≤ 32767) (hl : 1 ≤ vx lit ∧ vx lit ≤ 16) : PWF (PT P k cf lit) n (k + 1) := by
  obtain ⟨h1, h2, h3, h4, h5, h6⟩ := h
  refine ⟨h1, by omega, fun c hc => ⟨(h3 c hc).1, by have := (h3 c hc).2; exact Nat.le_succ_of_le this⟩, h4, h5, fun t ht => ?_⟩
  show (1 ≤ (upd (P 3) k cf t).toInt ∧ (upd (P 3) k cf t).toInt ≤ 32767) ∧ 1 ≤ vx (upd (P 4) k lit t) ∧ vx (upd (P 4) k lit t) ≤ 16
  by_cases e : t = k
  · rw [e, upd_s, upd_s]; exact ⟨hc, hl⟩
  · rw [upd_n e, upd_n e]; exact h6 t (by omega)
theorem PWF.e {P : Nat → Nat → Int32} {n k : Nat} (h : PWF P n k) (hn : n < 20) {b : Int32} (hb : 0 ≤ b.toInt ∧ b.toInt ≤ 1073741824) : PWF (PE P n k b) (n + 1) k := by
  obtain ⟨h1, h2, h3, h4, h5, h6⟩ := h
  refine ⟨by omega, h2, fun c hc => ?_, h4, fun c hc => ?_, h6⟩
  · show upd (P 1) (n + 1) (nI k) c = nI (upd (P 1) (n + 1) (nI k) c).toNatClampNeg ∧ (upd (P 1) (n + 1) (nI k) c).toNatClampNeg ≤ k
    by_cases e : c = n + 1
    · rw [e, upd_s, nI_clamp (by omega)]; exact ⟨rfl, Nat.le_refl k⟩
    · rw [upd_n e]; exact h3 c (by omega)
  · show 0 ≤ (upd (P 2) n b c).toInt ∧ (upd (P 2) n b c).toInt ≤ 1073741824
    by_cases e : c = n
    · rw [e, upd_s]; exact hb
    · rw [upd_n e]; exact h5 c (by omega)
end
section
theorem k_16 : (16 : Int32).toInt = 16 := by decide
theorem k_400 : (400 : Int32).toInt = 400 := by decide
theorem k_32767 : (32767 : Int32).toInt = 32767 := by decide
theorem k_2000 : (2000 : Int32).toInt = 2000 := by decide
theorem k_B : (1073741824 : Int32).toInt = 1073741824 := by decide
theorem nI_20 : (20 : Int32) = nI 20 := by decide
theorem nI_120 : (120 : Int32) = nI 120 := by decide
theorem nI_400 : (400 : Int32) = nI 400 := by decide
theorem in_i (lo hi : Int32) {a b : Int} (ha : lo.toInt = a) (hb : hi.toInt = b) (v : Int32) : decide (lo ≤ v ∧ v ≤ hi) = decide (a ≤ v.toInt ∧ v.toInt ≤ b) := by
  subst ha hb
  rw [decide_eq_decide, i_le, i_le]
theorem okC_n1 {bg : Bool} {v c : Int32} (h : bg = true) : okC bg v c = false := by rw [h]; rfl
theorem okC_n2 {bg : Bool} {v c : Int32} (h : decide (1 ≤ v.toInt ∧ v.toInt ≤ 16) = false) : okC bg v c = false := by
  unfold okC
  rw [decide_eq_false (fun z => (of_decide_eq_false h) z.1), Bool.and_false]
theorem okC_n3 {bg : Bool} {v c : Int32} (h : decide (0 ≤ c.toInt ∧ c.toInt ≤ 32767) = false) : okC bg v c = false := by
  unfold okC
  rw [decide_eq_false (fun z => (of_decide_eq_false h) z.2), Bool.and_false]
theorem okC_y {bg : Bool} {v c : Int32} (h1 : bg = false) (h2 : 1 ≤ v.toInt ∧ v.toInt ≤ 16) (h3 : 0 ≤ c.toInt ∧ c.toInt ≤ 32767) : okC bg v c = true := by
  unfold okC
  rw [h1, decide_eq_true ⟨h2, h3⟩]; rfl
theorem vx_of {v : Int32} (h : 1 ≤ v.toInt ∧ v.toInt ≤ 16) : v = nI (vx v) ∧ 1 ≤ vx v ∧ vx v ≤ 16 := by
  have : vx v ≤ 16 := by unfold vx; omega
  exact ⟨lit_pos' this (by rw [i_le, i_0]; omega), by unfold vx; omega, this⟩
theorem okE_n1 {bg : Bool} {n : Nat} {b : Int32} (h : bg = true) : okE bg n b = false := by rw [h]; rfl
theorem okE_n2 {bg : Bool} {n : Nat} {b : Int32} (h : decide (0 ≤ b.toInt ∧ b.toInt ≤ 1073741824) = false) : okE bg n b = false := by
  unfold okE
  rw [decide_eq_false (fun z => (of_decide_eq_false h) z.2), Bool.and_false]
theorem okE_n3 {bg : Bool} {n : Nat} {b : Int32} (h : ¬ n < 20) : okE bg n b = false := by
  unfold okE
  rw [decide_eq_false (fun z => h z.1), Bool.and_false]
theorem okE_y {bg : Bool} {n : Nat} {b : Int32} (h1 : bg = false) (h2 : n < 20) (h3 : 0 ≤ b.toInt ∧ b.toInt ≤ 1073741824) : okE bg n b = true := by
  unfold okE
  rw [h1, decide_eq_true ⟨h2, h3⟩]; rfl
theorem okT0_i {bg : Bool} {n k : Nat} {cf lit : Int32} : okT0 bg n k cf lit = true ↔ bg = false ∧ n < 20 ∧ k < 120 ∧ (1 ≤ cf.toInt ∧ cf.toInt ≤ 32767) ∧ 1 ≤ vx lit ∧ vx lit ≤ 16 := by
  unfold okT0
  cases bg
  · simp
  · simp
theorem okT0_n {bg : Bool} {n k : Nat} {cf lit : Int32} (h : ¬ (bg = false ∧ n < 20 ∧ k < 120 ∧ (1 ≤ cf.toInt ∧ cf.toInt ≤ 32767) ∧ 1 ≤ vx lit ∧ vx lit ≤ 16)) : false = okT0 bg n k cf lit := by
  cases e : okT0 bg n k cf lit
  · rfl
  · exact absurd (okT0_i.mp e) h
theorem vx_in (w lit : Int32) (h : w = if 0 ≤ lit then lit else -lit) : decide ((1 : Int32) ≤ w ∧ w ≤ 16) = decide (1 ≤ vx lit ∧ vx lit ≤ 16) := by
  rw [in_i 1 16 i_1 k_16]
  have hb := i_bd lit
  rw [decide_eq_decide]
  by_cases h0 : 0 ≤ lit
  · rw [if_pos h0] at h
    subst h
    rw [i_le, i_0] at h0
    unfold vx
    omega
  · rw [if_neg h0] at h
    rw [i_le, i_0] at h0
    by_cases h1 : lit.toInt = -2147483648
    · have h2 : w.toInt = -2147483648 := by
        have e : lit = -2147483648 := by rw [i_ne]; exact h1
        rw [h, e]
        decide
      unfold vx
      omega
    · have h2 : w.toInt = -lit.toInt := by rw [h, i_neg h1]
      unfold vx
      omega
def okP (dn : Bool) (ll : Nat) (i : Int32) : Bool := dn && decide (0 ≤ i.toInt ∧ i.toInt ≤ ll ∧ i.toInt < 400)
def okK (dn : Bool) (ll : Nat) (i : Int32) : Bool := dn && decide (0 ≤ i.toInt ∧ i.toInt ≤ ll)
theorem nI_nat {i : Int32} (h : 0 ≤ i.toInt) : i = nI i.toNatClampNeg := (Int32.ofNat_toNatClampNeg i (by rw [i_le, i_0]; exact h)).symm
theorem nat_i {i : Int32} (h : 0 ≤ i.toInt) : (i.toNatClampNeg : Int) = i.toInt := by
  show ((i.toInt.toNat : Nat) : Int) = i.toInt
  omega
/-- the model's search -/
def SM (z : SA) (s o : Int32) (I : Nat → Int32) (F : Nat → Nat → Int32) : Prop := I 22 = nI z.2.2.2.2.2.2.2.1 ∧ I 18 = z.2.2.2.2.1 ∧ I 19 = z.2.2.2.2.2.1 ∧ I 9 = bZ z.2.2.2.2.2.2.2.2.1 ∧ I 10 = bZ z.2.2.2.2.2.2.2.2.2 ∧ F 2 = z.2.2.2.2.2.2.1 ∧
  (z.2.2.2.2.2.2.2.2.1 = false → z.2.2.2.2.2.2.2.2.2 = false → MB2 s o z.1 ∧ I 15 = nI z.2.2.2.1 ∧ F 0 = z.2.1 ∧ F 1 = z.2.2.1 ∧ TI z.1 z.2.1 z.2.2.2.1 ∧ ∀ i, z.2.2.1 i = 0 ∨ z.2.2.1 i = 1)
theorem stepA_b {P : Nat → Nat → Int32} {n : Nat} {vl tr tc : Nat → Int32} {len : Nat} {best bb : Int32} {log : Nat → Int32} {ll : Nat} (h : brk P n (limS best) vl = true) : stepA P n vl tr tc len best bb log ll = gbA vl tr tc len best bb log ll := if_pos h
theorem stepA_f {P : Nat → Nat → Int32} {n : Nat} {vl tr tc : Nat → Int32} {len : Nat} {best bb : Int32} {log : Nat → Int32} {ll : Nat} (h : brk P n (limS best) vl = false) (h2 : ¬ frc P n (limS best) vl = 0) : stepA P n vl tr tc len best bb log ll = (sv vl (frc P n (limS best) vl), upd tr len (nI (vx (frc P n (limS best) vl))), upd tc len 0, len + 1, best, bb, log, ll, false, false) := by
  unfold stepA
  rw [if_neg (by rw [h]; decide), if_pos h2]
theorem stepA_o {P : Nat → Nat → Int32} {n : Nat} {vl tr tc : Nat → Int32} {len : Nat} {best bb : Int32} {log : Nat → Int32} {ll : Nat} (h : brk P n (limS best) vl = false) (h2 : frc P n (limS best) vl = 0) (h3 : fop vl = 0) : stepA P n vl tr tc len best bb log ll = (vl, tr, tc, len, Int32.ofInt (sp P vl), bo vl 16, log, ll, false, false) := by
  unfold stepA
  rw [if_neg (by rw [h]; decide), if_neg (fun z => z h2), if_pos h3]
theorem stepA_l {P : Nat → Nat → Int32} {n : Nat} {vl tr tc : Nat → Int32} {len : Nat} {best bb : Int32} {log : Nat → Int32} {ll : Nat} (h : brk P n (limS best) vl = false) (h2 : frc P n (limS best) vl = 0) (h3 : ¬ fop vl = 0) (h4 : ll = 400) : stepA P n vl tr tc len best bb log ll = (vl, tr, tc, len, best, bb, log, ll, false, true) := by
  unfold stepA
  rw [if_neg (by rw [h]; decide), if_neg (fun z => z h2), if_neg h3, if_pos h4]
theorem stepA_c {P : Nat → Nat → Int32} {n : Nat} {vl tr tc : Nat → Int32} {len : Nat} {best bb : Int32} {log : Nat → Int32} {ll : Nat} (h : brk P n (limS best) vl = false) (h2 : frc P n (limS best) vl = 0) (h3 : ¬ fop vl = 0) (h4 : ¬ ll = 400) : stepA P n vl tr tc len best bb log ll = (upd vl (vx (fop vl)) 0, upd tr len (fop vl), upd tc len 1, len + 1, best, bb, upd log ll (fop vl), ll + 1, false, false) := by
  unfold stepA
  rw [if_neg (by rw [h]; decide), if_neg (fun z => z h2), if_neg h3, if_neg h4]
theorem gbA_4 {vl tr tc : Nat → Int32} {len : Nat} {best bb : Int32} {log : Nat → Int32} {ll : Nat} (h : ll = 400) : gbA vl tr tc len best bb log ll = (vl, tr, tc, len, best, bb, log, ll, false, true) := if_pos h
theorem gbA_s {vl tr tc : Nat → Int32} {len : Nat} {best bb : Int32} {log : Nat → Int32} {ll : Nat} (h : ll < 400) {i : Nat} (h2 : ft vl tr tc len = some i) : gbA vl tr tc len best bb log ll = (upd (un tr i len vl) (tvn tr i) 1, tr, tc, i + 1, best, bb, upd log ll 0, ll + 1, false, false) := by
  unfold gbA
  rw [if_neg (by omega), h2]
theorem gbA_1 {vl tr tc : Nat → Int32} {len : Nat} {best bb : Int32} {log : Nat → Int32} {ll : Nat} (h : ll < 400) (h2 : ft vl tr tc len = none) (h3 : ll + 1 = 400) : gbA vl tr tc len best bb log ll = (vl, tr, tc, len, best, bb, upd log ll 0, ll + 1, false, true) := by
  unfold gbA
  rw [if_neg (by omega), h2]
  exact if_pos h3
theorem gbA_2 {vl tr tc : Nat → Int32} {len : Nat} {best bb : Int32} {log : Nat → Int32} {ll : Nat} (h : ll < 400) (h2 : ft vl tr tc len = none) (h3 : ll + 2 = 400) : gbA vl tr tc len best bb log ll = (vl, tr, tc, len, best, bb, upd (upd log ll 0) (ll + 1) best, ll + 2, false, true) := by
  unfold gbA
  rw [if_neg (by omega), h2]
  dsimp only
  rw [if_neg (by omega), if_pos h3]
theorem gbA_3 {vl tr tc : Nat → Int32} {len : Nat} {best bb : Int32} {log : Nat → Int32} {ll : Nat} (h : ll + 2 < 400) (h2 : ft vl tr tc len = none) : gbA vl tr tc len best bb log ll = (vl, tr, tc, len, best, bb, upd (upd (upd log ll 0) (ll + 1) best) (ll + 2) bb, ll + 3, true, false) := by
  unfold gbA
  rw [if_neg (by omega), h2]
  dsimp only
  rw [if_neg (by omega), if_neg (by omega)]
theorem bo_is {vl : Nat → Int32} (h : ∀ v, vl v = 0 ∨ vl v = 1 ∨ v = 0 ∨ 16 < v) : ∀ k, k ≤ 16 → ∀ i, i < 32 → bt (bo vl k) i = (decide (i < k) && decide (vl (i + 1) = 1))
  | 0, _, i, _ => by rw [show bo vl 0 = 0 from rfl, b_0, decide_eq_false (Nat.not_lt_zero i), Bool.false_and]
  | k + 1, hk, i, hi => by
    show bt (bo vl k ||| (vl (k + 1) <<< ((nI (k + 1) - 1) &&& 31))) i = _
    rw [b_or, bo_is h k (by omega) i hi, nI_pred]
    have hv : vl (k + 1) = 0 ∨ vl (k + 1) = 1 := by
      rcases h (k + 1) with z | z | z | z
      · exact Or.inl z
      · exact Or.inr z
      · omega
      · omega
    rw [b_shl k (by omega) _ hi]
    rcases Nat.lt_trichotomy i k with c | c | c
    · rw [decide_eq_true c, decide_eq_true (by omega : i < k + 1), decide_eq_false (by omega : ¬ k ≤ i), Bool.false_and, Bool.or_false]
    · subst c
      rw [decide_eq_false (by omega : ¬ i < i), decide_eq_true (by omega : i < i + 1), decide_eq_true (Nat.le_refl i), Nat.sub_self]
      rcases hv with z | z
      · rw [z]; decide +kernel
      · rw [z]; decide +kernel
    · rw [decide_eq_false (by omega : ¬ i < k), decide_eq_false (by omega : ¬ i < k + 1), decide_eq_true (by omega : k ≤ i)]
      have e : bt (vl (k + 1)) (i - k) = false := by
        rcases hv with z | z
        · rw [z, b_0]
        · rw [z, b_1, decide_eq_false (by omega)]
      rw [e]; rfl
theorem bo_mb {vl : Nat → Int32} {s o : Int32} (hv : VI vl) (hb : MB2 s o vl) (ha : ∀ v, 1 ≤ v → v ≤ 16 → ¬ vl v = -1) : o = bo vl 16 := by
  apply b_ext
  intro i hi
  rw [bo_is (fun v => ?_) 16 (Nat.le_refl _) i hi, (hb i hi).2]
  · by_cases h : i < 16
    · rw [decide_eq_true h, Bool.true_and]
    · rw [decide_eq_false h, hv.2 (i + 1) (by omega)]; decide
  · rcases Nat.lt_or_ge v 17 with h | h
    · rcases Nat.eq_zero_or_pos v with z | z
      · exact Or.inr (Or.inr (Or.inl z))
      · rcases hv.1 v with q | q | q
        · exact absurd q (ha v z (by omega))
        · exact Or.inl q
        · exact Or.inr (Or.inl q)
    · exact Or.inr (Or.inr (Or.inr (by omega)))
theorem d_M_setCost_0 : decode b_M_setCost 0 = .ok (.aload_n 0, 1) := by decide +kernel
theorem d_M_setCost_1 : decode b_M_setCost 1 = .ok (.getfield 54, 3) := by decide +kernel
theorem d_M_setCost_4 : decode b_M_setCost 4 = .ok (.ifCond .ne 24, 3) := by decide +kernel
theorem d_M_setCost_7 : decode b_M_setCost 7 = .ok (.iload_n 1, 1) := by decide +kernel
theorem d_M_setCost_8 : decode b_M_setCost 8 = .ok (.iconst 1, 1) := by decide +kernel
theorem d_M_setCost_9 : decode b_M_setCost 9 = .ok (.bipush 16, 2) := by decide +kernel
theorem d_M_setCost_11 : decode b_M_setCost 11 = .ok (.invokestatic 58, 3) := by decide +kernel
theorem d_M_setCost_14 : decode b_M_setCost 14 = .ok (.ifCond .eq 14, 3) := by decide +kernel
theorem d_M_setCost_17 : decode b_M_setCost 17 = .ok (.iload_n 2, 1) := by decide +kernel
theorem d_M_setCost_18 : decode b_M_setCost 18 = .ok (.iconst 0, 1) := by decide +kernel
theorem d_M_setCost_19 : decode b_M_setCost 19 = .ok (.sipush 32767, 3) := by decide +kernel
theorem d_M_setCost_22 : decode b_M_setCost 22 = .ok (.invokestatic 58, 3) := by decide +kernel
theorem d_M_setCost_25 : decode b_M_setCost 25 = .ok (.ifCond .ne 5, 3) := by decide +kernel
theorem d_M_setCost_28 : decode b_M_setCost 28 = .ok (.iconst (-1), 1) := by decide +kernel
theorem d_M_setCost_29 : decode b_M_setCost 29 = .ok (.ireturn, 1) := by decide +kernel
theorem d_M_setCost_30 : decode b_M_setCost 30 = .ok (.aload_n 0, 1) := by decide +kernel
theorem d_M_setCost_31 : decode b_M_setCost 31 = .ok (.getfield 7, 3) := by decide +kernel
theorem d_M_setCost_34 : decode b_M_setCost 34 = .ok (.iload_n 1, 1) := by decide +kernel
theorem d_M_setCost_35 : decode b_M_setCost 35 = .ok (.iload_n 2, 1) := by decide +kernel
theorem d_M_setCost_36 : decode b_M_setCost 36 = .ok (.iastore, 1) := by decide +kernel
theorem d_M_setCost_37 : decode b_M_setCost 37 = .ok (.iconst 0, 1) := by decide +kernel
theorem d_M_setCost_38 : decode b_M_setCost 38 = .ok (.ireturn, 1) := by decide +kernel
set_option maxHeartbeats 4000000 in
set_option maxRecDepth 100000 in
theorem c_M_setCost (l : Launch) (D : va_G) (g : Nat → ClassId) (a : Nat → Nat) (P : Nat → Nat → Int32) (I : Nat → Int32) (F : Nat → Nat → Int32) {bg : Bool} (h8 : I 8 = bZ bg) (v c : Int32) : Ct l D g y_M_setCost b_M_setCost 3 (some .int) 1 [.ref (a 0), .int v, .int c] (MW a g P I F) (fun r w => (okC bg v c = true ∧ r = some (.int 0) ∧ w = MW a g (PC P v c) I F) ∨ (okC bg v c = false ∧ r = some (.int (-1)) ∧ w = MW a g P I F)) := by
  refine Ct.of (lv := [(0, _), (1, _), (2, _)]) (by decide) rfl (Nat.le_of_ble_eq_true rfl) rfl ?_
  intro G K
  have J28 : (okC bg v c = false) → G 28 [(0, .ref (a 0)), (1, .int v), (2, .int c)] [] (MW a g P I F) := by
    intro  hN
    refine g_iconst K (v := -1) d_M_setCost_28 (by decide) ?_
    refine g_iret K d_M_setCost_29 (Or.inr ⟨hN, rfl, rfl⟩)
  refine g_aload_n K 0 d_M_setCost_0 rfl ?_
  refine gM_get K 8 fl_M_54 (by decide) rfl d_M_setCost_1 ?_
  refine g_if_ne K (tgt := 28) d_M_setCost_4 (by decide) (fun c4 => ?_) (fun c4 => ?_)
  · refine g_lv K [0, 1, 2] rfl (J28 (okC_n1 (bZ_t (fun z => c4 (h8.trans z)))))
  · have e1 : bg = false := bZ_f (h8.symm.trans c4)
    refine g_iload_n K 1 d_M_setCost_7 rfl ?_
    refine g_iconst K (v := 1) d_M_setCost_8 (by decide) ?_
    refine g_bipush K (v := 16) d_M_setCost_9 (by decide) ?_
    refine g_callS K (c_M_isIn l D g v 1 16) mf_M_isIn is_M_isIn ml_M_58 (by decide) (Nat.le_of_ble_eq_true rfl) d_M_setCost_11 (fun v hq => ?_) rfl
    obtain ⟨rfl, -⟩ := hq
    refine g_ri ?_
    refine g_if_eq K (tgt := 28) d_M_setCost_14 (by decide) (fun c14 => ?_) (fun c14 => ?_)
    · refine g_lv K [0, 1, 2] rfl (J28 (okC_n2 ((in_i 1 16 i_1 k_16 v).symm.trans (bZ_f c14))))
    · have e2 := of_decide_eq_true ((in_i 1 16 i_1 k_16 v).symm.trans (bZ_t c14))
      refine g_iload_n K 2 d_M_setCost_17 rfl ?_
      refine g_iconst K (v := 0) d_M_setCost_18 (by decide) ?_
      refine g_sipush K (v := 32767) d_M_setCost_19 (by decide) ?_
      refine g_callS K (c_M_isIn l D g c 0 32767) mf_M_isIn is_M_isIn ml_M_58 (by decide) (Nat.le_of_ble_eq_true rfl) d_M_setCost_22 (fun v hq => ?_) rfl
      obtain ⟨rfl, -⟩ := hq
      refine g_ri ?_
      refine g_if_ne K (tgt := 30) d_M_setCost_25 (by decide) (fun c25 => ?_) (fun c25 => ?_)
      · have e3 := of_decide_eq_true ((in_i 0 32767 i_0 k_32767 c).symm.trans (bZ_t c25))
        have e4 := vx_of e2
        refine g_aload_n K 0 d_M_setCost_30 rfl ?_
        refine gM_get K 1 fl_M_7 (by decide) rfl d_M_setCost_31 ?_
        refine g_iload_n K 1 d_M_setCost_34 rfl ?_
        refine g_iload_n K 2 d_M_setCost_35 rfl ?_
        refine gM_ast_costs K (vx v) e4.1 (by omega) d_M_setCost_36 ?_
        refine g_iconst K (v := 0) d_M_setCost_37 (by decide) ?_
        refine g_iret K d_M_setCost_38 (Or.inl ⟨okC_y e1 e2 e3, rfl, rfl⟩)
      · refine g_lv K [0, 1, 2] rfl (J28 (okC_n3 ((in_i 0 32767 i_0 k_32767 c).symm.trans (bZ_f c25))))
theorem d_M_term_0 : decode b_M_term 0 = .ok (.iload_n 2, 1) := by decide +kernel
theorem d_M_term_1 : decode b_M_term 1 = .ok (.ifCond .ge 8, 3) := by decide +kernel
theorem d_M_term_4 : decode b_M_term 4 = .ok (.iload_n 2, 1) := by decide +kernel
theorem d_M_term_5 : decode b_M_term 5 = .ok (.ineg, 1) := by decide +kernel
theorem d_M_term_6 : decode b_M_term 6 = .ok (.goto 4, 3) := by decide +kernel
theorem d_M_term_9 : decode b_M_term 9 = .ok (.iload_n 2, 1) := by decide +kernel
theorem d_M_term_10 : decode b_M_term 10 = .ok (.istore_n 3, 1) := by decide +kernel
theorem d_M_term_11 : decode b_M_term 11 = .ok (.aload_n 0, 1) := by decide +kernel
theorem d_M_term_12 : decode b_M_term 12 = .ok (.getfield 54, 3) := by decide +kernel
theorem d_M_term_15 : decode b_M_term 15 = .ok (.ifCond .ne 46, 3) := by decide +kernel
theorem d_M_term_18 : decode b_M_term 18 = .ok (.iload_n 1, 1) := by decide +kernel
theorem d_M_term_19 : decode b_M_term 19 = .ok (.iconst 1, 1) := by decide +kernel
theorem d_M_term_20 : decode b_M_term 20 = .ok (.sipush 32767, 3) := by decide +kernel
theorem d_M_term_23 : decode b_M_term 23 = .ok (.invokestatic 58, 3) := by decide +kernel
theorem d_M_term_26 : decode b_M_term 26 = .ok (.ifCond .eq 35, 3) := by decide +kernel
theorem d_M_term_29 : decode b_M_term 29 = .ok (.iload_n 3, 1) := by decide +kernel
theorem d_M_term_30 : decode b_M_term 30 = .ok (.iconst 1, 1) := by decide +kernel
theorem d_M_term_31 : decode b_M_term 31 = .ok (.bipush 16, 2) := by decide +kernel
theorem d_M_term_33 : decode b_M_term 33 = .ok (.invokestatic 58, 3) := by decide +kernel
theorem d_M_term_36 : decode b_M_term 36 = .ok (.ifCond .eq 25, 3) := by decide +kernel
theorem d_M_term_39 : decode b_M_term 39 = .ok (.aload_n 0, 1) := by decide +kernel
theorem d_M_term_40 : decode b_M_term 40 = .ok (.getfield 62, 3) := by decide +kernel
theorem d_M_term_43 : decode b_M_term 43 = .ok (.bipush 120, 2) := by decide +kernel
theorem d_M_term_45 : decode b_M_term 45 = .ok (.if_icmp .ge 16, 3) := by decide +kernel
theorem d_M_term_48 : decode b_M_term 48 = .ok (.aload_n 0, 1) := by decide +kernel
theorem d_M_term_49 : decode b_M_term 49 = .ok (.getfield 65, 3) := by decide +kernel
theorem d_M_term_52 : decode b_M_term 52 = .ok (.bipush 20, 2) := by decide +kernel
theorem d_M_term_54 : decode b_M_term 54 = .ok (.if_icmp .ge 7, 3) := by decide +kernel
theorem d_M_term_57 : decode b_M_term 57 = .ok (.iconst 1, 1) := by decide +kernel
theorem d_M_term_58 : decode b_M_term 58 = .ok (.goto 4, 3) := by decide +kernel
theorem d_M_term_61 : decode b_M_term 61 = .ok (.iconst 0, 1) := by decide +kernel
theorem d_M_term_62 : decode b_M_term 62 = .ok (.istore 4, 2) := by decide +kernel
theorem d_M_term_64 : decode b_M_term 64 = .ok (.aload_n 0, 1) := by decide +kernel
theorem d_M_term_65 : decode b_M_term 65 = .ok (.getfield 19, 3) := by decide +kernel
theorem d_M_term_68 : decode b_M_term 68 = .ok (.aload_n 0, 1) := by decide +kernel
theorem d_M_term_69 : decode b_M_term 69 = .ok (.getfield 65, 3) := by decide +kernel
theorem d_M_term_72 : decode b_M_term 72 = .ok (.iaload, 1) := by decide +kernel
theorem d_M_term_73 : decode b_M_term 73 = .ok (.istore 5, 2) := by decide +kernel
theorem d_M_term_75 : decode b_M_term 75 = .ok (.iload 4, 2) := by decide +kernel
theorem d_M_term_77 : decode b_M_term 77 = .ok (.ifCond .eq 48, 3) := by decide +kernel
theorem d_M_term_80 : decode b_M_term 80 = .ok (.iload 5, 2) := by decide +kernel
theorem d_M_term_82 : decode b_M_term 82 = .ok (.aload_n 0, 1) := by decide +kernel
theorem d_M_term_83 : decode b_M_term 83 = .ok (.getfield 62, 3) := by decide +kernel
theorem d_M_term_86 : decode b_M_term 86 = .ok (.if_icmp .ge 39, 3) := by decide +kernel
theorem d_M_term_89 : decode b_M_term 89 = .ok (.aload_n 0, 1) := by decide +kernel
theorem d_M_term_90 : decode b_M_term 90 = .ok (.getfield 16, 3) := by decide +kernel
theorem d_M_term_93 : decode b_M_term 93 = .ok (.iload 5, 2) := by decide +kernel
theorem d_M_term_95 : decode b_M_term 95 = .ok (.iaload, 1) := by decide +kernel
theorem d_M_term_96 : decode b_M_term 96 = .ok (.iload_n 2, 1) := by decide +kernel
theorem d_M_term_97 : decode b_M_term 97 = .ok (.if_icmp .eq 19, 3) := by decide +kernel
theorem d_M_term_100 : decode b_M_term 100 = .ok (.aload_n 0, 1) := by decide +kernel
theorem d_M_term_101 : decode b_M_term 101 = .ok (.getfield 16, 3) := by decide +kernel
theorem d_M_term_104 : decode b_M_term 104 = .ok (.iload 5, 2) := by decide +kernel
theorem d_M_term_106 : decode b_M_term 106 = .ok (.iaload, 1) := by decide +kernel
theorem d_M_term_107 : decode b_M_term 107 = .ok (.iload_n 2, 1) := by decide +kernel
theorem d_M_term_108 : decode b_M_term 108 = .ok (.ineg, 1) := by decide +kernel
theorem d_M_term_109 : decode b_M_term 109 = .ok (.if_icmp .eq 7, 3) := by decide +kernel
theorem d_M_term_112 : decode b_M_term 112 = .ok (.iconst 1, 1) := by decide +kernel
theorem d_M_term_113 : decode b_M_term 113 = .ok (.goto 4, 3) := by decide +kernel
theorem d_M_term_116 : decode b_M_term 116 = .ok (.iconst 0, 1) := by decide +kernel
theorem d_M_term_117 : decode b_M_term 117 = .ok (.istore 4, 2) := by decide +kernel
theorem d_M_term_119 : decode b_M_term 119 = .ok (.iinc 5 1, 3) := by decide +kernel
theorem d_M_term_122 : decode b_M_term 122 = .ok (.goto (-47), 3) := by decide +kernel
theorem d_M_term_125 : decode b_M_term 125 = .ok (.iload 4, 2) := by decide +kernel
theorem d_M_term_127 : decode b_M_term 127 = .ok (.ifCond .ne 5, 3) := by decide +kernel
theorem d_M_term_130 : decode b_M_term 130 = .ok (.iconst (-1), 1) := by decide +kernel
theorem d_M_term_131 : decode b_M_term 131 = .ok (.ireturn, 1) := by decide +kernel
theorem d_M_term_132 : decode b_M_term 132 = .ok (.aload_n 0, 1) := by decide +kernel
theorem d_M_term_133 : decode b_M_term 133 = .ok (.getfield 13, 3) := by decide +kernel
theorem d_M_term_136 : decode b_M_term 136 = .ok (.aload_n 0, 1) := by decide +kernel
theorem d_M_term_137 : decode b_M_term 137 = .ok (.getfield 62, 3) := by decide +kernel
theorem d_M_term_140 : decode b_M_term 140 = .ok (.iload_n 1, 1) := by decide +kernel
theorem d_M_term_141 : decode b_M_term 141 = .ok (.iastore, 1) := by decide +kernel
theorem d_M_term_142 : decode b_M_term 142 = .ok (.aload_n 0, 1) := by decide +kernel
theorem d_M_term_143 : decode b_M_term 143 = .ok (.getfield 16, 3) := by decide +kernel
theorem d_M_term_146 : decode b_M_term 146 = .ok (.aload_n 0, 1) := by decide +kernel
theorem d_M_term_147 : decode b_M_term 147 = .ok (.getfield 62, 3) := by decide +kernel
theorem d_M_term_150 : decode b_M_term 150 = .ok (.iload_n 2, 1) := by decide +kernel
theorem d_M_term_151 : decode b_M_term 151 = .ok (.iastore, 1) := by decide +kernel
theorem d_M_term_152 : decode b_M_term 152 = .ok (.aload_n 0, 1) := by decide +kernel
theorem d_M_term_153 : decode b_M_term 153 = .ok (.dup, 1) := by decide +kernel
theorem d_M_term_154 : decode b_M_term 154 = .ok (.getfield 62, 3) := by decide +kernel
theorem d_M_term_157 : decode b_M_term 157 = .ok (.iconst 1, 1) := by decide +kernel
theorem d_M_term_158 : decode b_M_term 158 = .ok (.iadd, 1) := by decide +kernel
theorem d_M_term_159 : decode b_M_term 159 = .ok (.putfield 62, 3) := by decide +kernel
theorem d_M_term_162 : decode b_M_term 162 = .ok (.iconst 0, 1) := by decide +kernel
theorem d_M_term_163 : decode b_M_term 163 = .ok (.ireturn, 1) := by decide +kernel
set_option maxHeartbeats 4000000 in
set_option maxRecDepth 100000 in
theorem c_M_term (l : Launch) (D : va_G) (g : Nat → ClassId) (a : Nat → Nat) (P : Nat → Nat → Int32) (I : Nat → Int32) (F : Nat → Nat → Int32) {n k : Nat} (hp : PWF P n k) {bg : Bool} (h8 : I 8 = bZ bg) (h6 : I 6 = nI n) (h7 : bg = false → I 7 = nI k) (cf lit : Int32) : Ct l D g y_M_term b_M_term 6 (some .int) 1 [.ref (a 0), .int cf, .int lit] (MW a g P I F) (fun r w => (okT P bg n k cf lit = true ∧ r = some (.int 0) ∧ w = MW a g (PT P k cf lit) (upd I 7 (nI (k + 1))) F) ∨ (okT P bg n k cf lit = false ∧ r = some (.int (-1)) ∧ w = MW a g P I F)) := by
  refine Ct.of (lv := [(0, _), (1, _), (2, _)]) (by decide) rfl (Nat.le_of_ble_eq_true rfl) rfl ?_
  intro G K
  have J75 : ∀ (N : Nat) (t : Nat) (g1 : Bool), k - t < N → (t ≤ 120) → (g1 = true → okT0 bg n k cf lit = true) → ((g1 && !an (dupf P lit) t (k - t)) = okT P bg n k cf lit) → G 75 [(0, .ref (a 0)), (1, .int cf), (2, .int lit), (4, .int (bZ g1)), (5, .int (nI t))] [] (MW a g P I F) := by
    intro N
    induction N with
    | zero => intro t g1 hm; exact absurd hm (Nat.not_lt_zero _)
    | succ N ih75 =>
      intro t g1 hm75 ht h0 hG
      have J125 : (g1 = okT P bg n k cf lit) → G 125 [(0, .ref (a 0)), (1, .int cf), (2, .int lit), (4, .int (bZ g1))] [] (MW a g P I F) := by
        intro  hE
        refine g_iload K 3 d_M_term_125 rfl ?_
        refine g_if_ne K (tgt := 132) d_M_term_127 (by decide) (fun c127 => ?_) (fun c127 => ?_)
        · have e127 := bZ_t c127
          have e128 := hE.symm.trans e127
          obtain ⟨z1, z2, z3, z4, z5⟩ := okT0_i.mp ((Bool.and_eq_true _ _ ▸ e128 : _ ∧ _).1)
          refine g_aload_n K 0 d_M_term_132 rfl ?_
          refine gM_get K 2 fl_M_13 (by decide) rfl d_M_term_133 ?_
          refine g_aload_n K 0 d_M_term_136 rfl ?_
          refine gM_get K 7 fl_M_62 (by decide) rfl d_M_term_137 ?_
          refine g_iload_n K 1 d_M_term_140 rfl ?_
          refine gM_ast_factors K (k) (h7 z1) z3 d_M_term_141 ?_
          refine g_aload_n K 0 d_M_term_142 rfl ?_
          refine gM_get K 3 fl_M_16 (by decide) rfl d_M_term_143 ?_
          refine g_aload_n K 0 d_M_term_146 rfl ?_
          refine gM_get K 7 fl_M_62 (by decide) rfl d_M_term_147 ?_
          refine g_iload_n K 2 d_M_term_150 rfl ?_
          refine gM_ast_literals K (k) (h7 z1) z3 d_M_term_151 ?_
          refine g_aload_n K 0 d_M_term_152 rfl ?_
          refine g_dup K d_M_term_153 rfl ?_
          refine gM_get K 7 fl_M_62 (by decide) rfl d_M_term_154 ?_
          refine g_iconst K (v := 1) d_M_term_157 (by decide) ?_
          refine g_iadd K d_M_term_158 ?_
          refine g_top K (show _ = nI (k + 1) from (congrArg (· + 1) (h7 z1)).trans (nI_1 k)) ?_
          refine gM_put_terms K fl_M_62 d_M_term_159 ?_
          refine g_iconst K (v := 0) d_M_term_162 (by decide) ?_
          refine g_iret K d_M_term_163 (Or.inl ⟨e128, rfl, rfl⟩)
        · have e127 := hE.symm.trans (bZ_f c127)
          refine g_iconst K (v := -1) d_M_term_130 (by decide) ?_
          refine g_iret K d_M_term_131 (Or.inr ⟨e127, rfl, rfl⟩)
      have J117 : ∀ (g2 : Bool), (t < k) → (g2 = true → okT0 bg n k cf lit = true) → ((g2 && !an (dupf P lit) (t + 1) (k - (t + 1))) = okT P bg n k cf lit) → G 117 [(0, .ref (a 0)), (1, .int cf), (2, .int lit), (4, .int (bZ g1)), (5, .int (nI t))] [.int (bZ g2)] (MW a g P I F) := by
        intro g2 h86 h02 hG2
        refine g_istore (lv' := [(4, _), (0, _), (1, _), (2, _), (5, _)]) K d_M_term_117 (by decide) rfl ?_
        refine g_iinc (v := nI (t + 1)) (lv' := [(5, _), (4, _), (0, _), (1, _), (2, _)]) K 4 d_M_term_119 rfl (nI_1 t) (by decide) rfl ?_
        refine g_goto K (tgt := 75) d_M_term_122 (by decide) ?_
        refine g_lv K [2, 3, 4, 1, 0] rfl (ih75 (t + 1) g2 (by omega) (by have := hp.2.1; omega) h02 hG2)
      have J116 : (t < k) → (false = okT P bg n k cf lit) → G 116 [(0, .ref (a 0)), (1, .int cf), (2, .int lit), (4, .int (bZ g1)), (5, .int (nI t))] [] (MW a g P I F) := by
        intro  h86 hG2
        refine g_iconst K (v := 0) d_M_term_116 (by decide) ?_
        refine g_lv K [0, 1, 2, 3, 4] rfl (J117 false h86 (fun e => by cases e) hG2)
      refine g_iload K 3 d_M_term_75 rfl ?_
      refine g_if_eq K (tgt := 125) d_M_term_77 (by decide) (fun c77 => ?_) (fun c77 => ?_)
      · have e1 := bZ_f c77
        refine g_lv K [0, 1, 2, 3] rfl (J125 (by rw [← hG, e1]; rfl))
      · have e1 := bZ_t c77
        refine g_iload K 4 d_M_term_80 rfl ?_
        refine g_aload_n K 0 d_M_term_82 rfl ?_
        refine gM_get K 7 fl_M_62 (by decide) rfl d_M_term_83 ?_
        have hk2 := hp.2.1
        obtain ⟨z1, z2, z3, z4⟩ := okT0_i.mp (h0 e1)
        refine g_top K (h7 z1) ?_
        refine g_icmp_ge K (tgt := 125) d_M_term_86 (by decide) (fun c86 => ?_) (fun c86 => ?_)
        · have h86 := (nI_leI (by omega) (by omega)).mp c86
          refine g_lv K [0, 1, 2, 3] rfl (J125 (by rw [← hG, an_e h86, Bool.not_false, Bool.and_true]))
        · have h86 : t < k := Nat.lt_of_not_le (fun h => c86 ((nI_leI (by omega) (by omega)).mpr h))
          refine g_aload_n K 0 d_M_term_89 rfl ?_
          refine gM_get K 3 fl_M_16 (by decide) rfl d_M_term_90 ?_
          refine g_iload K 4 d_M_term_93 rfl ?_
          refine g_iald K 3 (t) rfl rfl (by omega) d_M_term_95 ?_
          refine g_iload_n K 2 d_M_term_96 rfl ?_
          refine g_icmp_eq K (tgt := 116) d_M_term_97 (by decide) (fun c97 => ?_) (fun c97 => ?_)
          · refine g_lv K [0, 1, 2, 3, 4] rfl (J116 h86 (by rw [← hG, e1, an_s h86, show dupf P lit t = true from decide_eq_true (Or.inl c97)]; rfl))
          · refine g_aload_n K 0 d_M_term_100 rfl ?_
            refine gM_get K 3 fl_M_16 (by decide) rfl d_M_term_101 ?_
            refine g_iload K 4 d_M_term_104 rfl ?_
            refine g_iald K 3 (t) rfl rfl (by omega) d_M_term_106 ?_
            refine g_iload_n K 2 d_M_term_107 rfl ?_
            refine g_ineg K d_M_term_108 ?_
            refine g_icmp_eq K (tgt := 116) d_M_term_109 (by decide) (fun c109 => ?_) (fun c109 => ?_)
            · refine g_lv K [0, 1, 2, 3, 4] rfl (J116 h86 (by rw [← hG, e1, an_s h86, show dupf P lit t = true from decide_eq_true (Or.inr c109)]; rfl))
            · refine g_iconst K (v := 1) d_M_term_112 (by decide) ?_
              refine g_goto K (tgt := 117) d_M_term_113 (by decide) ?_
              refine g_lv K [0, 1, 2, 3, 4] rfl (J117 true h86 (fun _ => h0 e1) (by rw [← hG, e1, an_s h86, show dupf P lit t = false from decide_eq_false (fun z => z.elim c97 c109)]; rfl))
  have J10 : ∀ (w : Int32), (w = if 0 ≤ lit then lit else -lit) → G 10 [(0, .ref (a 0)), (1, .int cf), (2, .int lit)] [.int w] (MW a g P I F) := by
    intro w hw
    have J62 : ∀ (g0 : Bool), (g0 = okT0 bg n k cf lit) → G 62 [(0, .ref (a 0)), (1, .int cf), (2, .int lit), (3, .int w)] [.int (bZ g0)] (MW a g P I F) := by
      intro g0 hg0
      refine g_istore (lv' := [(4, _), (0, _), (1, _), (2, _), (3, _)]) K d_M_term_62 (by decide) rfl ?_
      refine g_aload_n K 1 d_M_term_64 rfl ?_
      refine gM_get K 4 fl_M_19 (by decide) rfl d_M_term_65 ?_
      refine g_aload_n K 1 d_M_term_68 rfl ?_
      refine gM_get K 6 fl_M_65 (by decide) rfl d_M_term_69 ?_
      refine g_iald K 4 (n) rfl h6 (by have := hp.1; omega) d_M_term_72 ?_
      refine g_top K (hp.2.2.1 n (Nat.le_refl n)).1 ?_
      refine g_istore (lv' := [(5, _), (4, _), (0, _), (1, _), (2, _), (3, _)]) K d_M_term_73 (by decide) rfl ?_
      refine g_lv K [2, 3, 4, 1, 0] rfl (J75 _ (stn P n) g0 (Nat.lt_succ_self _) (by have := (hp.2.2.1 n (Nat.le_refl n)).2; have := hp.2.1; omega) (fun e => hg0.symm.trans e) (by rw [hg0]; rfl))
    have J61 : (false = okT0 bg n k cf lit) → G 61 [(0, .ref (a 0)), (1, .int cf), (2, .int lit), (3, .int w)] [] (MW a g P I F) := by
      intro  hN
      refine g_iconst K (v := 0) d_M_term_61 (by decide) ?_
      refine g_lv K [0, 1, 2, 3] rfl (J62 false hN)
    refine g_istore_n (lv' := [(3, _), (0, _), (1, _), (2, _)]) K d_M_term_10 (by decide) rfl ?_
    refine g_aload_n K 1 d_M_term_11 rfl ?_
    refine gM_get K 8 fl_M_54 (by decide) rfl d_M_term_12 ?_
    refine g_if_ne K (tgt := 61) d_M_term_15 (by decide) (fun c15 => ?_) (fun c15 => ?_)
    · refine g_lv K [1, 2, 3, 0] rfl (J61 (okT0_n (fun z => by rw [z.1] at h8; exact c15 h8)))
    · have e15 : bg = false := bZ_f (h8.symm.trans c15)
      refine g_iload_n K 2 d_M_term_18 rfl ?_
      refine g_iconst K (v := 1) d_M_term_19 (by decide) ?_
      refine g_sipush K (v := 32767) d_M_term_20 (by decide) ?_
      refine g_callS K (c_M_isIn l D g cf 1 32767) mf_M_isIn is_M_isIn ml_M_58 (by decide) (Nat.le_of_ble_eq_true rfl) d_M_term_23 (fun v hq => ?_) rfl
      obtain ⟨rfl, -⟩ := hq
      refine g_ri ?_
      refine g_if_eq K (tgt := 61) d_M_term_26 (by decide) (fun c26 => ?_) (fun c26 => ?_)
      · refine g_lv K [1, 2, 3, 0] rfl (J61 (okT0_n (fun z => (of_decide_eq_false ((in_i 1 32767 i_1 k_32767 cf).symm.trans (bZ_f c26))) z.2.2.2.1)))
      · have e26 := of_decide_eq_true ((in_i 1 32767 i_1 k_32767 cf).symm.trans (bZ_t c26))
        refine g_iload_n K 0 d_M_term_29 rfl ?_
        refine g_iconst K (v := 1) d_M_term_30 (by decide) ?_
        refine g_bipush K (v := 16) d_M_term_31 (by decide) ?_
        refine g_callS K (c_M_isIn l D g w 1 16) mf_M_isIn is_M_isIn ml_M_58 (by decide) (Nat.le_of_ble_eq_true rfl) d_M_term_33 (fun v hq => ?_) rfl
        obtain ⟨rfl, -⟩ := hq
        refine g_ri ?_
        refine g_if_eq K (tgt := 61) d_M_term_36 (by decide) (fun c36 => ?_) (fun c36 => ?_)
        · refine g_lv K [1, 2, 3, 0] rfl (J61 (okT0_n (fun z => (of_decide_eq_false ((vx_in w lit hw).symm.trans (bZ_f c36))) z.2.2.2.2)))
        · have e36 := of_decide_eq_true ((vx_in w lit hw).symm.trans (bZ_t c36))
          refine g_aload_n K 1 d_M_term_39 rfl ?_
          refine gM_get K 7 fl_M_62 (by decide) rfl d_M_term_40 ?_
          refine g_bipush K (v := 120) d_M_term_43 (by decide) ?_
          refine g_top K nI_120 ?_
          refine g_icmp_ge K (tgt := 61) d_M_term_45 (by decide) (fun c45 => ?_) (fun c45 => ?_)
          · have h45 : ¬ k < 120 := by rw [h7 e15] at c45; have := (nI_leI (by omega) (by have := hp.2.1; omega)).mp c45; omega
            refine g_lv K [1, 2, 3, 0] rfl (J61 (okT0_n (fun z => h45 z.2.2.1)))
          · have h45 : k < 120 := by rw [h7 e15] at c45; exact Nat.lt_of_not_le (fun h => c45 ((nI_leI (by omega) (by have := hp.2.1; omega)).mpr h))
            refine g_aload_n K 1 d_M_term_48 rfl ?_
            refine gM_get K 6 fl_M_65 (by decide) rfl d_M_term_49 ?_
            refine g_bipush K (v := 20) d_M_term_52 (by decide) ?_
            refine g_top K nI_20 ?_
            refine g_icmp_ge K (tgt := 61) d_M_term_54 (by decide) (fun c54 => ?_) (fun c54 => ?_)
            · have h54 : ¬ n < 20 := by rw [h6] at c54; have := (nI_leI (by omega) (by have := hp.1; omega)).mp c54; omega
              refine g_lv K [1, 2, 3, 0] rfl (J61 (okT0_n (fun z => h54 z.2.1)))
            · have h54 : n < 20 := by rw [h6] at c54; exact Nat.lt_of_not_le (fun h => c54 ((nI_leI (by omega) (by have := hp.1; omega)).mpr h))
              refine g_iconst K (v := 1) d_M_term_57 (by decide) ?_
              refine g_goto K (tgt := 62) d_M_term_58 (by decide) ?_
              refine g_lv K [1, 2, 3, 0] rfl (J62 true (okT0_i.mpr ⟨e15, h54, h45, e26, e36⟩).symm)
  refine g_iload_n K 2 d_M_term_0 rfl ?_
  refine g_if_ge K (tgt := 9) d_M_term_1 (by decide) (fun c1 => ?_) (fun c1 => ?_)
  · refine g_iload_n K 2 d_M_term_9 rfl ?_
    refine g_lv K [0, 1, 2] rfl (J10 _ (if_pos c1).symm)
  · refine g_iload_n K 2 d_M_term_4 rfl ?_
    refine g_ineg K d_M_term_5 ?_
    refine g_goto K (tgt := 10) d_M_term_6 (by decide) ?_
    refine g_lv K [0, 1, 2] rfl (J10 _ (if_neg c1).symm)
theorem d_M_end_0 : decode b_M_end 0 = .ok (.aload_n 0, 1) := by decide +kernel
theorem d_M_end_1 : decode b_M_end 1 = .ok (.getfield 54, 3) := by decide +kernel
theorem d_M_end_4 : decode b_M_end 4 = .ok (.ifCond .ne 22, 3) := by decide +kernel
theorem d_M_end_7 : decode b_M_end 7 = .ok (.iload_n 1, 1) := by decide +kernel
theorem d_M_end_8 : decode b_M_end 8 = .ok (.iconst 0, 1) := by decide +kernel
theorem d_M_end_9 : decode b_M_end 9 = .ok (.ldc 68, 2) := by decide +kernel
theorem d_M_end_11 : decode b_M_end 11 = .ok (.invokestatic 58, 3) := by decide +kernel
theorem d_M_end_14 : decode b_M_end 14 = .ok (.ifCond .eq 12, 3) := by decide +kernel
theorem d_M_end_17 : decode b_M_end 17 = .ok (.aload_n 0, 1) := by decide +kernel
theorem d_M_end_18 : decode b_M_end 18 = .ok (.getfield 65, 3) := by decide +kernel
theorem d_M_end_21 : decode b_M_end 21 = .ok (.bipush 20, 2) := by decide +kernel
theorem d_M_end_23 : decode b_M_end 23 = .ok (.if_icmp .ne 5, 3) := by decide +kernel
theorem d_M_end_26 : decode b_M_end 26 = .ok (.iconst (-1), 1) := by decide +kernel
theorem d_M_end_27 : decode b_M_end 27 = .ok (.ireturn, 1) := by decide +kernel
theorem d_M_end_28 : decode b_M_end 28 = .ok (.aload_n 0, 1) := by decide +kernel
theorem d_M_end_29 : decode b_M_end 29 = .ok (.getfield 22, 3) := by decide +kernel
theorem d_M_end_32 : decode b_M_end 32 = .ok (.aload_n 0, 1) := by decide +kernel
theorem d_M_end_33 : decode b_M_end 33 = .ok (.getfield 65, 3) := by decide +kernel
theorem d_M_end_36 : decode b_M_end 36 = .ok (.iload_n 1, 1) := by decide +kernel
theorem d_M_end_37 : decode b_M_end 37 = .ok (.iastore, 1) := by decide +kernel
theorem d_M_end_38 : decode b_M_end 38 = .ok (.aload_n 0, 1) := by decide +kernel
theorem d_M_end_39 : decode b_M_end 39 = .ok (.dup, 1) := by decide +kernel
theorem d_M_end_40 : decode b_M_end 40 = .ok (.getfield 65, 3) := by decide +kernel
theorem d_M_end_43 : decode b_M_end 43 = .ok (.iconst 1, 1) := by decide +kernel
theorem d_M_end_44 : decode b_M_end 44 = .ok (.iadd, 1) := by decide +kernel
theorem d_M_end_45 : decode b_M_end 45 = .ok (.putfield 65, 3) := by decide +kernel
theorem d_M_end_48 : decode b_M_end 48 = .ok (.aload_n 0, 1) := by decide +kernel
theorem d_M_end_49 : decode b_M_end 49 = .ok (.getfield 19, 3) := by decide +kernel
theorem d_M_end_52 : decode b_M_end 52 = .ok (.aload_n 0, 1) := by decide +kernel
theorem d_M_end_53 : decode b_M_end 53 = .ok (.getfield 65, 3) := by decide +kernel
theorem d_M_end_56 : decode b_M_end 56 = .ok (.aload_n 0, 1) := by decide +kernel
theorem d_M_end_57 : decode b_M_end 57 = .ok (.getfield 62, 3) := by decide +kernel
theorem d_M_end_60 : decode b_M_end 60 = .ok (.iastore, 1) := by decide +kernel
theorem d_M_end_61 : decode b_M_end 61 = .ok (.aload_n 0, 1) := by decide +kernel
theorem d_M_end_62 : decode b_M_end 62 = .ok (.getfield 65, 3) := by decide +kernel
theorem d_M_end_65 : decode b_M_end 65 = .ok (.iconst 1, 1) := by decide +kernel
theorem d_M_end_66 : decode b_M_end 66 = .ok (.isub, 1) := by decide +kernel
theorem d_M_end_67 : decode b_M_end 67 = .ok (.ireturn, 1) := by decide +kernel
set_option maxHeartbeats 4000000 in
set_option maxRecDepth 100000 in
theorem c_M_end (l : Launch) (D : va_G) (g : Nat → ClassId) (a : Nat → Nat) (P : Nat → Nat → Int32) (I : Nat → Int32) (F : Nat → Nat → Int32) {n k : Nat} (hp : PWF P n k) {bg : Bool} (h8 : I 8 = bZ bg) (h6 : I 6 = nI n) (h7 : bg = false → I 7 = nI k) (b : Int32) : Ct l D g y_M_end b_M_end 2 (some .int) 1 [.ref (a 0), .int b] (MW a g P I F) (fun r w => (okE bg n b = true ∧ r = some (.int (nI n)) ∧ w = MW a g (PE P n k b) (upd I 6 (nI (n + 1))) F) ∨ (okE bg n b = false ∧ r = some (.int (-1)) ∧ w = MW a g P I F)) := by
  refine Ct.of (lv := [(0, _), (1, _)]) (by decide) rfl (Nat.le_of_ble_eq_true rfl) rfl ?_
  intro G K
  have J26 : (okE bg n b = false) → G 26 [(0, .ref (a 0)), (1, .int b)] [] (MW a g P I F) := by
    intro  hN
    refine g_iconst K (v := -1) d_M_end_26 (by decide) ?_
    refine g_iret K d_M_end_27 (Or.inr ⟨hN, rfl, rfl⟩)
  refine g_aload_n K 0 d_M_end_0 rfl ?_
  refine gM_get K 8 fl_M_54 (by decide) rfl d_M_end_1 ?_
  refine g_if_ne K (tgt := 26) d_M_end_4 (by decide) (fun c4 => ?_) (fun c4 => ?_)
  · refine g_lv K [0, 1] rfl (J26 (okE_n1 (bZ_t (fun z => c4 (h8.trans z)))))
  · have e1 : bg = false := bZ_f (h8.symm.trans c4)
    refine g_iload_n K 1 d_M_end_7 rfl ?_
    refine g_iconst K (v := 0) d_M_end_8 (by decide) ?_
    refine g_ldc K co_M_68 d_M_end_9 ?_
    refine g_callS K (c_M_isIn l D g b 0 1073741824) mf_M_isIn is_M_isIn ml_M_58 (by decide) (Nat.le_of_ble_eq_true rfl) d_M_end_11 (fun v hq => ?_) rfl
    obtain ⟨rfl, -⟩ := hq
    refine g_ri ?_
    refine g_if_eq K (tgt := 26) d_M_end_14 (by decide) (fun c14 => ?_) (fun c14 => ?_)
    · refine g_lv K [0, 1] rfl (J26 (okE_n2 ((in_i 0 1073741824 i_0 k_B b).symm.trans (bZ_f c14))))
    · have e2 := of_decide_eq_true ((in_i 0 1073741824 i_0 k_B b).symm.trans (bZ_t c14))
      refine g_aload_n K 0 d_M_end_17 rfl ?_
      refine gM_get K 6 fl_M_65 (by decide) rfl d_M_end_18 ?_
      refine g_bipush K (v := 20) d_M_end_21 (by decide) ?_
      refine g_top K nI_20 ?_
      refine g_icmp_ne K (tgt := 28) d_M_end_23 (by decide) (fun c23 => ?_) (fun c23 => ?_)
      · have h23 : n < 20 := by have := hp.1; rcases Nat.lt_or_ge n 20 with z | z; exact z; exact absurd (by rw [h6, show n = 20 by omega]) c23
        refine g_aload_n K 0 d_M_end_28 rfl ?_
        refine gM_get K 5 fl_M_22 (by decide) rfl d_M_end_29 ?_
        refine g_aload_n K 0 d_M_end_32 rfl ?_
        refine gM_get K 6 fl_M_65 (by decide) rfl d_M_end_33 ?_
        refine g_iload_n K 1 d_M_end_36 rfl ?_
        refine gM_ast_bounds K (n) h6 (by omega) d_M_end_37 ?_
        refine g_aload_n K 0 d_M_end_38 rfl ?_
        refine g_dup K d_M_end_39 rfl ?_
        refine gM_get K 6 fl_M_65 (by decide) rfl d_M_end_40 ?_
        refine g_iconst K (v := 1) d_M_end_43 (by decide) ?_
        refine g_iadd K d_M_end_44 ?_
        refine g_top K (show _ = nI (n + 1) from (congrArg (· + 1) h6).trans (nI_1 n)) ?_
        refine gM_put_constraints K fl_M_65 d_M_end_45 ?_
        refine g_aload_n K 0 d_M_end_48 rfl ?_
        refine gM_get K 4 fl_M_19 (by decide) rfl d_M_end_49 ?_
        refine g_aload_n K 0 d_M_end_52 rfl ?_
        refine gM_get K 6 fl_M_65 (by decide) rfl d_M_end_53 ?_
        refine g_aload_n K 0 d_M_end_56 rfl ?_
        refine gM_get K 7 fl_M_62 (by decide) rfl d_M_end_57 ?_
        refine g_top K (h7 e1) ?_
        refine gM_ast_begins K (n + 1) rfl (by omega) d_M_end_60 ?_
        refine g_aload_n K 0 d_M_end_61 rfl ?_
        refine gM_get K 6 fl_M_65 (by decide) rfl d_M_end_62 ?_
        refine g_iconst K (v := 1) d_M_end_65 (by decide) ?_
        refine g_isub K d_M_end_66 ?_
        refine g_top K (show _ = nI n from nI_pred n) ?_
        refine g_iret K d_M_end_67 (Or.inl ⟨okE_y e1 h23 e2, rfl, rfl⟩)
      · have h23 : ¬ n < 20 := by have := nI_inj (by have := hp.1; omega) (by omega) (h6.symm.trans c23); omega
        refine g_lv K [0, 1] rfl (J26 (okE_n3 h23))
theorem d_M_optimum_0 : decode b_M_optimum 0 = .ok (.aload_n 0, 1) := by decide +kernel
theorem d_M_optimum_1 : decode b_M_optimum 1 = .ok (.getfield 116, 3) := by decide +kernel
theorem d_M_optimum_4 : decode b_M_optimum 4 = .ok (.ifCond .eq 10, 3) := by decide +kernel
theorem d_M_optimum_7 : decode b_M_optimum 7 = .ok (.aload_n 0, 1) := by decide +kernel
theorem d_M_optimum_8 : decode b_M_optimum 8 = .ok (.getfield 32, 3) := by decide +kernel
theorem d_M_optimum_11 : decode b_M_optimum 11 = .ok (.goto 5, 3) := by decide +kernel
theorem d_M_optimum_14 : decode b_M_optimum 14 = .ok (.bipush (-3), 2) := by decide +kernel
theorem d_M_optimum_16 : decode b_M_optimum 16 = .ok (.ireturn, 1) := by decide +kernel
set_option maxHeartbeats 4000000 in
set_option maxRecDepth 100000 in
theorem c_M_optimum (l : Launch) (D : va_G) (g : Nat → ClassId) (a : Nat → Nat) (P : Nat → Nat → Int32) (I : Nat → Int32) (F : Nat → Nat → Int32) {dn : Bool} (h9 : I 9 = bZ dn) : Ct l D g y_M_optimum b_M_optimum 1 (some .int) 0 [.ref (a 0)] (MW a g P I F) (fun r w => r = some (.int (cond dn (I 18) (-3))) ∧ w = MW a g P I F) := by
  refine Ct.of (lv := [(0, _)]) (by decide) rfl (Nat.le_of_ble_eq_true rfl) rfl ?_
  intro G K
  refine g_aload_n K 0 d_M_optimum_0 rfl ?_
  refine gM_get K 9 fl_M_116 (by decide) rfl d_M_optimum_1 ?_
  refine g_if_eq K (tgt := 14) d_M_optimum_4 (by decide) (fun c4 => ?_) (fun c4 => ?_)
  · refine g_bipush K (v := -3) d_M_optimum_14 (by decide) ?_
    refine g_iret K d_M_optimum_16 (?_)
    first | exact ⟨by rw [bZ_t (fun z => c4 (h9.trans z))]; rfl, rfl⟩ | exact ⟨by rw [bZ_f (h9.symm.trans c4)]; rfl, rfl⟩
  · refine g_aload_n K 0 d_M_optimum_7 rfl ?_
    refine gM_get K 18 fl_M_32 (by decide) rfl d_M_optimum_8 ?_
    refine g_goto K (tgt := 16) d_M_optimum_11 (by decide) ?_
    refine g_iret K d_M_optimum_16 (?_)
    first | exact ⟨by rw [bZ_t (fun z => c4 (h9.trans z))]; rfl, rfl⟩ | exact ⟨by rw [bZ_f (h9.symm.trans c4)]; rfl, rfl⟩
theorem d_M_value_0 : decode b_M_value 0 = .ok (.iload_n 1, 1) := by decide +kernel
theorem d_M_value_1 : decode b_M_value 1 = .ok (.iconst 1, 1) := by decide +kernel
theorem d_M_value_2 : decode b_M_value 2 = .ok (.bipush 16, 2) := by decide +kernel
theorem d_M_value_4 : decode b_M_value 4 = .ok (.invokestatic 58, 3) := by decide +kernel
theorem d_M_value_7 : decode b_M_value 7 = .ok (.ifCond .eq 10, 3) := by decide +kernel
theorem d_M_value_10 : decode b_M_value 10 = .ok (.aload_n 0, 1) := by decide +kernel
theorem d_M_value_11 : decode b_M_value 11 = .ok (.getfield 32, 3) := by decide +kernel
theorem d_M_value_14 : decode b_M_value 14 = .ok (.ifCond .ge 5, 3) := by decide +kernel
theorem d_M_value_17 : decode b_M_value 17 = .ok (.iconst (-1), 1) := by decide +kernel
theorem d_M_value_18 : decode b_M_value 18 = .ok (.ireturn, 1) := by decide +kernel
theorem d_M_value_19 : decode b_M_value 19 = .ok (.aload_n 0, 1) := by decide +kernel
theorem d_M_value_20 : decode b_M_value 20 = .ok (.getfield 113, 3) := by decide +kernel
theorem d_M_value_23 : decode b_M_value 23 = .ok (.iload_n 1, 1) := by decide +kernel
theorem d_M_value_24 : decode b_M_value 24 = .ok (.iconst 1, 1) := by decide +kernel
theorem d_M_value_25 : decode b_M_value 25 = .ok (.isub, 1) := by decide +kernel
theorem d_M_value_26 : decode b_M_value 26 = .ok (.ishr, 1) := by decide +kernel
theorem d_M_value_27 : decode b_M_value 27 = .ok (.iconst 1, 1) := by decide +kernel
theorem d_M_value_28 : decode b_M_value 28 = .ok (.iand, 1) := by decide +kernel
theorem d_M_value_29 : decode b_M_value 29 = .ok (.ireturn, 1) := by decide +kernel
set_option maxHeartbeats 4000000 in
set_option maxRecDepth 100000 in
theorem c_M_value (l : Launch) (D : va_G) (g : Nat → ClassId) (a : Nat → Nat) (P : Nat → Nat → Int32) (I : Nat → Int32) (F : Nat → Nat → Int32) (v : Int32) : Ct l D g y_M_value b_M_value 2 (some .int) 1 [.ref (a 0), .int v] (MW a g P I F) (fun r w => r = some (.int (if (1 ≤ v.toInt ∧ v.toInt ≤ 16) ∧ 0 ≤ (I 18).toInt then (I 19 >>> ((v - 1) &&& 31)) &&& 1 else -1)) ∧ w = MW a g P I F) := by
  refine Ct.of (lv := [(0, _), (1, _)]) (by decide) rfl (Nat.le_of_ble_eq_true rfl) rfl ?_
  intro G K
  have J17 : (¬ ((1 ≤ v.toInt ∧ v.toInt ≤ 16) ∧ 0 ≤ (I 18).toInt)) → G 17 [(0, .ref (a 0)), (1, .int v)] [] (MW a g P I F) := by
    intro  hN
    refine g_iconst K (v := -1) d_M_value_17 (by decide) ?_
    refine g_iret K d_M_value_18 (⟨by rw [if_neg hN], rfl⟩)
  refine g_iload_n K 1 d_M_value_0 rfl ?_
  refine g_iconst K (v := 1) d_M_value_1 (by decide) ?_
  refine g_bipush K (v := 16) d_M_value_2 (by decide) ?_
  refine g_callS K (c_M_isIn l D g v 1 16) mf_M_isIn is_M_isIn ml_M_58 (by decide) (Nat.le_of_ble_eq_true rfl) d_M_value_4 (fun v hq => ?_) rfl
  obtain ⟨rfl, -⟩ := hq
  refine g_ri ?_
  refine g_if_eq K (tgt := 17) d_M_value_7 (by decide) (fun c7 => ?_) (fun c7 => ?_)
  · refine g_lv K [0, 1] rfl (J17 (fun z => (of_decide_eq_false ((in_i 1 16 i_1 k_16 v).symm.trans (bZ_f c7))) z.1))
  · have e2 := of_decide_eq_true ((in_i 1 16 i_1 k_16 v).symm.trans (bZ_t c7))
    refine g_aload_n K 0 d_M_value_10 rfl ?_
    refine gM_get K 18 fl_M_32 (by decide) rfl d_M_value_11 ?_
    refine g_if_ge K (tgt := 19) d_M_value_14 (by decide) (fun c14 => ?_) (fun c14 => ?_)
    · refine g_aload_n K 0 d_M_value_19 rfl ?_
      refine gM_get K 19 fl_M_113 (by decide) rfl d_M_value_20 ?_
      refine g_iload_n K 1 d_M_value_23 rfl ?_
      refine g_iconst K (v := 1) d_M_value_24 (by decide) ?_
      refine g_isub K d_M_value_25 ?_
      refine g_ishr K d_M_value_26 ?_
      refine g_iconst K (v := 1) d_M_value_27 (by decide) ?_
      refine g_iand K d_M_value_28 ?_
      refine g_iret K d_M_value_29 (⟨by rw [if_pos ⟨e2, by rwa [i_le, i_0] at c14⟩], rfl⟩)
    · refine g_lv K [0, 1] rfl (J17 (fun z => c14 (by rw [i_le, i_0]; exact z.2)))
theorem d_M_logSize_0 : decode b_M_logSize 0 = .ok (.aload_n 0, 1) := by decide +kernel
theorem d_M_logSize_1 : decode b_M_logSize 1 = .ok (.getfield 93, 3) := by decide +kernel
theorem d_M_logSize_4 : decode b_M_logSize 4 = .ok (.ireturn, 1) := by decide +kernel
set_option maxHeartbeats 4000000 in
set_option maxRecDepth 100000 in
theorem c_M_logSize (l : Launch) (D : va_G) (g : Nat → ClassId) (a : Nat → Nat) (P : Nat → Nat → Int32) (I : Nat → Int32) (F : Nat → Nat → Int32) : Ct l D g y_M_logSize b_M_logSize 1 (some .int) 0 [.ref (a 0)] (MW a g P I F) (fun r w => r = some (.int (I 22)) ∧ w = MW a g P I F) := by
  refine Ct.of (lv := [(0, _)]) (by decide) rfl (Nat.le_of_ble_eq_true rfl) rfl ?_
  intro G K
  refine g_aload_n K 0 d_M_logSize_0 rfl ?_
  refine gM_get K 22 fl_M_93 (by decide) rfl d_M_logSize_1 ?_
  refine g_iret K d_M_logSize_4 (⟨rfl, rfl⟩)
theorem d_M_steps_0 : decode b_M_steps 0 = .ok (.aload_n 0, 1) := by decide +kernel
theorem d_M_steps_1 : decode b_M_steps 1 = .ok (.getfield 119, 3) := by decide +kernel
theorem d_M_steps_4 : decode b_M_steps 4 = .ok (.ireturn, 1) := by decide +kernel
set_option maxHeartbeats 4000000 in
set_option maxRecDepth 100000 in
theorem c_M_steps (l : Launch) (D : va_G) (g : Nat → ClassId) (a : Nat → Nat) (P : Nat → Nat → Int32) (I : Nat → Int32) (F : Nat → Nat → Int32) : Ct l D g y_M_steps b_M_steps 1 (some .int) 0 [.ref (a 0)] (MW a g P I F) (fun r w => r = some (.int (I 20)) ∧ w = MW a g P I F) := by
  refine Ct.of (lv := [(0, _)]) (by decide) rfl (Nat.le_of_ble_eq_true rfl) rfl ?_
  intro G K
  refine g_aload_n K 0 d_M_steps_0 rfl ?_
  refine gM_get K 20 fl_M_119 (by decide) rfl d_M_steps_1 ?_
  refine g_iret K d_M_steps_4 (⟨rfl, rfl⟩)
theorem d_M_logAt_0 : decode b_M_logAt 0 = .ok (.iload_n 1, 1) := by decide +kernel
theorem d_M_logAt_1 : decode b_M_logAt 1 = .ok (.ifCond .lt 20, 3) := by decide +kernel
theorem d_M_logAt_4 : decode b_M_logAt 4 = .ok (.iload_n 1, 1) := by decide +kernel
theorem d_M_logAt_5 : decode b_M_logAt 5 = .ok (.aload_n 0, 1) := by decide +kernel
theorem d_M_logAt_6 : decode b_M_logAt 6 = .ok (.getfield 93, 3) := by decide +kernel
theorem d_M_logAt_9 : decode b_M_logAt 9 = .ok (.if_icmp .ge 12, 3) := by decide +kernel
theorem d_M_logAt_12 : decode b_M_logAt 12 = .ok (.aload_n 0, 1) := by decide +kernel
theorem d_M_logAt_13 : decode b_M_logAt 13 = .ok (.getfield 36, 3) := by decide +kernel
theorem d_M_logAt_16 : decode b_M_logAt 16 = .ok (.iload_n 1, 1) := by decide +kernel
theorem d_M_logAt_17 : decode b_M_logAt 17 = .ok (.iaload, 1) := by decide +kernel
theorem d_M_logAt_18 : decode b_M_logAt 18 = .ok (.goto 5, 3) := by decide +kernel
theorem d_M_logAt_21 : decode b_M_logAt 21 = .ok (.bipush (-9), 2) := by decide +kernel
theorem d_M_logAt_23 : decode b_M_logAt 23 = .ok (.ireturn, 1) := by decide +kernel
set_option maxHeartbeats 4000000 in
set_option maxRecDepth 100000 in
theorem c_M_logAt (l : Launch) (D : va_G) (g : Nat → ClassId) (a : Nat → Nat) (P : Nat → Nat → Int32) (I : Nat → Int32) (F : Nat → Nat → Int32) {ll : Nat} (h22 : I 22 = nI ll) (hl : ll ≤ 400) (i : Int32) : Ct l D g y_M_logAt b_M_logAt 2 (some .int) 0 [.ref (a 0), .int i] (MW a g P I F) (fun r w => r = some (.int (if 0 ≤ i.toInt ∧ i.toInt < ll then F 2 i.toNatClampNeg else -9)) ∧ w = MW a g P I F) := by
  refine Ct.of (lv := [(0, _), (1, _)]) (by decide) rfl (Nat.le_of_ble_eq_true rfl) rfl ?_
  intro G K
  have J21 : (¬ (0 ≤ i.toInt ∧ i.toInt < ll)) → G 21 [(0, .ref (a 0)), (1, .int i)] [] (MW a g P I F) := by
    intro  hN
    refine g_bipush K (v := -9) d_M_logAt_21 (by decide) ?_
    refine g_iret K d_M_logAt_23 (?_)
    first | exact ⟨by rw [if_neg hN], rfl⟩ | exact ⟨by rw [if_pos ⟨e1, e9⟩], rfl⟩
  refine g_iload_n K 1 d_M_logAt_0 rfl ?_
  refine g_if_lt K (tgt := 21) d_M_logAt_1 (by decide) (fun c1 => ?_) (fun c1 => ?_)
  · refine g_lv K [0, 1] rfl (J21 (fun z => by rw [i_lt, i_0] at c1; omega))
  · have e1 : 0 ≤ i.toInt := by rw [i_lt, i_0] at c1; omega
    refine g_iload_n K 1 d_M_logAt_4 rfl ?_
    refine g_aload_n K 0 d_M_logAt_5 rfl ?_
    refine gM_get K 22 fl_M_93 (by decide) rfl d_M_logAt_6 ?_
    refine g_icmp_ge K (tgt := 21) d_M_logAt_9 (by decide) (fun c9 => ?_) (fun c9 => ?_)
    · refine g_lv K [0, 1] rfl (J21 (fun z => by rw [h22, i_le, nI_toInt (by omega)] at c9; omega))
    · have e9 : i.toInt < ll := by rw [h22, i_le, nI_toInt (by omega)] at c9; omega
      have e10 := nat_i e1
      refine g_aload_n K 0 d_M_logAt_12 rfl ?_
      refine gM_get K 21 fl_M_36 (by decide) rfl d_M_logAt_13 ?_
      refine g_iload_n K 1 d_M_logAt_16 rfl ?_
      refine g_iald K 8 (i.toNatClampNeg) rfl (nI_nat e1) (by omega) d_M_logAt_17 ?_
      refine g_goto K (tgt := 23) d_M_logAt_18 (by decide) ?_
      refine g_iret K d_M_logAt_23 (?_)
      first | exact ⟨by rw [if_neg hN], rfl⟩ | exact ⟨by rw [if_pos ⟨e1, e9⟩], rfl⟩
theorem d_M_anew_0 : decode b_M_anew 0 = .ok (.aload_n 0, 1) := by decide +kernel
theorem d_M_anew_1 : decode b_M_anew 1 = .ok (.iconst 2, 1) := by decide +kernel
theorem d_M_anew_2 : decode b_M_anew 2 = .ok (.putfield 39, 3) := by decide +kernel
theorem d_M_anew_5 : decode b_M_anew 5 = .ok (.aload_n 0, 1) := by decide +kernel
theorem d_M_anew_6 : decode b_M_anew 6 = .ok (.iconst 0, 1) := by decide +kernel
theorem d_M_anew_7 : decode b_M_anew 7 = .ok (.putfield 145, 3) := by decide +kernel
theorem d_M_anew_10 : decode b_M_anew 10 = .ok (.return_, 1) := by decide +kernel
set_option maxHeartbeats 4000000 in
set_option maxRecDepth 100000 in
theorem c_M_anew (l : Launch) (D : va_G) (g : Nat → ClassId) (a : Nat → Nat) (P : Nat → Nat → Int32) (I : Nat → Int32) (F : Nat → Nat → Int32) : Ct l D g y_M_anew b_M_anew 1 none 0 [.ref (a 0)] (MW a g P I F) (fun r w => r = none ∧ w = MW a g P (upd (upd I 23 2) 24 (bZ false)) F) := by
  refine Ct.of (lv := [(0, _)]) (by decide) rfl (Nat.le_of_ble_eq_true rfl) rfl ?_
  intro G K
  refine g_aload_n K 0 d_M_anew_0 rfl ?_
  refine g_iconst K (v := 2) d_M_anew_1 (by decide) ?_
  refine gM_put_answer K fl_M_39 d_M_anew_2 ?_
  refine g_aload_n K 0 d_M_anew_5 rfl ?_
  refine g_iconst K (v := 0) d_M_anew_6 (by decide) ?_
  refine gM_put_looked K false rfl fl_M_145 d_M_anew_7 ?_
  refine g_vret K d_M_anew_10 (⟨rfl, rfl⟩)
theorem d_M_poke_0 : decode b_M_poke 0 = .ok (.aload_n 0, 1) := by decide +kernel
theorem d_M_poke_1 : decode b_M_poke 1 = .ok (.getfield 116, 3) := by decide +kernel
theorem d_M_poke_4 : decode b_M_poke 4 = .ok (.ifCond .eq 22, 3) := by decide +kernel
theorem d_M_poke_7 : decode b_M_poke 7 = .ok (.iload_n 1, 1) := by decide +kernel
theorem d_M_poke_8 : decode b_M_poke 8 = .ok (.iconst 0, 1) := by decide +kernel
theorem d_M_poke_9 : decode b_M_poke 9 = .ok (.aload_n 0, 1) := by decide +kernel
theorem d_M_poke_10 : decode b_M_poke 10 = .ok (.getfield 93, 3) := by decide +kernel
theorem d_M_poke_13 : decode b_M_poke 13 = .ok (.invokestatic 58, 3) := by decide +kernel
theorem d_M_poke_16 : decode b_M_poke 16 = .ok (.ifCond .eq 10, 3) := by decide +kernel
theorem d_M_poke_19 : decode b_M_poke 19 = .ok (.iload_n 1, 1) := by decide +kernel
theorem d_M_poke_20 : decode b_M_poke 20 = .ok (.sipush 400, 3) := by decide +kernel
theorem d_M_poke_23 : decode b_M_poke 23 = .ok (.if_icmp .ne 5, 3) := by decide +kernel
theorem d_M_poke_26 : decode b_M_poke 26 = .ok (.iconst (-1), 1) := by decide +kernel
theorem d_M_poke_27 : decode b_M_poke 27 = .ok (.ireturn, 1) := by decide +kernel
theorem d_M_poke_28 : decode b_M_poke 28 = .ok (.aload_n 0, 1) := by decide +kernel
theorem d_M_poke_29 : decode b_M_poke 29 = .ok (.getfield 36, 3) := by decide +kernel
theorem d_M_poke_32 : decode b_M_poke 32 = .ok (.iload_n 1, 1) := by decide +kernel
theorem d_M_poke_33 : decode b_M_poke 33 = .ok (.iload_n 2, 1) := by decide +kernel
theorem d_M_poke_34 : decode b_M_poke 34 = .ok (.iastore, 1) := by decide +kernel
theorem d_M_poke_35 : decode b_M_poke 35 = .ok (.aload_n 0, 1) := by decide +kernel
theorem d_M_poke_36 : decode b_M_poke 36 = .ok (.iload_n 1, 1) := by decide +kernel
theorem d_M_poke_37 : decode b_M_poke 37 = .ok (.aload_n 0, 1) := by decide +kernel
theorem d_M_poke_38 : decode b_M_poke 38 = .ok (.getfield 93, 3) := by decide +kernel
theorem d_M_poke_41 : decode b_M_poke 41 = .ok (.if_icmp .ne 12, 3) := by decide +kernel
theorem d_M_poke_44 : decode b_M_poke 44 = .ok (.aload_n 0, 1) := by decide +kernel
theorem d_M_poke_45 : decode b_M_poke 45 = .ok (.getfield 93, 3) := by decide +kernel
theorem d_M_poke_48 : decode b_M_poke 48 = .ok (.iconst 1, 1) := by decide +kernel
theorem d_M_poke_49 : decode b_M_poke 49 = .ok (.iadd, 1) := by decide +kernel
theorem d_M_poke_50 : decode b_M_poke 50 = .ok (.goto 7, 3) := by decide +kernel
theorem d_M_poke_53 : decode b_M_poke 53 = .ok (.aload_n 0, 1) := by decide +kernel
theorem d_M_poke_54 : decode b_M_poke 54 = .ok (.getfield 93, 3) := by decide +kernel
theorem d_M_poke_57 : decode b_M_poke 57 = .ok (.putfield 93, 3) := by decide +kernel
theorem d_M_poke_60 : decode b_M_poke 60 = .ok (.aload_n 0, 1) := by decide +kernel
theorem d_M_poke_61 : decode b_M_poke 61 = .ok (.invokevirtual 142, 3) := by decide +kernel
theorem d_M_poke_64 : decode b_M_poke 64 = .ok (.iconst 0, 1) := by decide +kernel
theorem d_M_poke_65 : decode b_M_poke 65 = .ok (.ireturn, 1) := by decide +kernel
set_option maxHeartbeats 4000000 in
set_option maxRecDepth 100000 in
theorem c_M_poke (l : Launch) (D : va_G) (g : Nat → ClassId) (a : Nat → Nat) (P : Nat → Nat → Int32) (I : Nat → Int32) (F : Nat → Nat → Int32) {ll : Nat} (h22 : I 22 = nI ll) (hl : ll ≤ 400) {dn : Bool} (h9 : I 9 = bZ dn) (i w0 : Int32) : Ct l D g y_M_poke b_M_poke 3 (some .int) 1 [.ref (a 0), .int i, .int w0] (MW a g P I F) (fun r w => (okP dn ll i = true ∧ r = some (.int 0) ∧ w = MW a g P (upd (upd (upd I 22 (nI (if i.toInt = ll then ll + 1 else ll))) 23 2) 24 (bZ false)) (va_up F 2 (upd (F 2) i.toNatClampNeg w0))) ∨ (okP dn ll i = false ∧ r = some (.int (-1)) ∧ w = MW a g P I F)) := by
  refine Ct.of (lv := [(0, _), (1, _), (2, _)]) (by decide) rfl (Nat.le_of_ble_eq_true rfl) rfl ?_
  intro G K
  have J57 : (okP dn ll i = true) → G 57 [(0, .ref (a 0)), (1, .int i), (2, .int w0)] [.int (nI (if i.toInt = ll then ll + 1 else ll)), .ref (a 0)] (MW a g P I (va_up F 2 (upd (F 2) i.toNatClampNeg w0))) := by
    intro  hY
    refine gM_put_size K fl_M_93 d_M_poke_57 ?_
    refine g_aload_n K 0 d_M_poke_60 rfl ?_
    refine g_callW (q0 := 0) K (c_M_anew l D g a P _ _) mf_M_anew im_M_anew se_M_anew ml_M_142 (by decide) rfl rfl (Nat.le_of_ble_eq_true rfl) d_M_poke_61 (fun v w1 hq => ?_) rfl
    obtain ⟨rfl, rfl⟩ := hq
    refine g_rv ?_
    refine g_iconst K (v := 0) d_M_poke_64 (by decide) ?_
    refine g_iret K d_M_poke_65 (Or.inl ⟨hY, rfl, rfl⟩)
  have J26 : (okP dn ll i = false) → G 26 [(0, .ref (a 0)), (1, .int i), (2, .int w0)] [] (MW a g P I F) := by
    intro  hN
    refine g_iconst K (v := -1) d_M_poke_26 (by decide) ?_
    refine g_iret K d_M_poke_27 (Or.inr ⟨hN, rfl, rfl⟩)
  refine g_aload_n K 0 d_M_poke_0 rfl ?_
  refine gM_get K 9 fl_M_116 (by decide) rfl d_M_poke_1 ?_
  refine g_if_eq K (tgt := 26) d_M_poke_4 (by decide) (fun c4 => ?_) (fun c4 => ?_)
  · refine g_lv K [0, 1, 2] rfl (J26 (by unfold okP; rw [bZ_f (h9.symm.trans c4)]; rfl))
  · have e1 : dn = true := bZ_t (fun z => c4 (h9.trans z))
    refine g_iload_n K 1 d_M_poke_7 rfl ?_
    refine g_iconst K (v := 0) d_M_poke_8 (by decide) ?_
    refine g_aload_n K 0 d_M_poke_9 rfl ?_
    refine gM_get K 22 fl_M_93 (by decide) rfl d_M_poke_10 ?_
    refine g_callS K (c_M_isIn l D g i 0 (I 22)) mf_M_isIn is_M_isIn ml_M_58 (by decide) (Nat.le_of_ble_eq_true rfl) d_M_poke_13 (fun v hq => ?_) rfl
    obtain ⟨rfl, -⟩ := hq
    refine g_ri ?_
    have hll : (I 22).toInt = ll := by rw [h22, nI_toInt (by omega)]
    refine g_if_eq K (tgt := 26) d_M_poke_16 (by decide) (fun c16 => ?_) (fun c16 => ?_)
    · refine g_lv K [0, 1, 2] rfl (J26 (by unfold okP; rw [decide_eq_false (fun z => (of_decide_eq_false ((in_i 0 (I 22) i_0 hll i).symm.trans (bZ_f c16))) ⟨z.1, z.2.1⟩), Bool.and_false]))
    · have e2 := of_decide_eq_true ((in_i 0 (I 22) i_0 hll i).symm.trans (bZ_t c16))
      refine g_iload_n K 1 d_M_poke_19 rfl ?_
      refine g_sipush K (v := 400) d_M_poke_20 (by decide) ?_
      refine g_icmp_ne K (tgt := 28) d_M_poke_23 (by decide) (fun c23 => ?_) (fun c23 => ?_)
      · have e3 : i.toInt < 400 := by rw [i_ne, k_400] at c23; omega
        have e4 := nat_i e2.1
        have hY : okP dn ll i = true := by unfold okP; rw [e1, decide_eq_true ⟨e2.1, e2.2, e3⟩]; rfl
        refine g_aload_n K 0 d_M_poke_28 rfl ?_
        refine gM_get K 21 fl_M_36 (by decide) rfl d_M_poke_29 ?_
        refine g_iload_n K 1 d_M_poke_32 rfl ?_
        refine g_iload_n K 2 d_M_poke_33 rfl ?_
        refine gM_ast_log K (i.toNatClampNeg) (nI_nat e2.1) (by omega) d_M_poke_34 ?_
        refine g_aload_n K 0 d_M_poke_35 rfl ?_
        refine g_iload_n K 1 d_M_poke_36 rfl ?_
        refine g_aload_n K 0 d_M_poke_37 rfl ?_
        refine gM_get K 22 fl_M_93 (by decide) rfl d_M_poke_38 ?_
        refine g_icmp_ne K (tgt := 53) d_M_poke_41 (by decide) (fun c41 => ?_) (fun c41 => ?_)
        · refine g_aload_n K 0 d_M_poke_53 rfl ?_
          refine gM_get K 22 fl_M_93 (by decide) rfl d_M_poke_54 ?_
          refine g_top K (show _ = nI (if i.toInt = ll then ll + 1 else ll) by rw [if_neg (fun z => c41 (by rw [i_ne]; exact z.trans hll.symm))]; exact h22) ?_
          refine g_lv K [0, 1, 2] rfl (J57 hY)
        · refine g_aload_n K 0 d_M_poke_44 rfl ?_
          refine gM_get K 22 fl_M_93 (by decide) rfl d_M_poke_45 ?_
          refine g_iconst K (v := 1) d_M_poke_48 (by decide) ?_
          refine g_iadd K d_M_poke_49 ?_
          refine g_goto K (tgt := 57) d_M_poke_50 (by decide) ?_
          refine g_top K (show _ = nI (if i.toInt = ll then ll + 1 else ll) by rw [if_pos (by rw [show i = I 22 from c41, hll])]; exact (congrArg (· + 1) h22).trans (nI_1 ll)) ?_
          refine g_lv K [0, 1, 2] rfl (J57 hY)
      · have e3 : ¬ i.toInt < 400 := by rw [i_ne, k_400] at c23; omega
        refine g_lv K [0, 1, 2] rfl (J26 (by unfold okP; rw [decide_eq_false (fun z => e3 z.2.2), Bool.and_false]))
theorem d_M_cut_0 : decode b_M_cut 0 = .ok (.aload_n 0, 1) := by decide +kernel
theorem d_M_cut_1 : decode b_M_cut 1 = .ok (.getfield 116, 3) := by decide +kernel
theorem d_M_cut_4 : decode b_M_cut 4 = .ok (.ifCond .eq 15, 3) := by decide +kernel
theorem d_M_cut_7 : decode b_M_cut 7 = .ok (.iload_n 1, 1) := by decide +kernel
theorem d_M_cut_8 : decode b_M_cut 8 = .ok (.iconst 0, 1) := by decide +kernel
theorem d_M_cut_9 : decode b_M_cut 9 = .ok (.aload_n 0, 1) := by decide +kernel
theorem d_M_cut_10 : decode b_M_cut 10 = .ok (.getfield 93, 3) := by decide +kernel
theorem d_M_cut_13 : decode b_M_cut 13 = .ok (.invokestatic 58, 3) := by decide +kernel
theorem d_M_cut_16 : decode b_M_cut 16 = .ok (.ifCond .ne 5, 3) := by decide +kernel
theorem d_M_cut_19 : decode b_M_cut 19 = .ok (.iconst (-1), 1) := by decide +kernel
theorem d_M_cut_20 : decode b_M_cut 20 = .ok (.ireturn, 1) := by decide +kernel
theorem d_M_cut_21 : decode b_M_cut 21 = .ok (.aload_n 0, 1) := by decide +kernel
theorem d_M_cut_22 : decode b_M_cut 22 = .ok (.iload_n 1, 1) := by decide +kernel
theorem d_M_cut_23 : decode b_M_cut 23 = .ok (.putfield 93, 3) := by decide +kernel
theorem d_M_cut_26 : decode b_M_cut 26 = .ok (.aload_n 0, 1) := by decide +kernel
theorem d_M_cut_27 : decode b_M_cut 27 = .ok (.invokevirtual 142, 3) := by decide +kernel
theorem d_M_cut_30 : decode b_M_cut 30 = .ok (.iconst 0, 1) := by decide +kernel
theorem d_M_cut_31 : decode b_M_cut 31 = .ok (.ireturn, 1) := by decide +kernel
set_option maxHeartbeats 4000000 in
set_option maxRecDepth 100000 in
theorem c_M_cut (l : Launch) (D : va_G) (g : Nat → ClassId) (a : Nat → Nat) (P : Nat → Nat → Int32) (I : Nat → Int32) (F : Nat → Nat → Int32) {ll : Nat} (h22 : I 22 = nI ll) (hl : ll ≤ 400) {dn : Bool} (h9 : I 9 = bZ dn) (i : Int32) : Ct l D g y_M_cut b_M_cut 2 (some .int) 1 [.ref (a 0), .int i] (MW a g P I F) (fun r w => (okK dn ll i = true ∧ r = some (.int 0) ∧ w = MW a g P (upd (upd (upd I 22 i) 23 2) 24 (bZ false)) F) ∨ (okK dn ll i = false ∧ r = some (.int (-1)) ∧ w = MW a g P I F)) := by
  refine Ct.of (lv := [(0, _), (1, _)]) (by decide) rfl (Nat.le_of_ble_eq_true rfl) rfl ?_
  intro G K
  have J19 : (okK dn ll i = false) → G 19 [(0, .ref (a 0)), (1, .int i)] [] (MW a g P I F) := by
    intro  hN
    refine g_iconst K (v := -1) d_M_cut_19 (by decide) ?_
    refine g_iret K d_M_cut_20 (Or.inr ⟨hN, rfl, rfl⟩)
  refine g_aload_n K 0 d_M_cut_0 rfl ?_
  refine gM_get K 9 fl_M_116 (by decide) rfl d_M_cut_1 ?_
  refine g_if_eq K (tgt := 19) d_M_cut_4 (by decide) (fun c4 => ?_) (fun c4 => ?_)
  · refine g_lv K [0, 1] rfl (J19 (by unfold okK; rw [bZ_f (h9.symm.trans c4)]; rfl))
  · have e1 : dn = true := bZ_t (fun z => c4 (h9.trans z))
    refine g_iload_n K 1 d_M_cut_7 rfl ?_
    refine g_iconst K (v := 0) d_M_cut_8 (by decide) ?_
    refine g_aload_n K 0 d_M_cut_9 rfl ?_
    refine gM_get K 22 fl_M_93 (by decide) rfl d_M_cut_10 ?_
    refine g_callS K (c_M_isIn l D g i 0 (I 22)) mf_M_isIn is_M_isIn ml_M_58 (by decide) (Nat.le_of_ble_eq_true rfl) d_M_cut_13 (fun v hq => ?_) rfl
    obtain ⟨rfl, -⟩ := hq
    refine g_ri ?_
    have hll : (I 22).toInt = ll := by rw [h22, nI_toInt (by omega)]
    refine g_if_ne K (tgt := 21) d_M_cut_16 (by decide) (fun c16 => ?_) (fun c16 => ?_)
    · have e2 := of_decide_eq_true ((in_i 0 (I 22) i_0 hll i).symm.trans (bZ_t c16))
      have hY : okK dn ll i = true := by unfold okK; rw [e1, decide_eq_true e2]; rfl
      refine g_aload_n K 0 d_M_cut_21 rfl ?_
      refine g_iload_n K 1 d_M_cut_22 rfl ?_
      refine gM_put_size K fl_M_93 d_M_cut_23 ?_
      refine g_aload_n K 0 d_M_cut_26 rfl ?_
      refine g_callW (q0 := 0) K (c_M_anew l D g a P _ _) mf_M_anew im_M_anew se_M_anew ml_M_142 (by decide) rfl rfl (Nat.le_of_ble_eq_true rfl) d_M_cut_27 (fun v w1 hq => ?_) rfl
      obtain ⟨rfl, rfl⟩ := hq
      refine g_rv ?_
      refine g_iconst K (v := 0) d_M_cut_30 (by decide) ?_
      refine g_iret K d_M_cut_31 (Or.inl ⟨hY, rfl, rfl⟩)
    · refine g_lv K [0, 1] rfl (J19 (by unfold okK; rw [(in_i 0 (I 22) i_0 hll i).symm.trans (bZ_f c16), Bool.and_false]))
theorem d_M_goBack_0 : decode b_M_goBack 0 = .ok (.aload_n 0, 1) := by decide +kernel
theorem d_M_goBack_1 : decode b_M_goBack 1 = .ok (.iconst 0, 1) := by decide +kernel
theorem d_M_goBack_2 : decode b_M_goBack 2 = .ok (.invokevirtual 106, 3) := by decide +kernel
theorem d_M_goBack_5 : decode b_M_goBack 5 = .ok (.ifCond .ne 4, 3) := by decide +kernel
theorem d_M_goBack_8 : decode b_M_goBack 8 = .ok (.return_, 1) := by decide +kernel
theorem d_M_goBack_9 : decode b_M_goBack 9 = .ok (.aload_n 0, 1) := by decide +kernel
theorem d_M_goBack_10 : decode b_M_goBack 10 = .ok (.getfield 103, 3) := by decide +kernel
theorem d_M_goBack_13 : decode b_M_goBack 13 = .ok (.ifCond .le 96, 3) := by decide +kernel
theorem d_M_goBack_16 : decode b_M_goBack 16 = .ok (.aload_n 0, 1) := by decide +kernel
theorem d_M_goBack_17 : decode b_M_goBack 17 = .ok (.dup, 1) := by decide +kernel
theorem d_M_goBack_18 : decode b_M_goBack 18 = .ok (.getfield 103, 3) := by decide +kernel
theorem d_M_goBack_21 : decode b_M_goBack 21 = .ok (.iconst 1, 1) := by decide +kernel
theorem d_M_goBack_22 : decode b_M_goBack 22 = .ok (.isub, 1) := by decide +kernel
theorem d_M_goBack_23 : decode b_M_goBack 23 = .ok (.putfield 103, 3) := by decide +kernel
theorem d_M_goBack_26 : decode b_M_goBack 26 = .ok (.aload_n 0, 1) := by decide +kernel
theorem d_M_goBack_27 : decode b_M_goBack 27 = .ok (.getfield 25, 3) := by decide +kernel
theorem d_M_goBack_30 : decode b_M_goBack 30 = .ok (.aload_n 0, 1) := by decide +kernel
theorem d_M_goBack_31 : decode b_M_goBack 31 = .ok (.getfield 103, 3) := by decide +kernel
theorem d_M_goBack_34 : decode b_M_goBack 34 = .ok (.iaload, 1) := by decide +kernel
theorem d_M_goBack_35 : decode b_M_goBack 35 = .ok (.istore_n 1, 1) := by decide +kernel
theorem d_M_goBack_36 : decode b_M_goBack 36 = .ok (.aload_n 0, 1) := by decide +kernel
theorem d_M_goBack_37 : decode b_M_goBack 37 = .ok (.getfield 28, 3) := by decide +kernel
theorem d_M_goBack_40 : decode b_M_goBack 40 = .ok (.aload_n 0, 1) := by decide +kernel
theorem d_M_goBack_41 : decode b_M_goBack 41 = .ok (.getfield 103, 3) := by decide +kernel
theorem d_M_goBack_44 : decode b_M_goBack 44 = .ok (.baload, 1) := by decide +kernel
theorem d_M_goBack_45 : decode b_M_goBack 45 = .ok (.ifCond .eq 15, 3) := by decide +kernel
theorem d_M_goBack_48 : decode b_M_goBack 48 = .ok (.aload_n 0, 1) := by decide +kernel
theorem d_M_goBack_49 : decode b_M_goBack 49 = .ok (.iload_n 1, 1) := by decide +kernel
theorem d_M_goBack_50 : decode b_M_goBack 50 = .ok (.invokevirtual 79, 3) := by decide +kernel
theorem d_M_goBack_53 : decode b_M_goBack 53 = .ok (.ifCond .ne 7, 3) := by decide +kernel
theorem d_M_goBack_56 : decode b_M_goBack 56 = .ok (.iconst 1, 1) := by decide +kernel
theorem d_M_goBack_57 : decode b_M_goBack 57 = .ok (.goto 4, 3) := by decide +kernel
theorem d_M_goBack_60 : decode b_M_goBack 60 = .ok (.iconst 0, 1) := by decide +kernel
theorem d_M_goBack_61 : decode b_M_goBack 61 = .ok (.istore_n 2, 1) := by decide +kernel
theorem d_M_goBack_62 : decode b_M_goBack 62 = .ok (.aload_n 0, 1) := by decide +kernel
theorem d_M_goBack_63 : decode b_M_goBack 63 = .ok (.aload_n 0, 1) := by decide +kernel
theorem d_M_goBack_64 : decode b_M_goBack 64 = .ok (.getfield 69, 3) := by decide +kernel
theorem d_M_goBack_67 : decode b_M_goBack 67 = .ok (.iconst 1, 1) := by decide +kernel
theorem d_M_goBack_68 : decode b_M_goBack 68 = .ok (.iload_n 1, 1) := by decide +kernel
theorem d_M_goBack_69 : decode b_M_goBack 69 = .ok (.iconst 1, 1) := by decide +kernel
theorem d_M_goBack_70 : decode b_M_goBack 70 = .ok (.isub, 1) := by decide +kernel
theorem d_M_goBack_71 : decode b_M_goBack 71 = .ok (.ishl, 1) := by decide +kernel
theorem d_M_goBack_72 : decode b_M_goBack 72 = .ok (.iconst (-1), 1) := by decide +kernel
theorem d_M_goBack_73 : decode b_M_goBack 73 = .ok (.ixor, 1) := by decide +kernel
theorem d_M_goBack_74 : decode b_M_goBack 74 = .ok (.iand, 1) := by decide +kernel
theorem d_M_goBack_75 : decode b_M_goBack 75 = .ok (.putfield 69, 3) := by decide +kernel
theorem d_M_goBack_78 : decode b_M_goBack 78 = .ok (.aload_n 0, 1) := by decide +kernel
theorem d_M_goBack_79 : decode b_M_goBack 79 = .ok (.aload_n 0, 1) := by decide +kernel
theorem d_M_goBack_80 : decode b_M_goBack 80 = .ok (.getfield 72, 3) := by decide +kernel
theorem d_M_goBack_83 : decode b_M_goBack 83 = .ok (.iconst 1, 1) := by decide +kernel
theorem d_M_goBack_84 : decode b_M_goBack 84 = .ok (.iload_n 1, 1) := by decide +kernel
theorem d_M_goBack_85 : decode b_M_goBack 85 = .ok (.iconst 1, 1) := by decide +kernel
theorem d_M_goBack_86 : decode b_M_goBack 86 = .ok (.isub, 1) := by decide +kernel
theorem d_M_goBack_87 : decode b_M_goBack 87 = .ok (.ishl, 1) := by decide +kernel
theorem d_M_goBack_88 : decode b_M_goBack 88 = .ok (.iconst (-1), 1) := by decide +kernel
theorem d_M_goBack_89 : decode b_M_goBack 89 = .ok (.ixor, 1) := by decide +kernel
theorem d_M_goBack_90 : decode b_M_goBack 90 = .ok (.iand, 1) := by decide +kernel
theorem d_M_goBack_91 : decode b_M_goBack 91 = .ok (.putfield 72, 3) := by decide +kernel
theorem d_M_goBack_94 : decode b_M_goBack 94 = .ok (.iload_n 2, 1) := by decide +kernel
theorem d_M_goBack_95 : decode b_M_goBack 95 = .ok (.ifCond .eq 11, 3) := by decide +kernel
theorem d_M_goBack_98 : decode b_M_goBack 98 = .ok (.aload_n 0, 1) := by decide +kernel
theorem d_M_goBack_99 : decode b_M_goBack 99 = .ok (.iload_n 1, 1) := by decide +kernel
theorem d_M_goBack_100 : decode b_M_goBack 100 = .ok (.iconst 1, 1) := by decide +kernel
theorem d_M_goBack_101 : decode b_M_goBack 101 = .ok (.iconst 1, 1) := by decide +kernel
theorem d_M_goBack_102 : decode b_M_goBack 102 = .ok (.invokevirtual 109, 3) := by decide +kernel
theorem d_M_goBack_105 : decode b_M_goBack 105 = .ok (.return_, 1) := by decide +kernel
theorem d_M_goBack_106 : decode b_M_goBack 106 = .ok (.goto (-97), 3) := by decide +kernel
theorem d_M_goBack_109 : decode b_M_goBack 109 = .ok (.aload_n 0, 1) := by decide +kernel
theorem d_M_goBack_110 : decode b_M_goBack 110 = .ok (.aload_n 0, 1) := by decide +kernel
theorem d_M_goBack_111 : decode b_M_goBack 111 = .ok (.getfield 32, 3) := by decide +kernel
theorem d_M_goBack_114 : decode b_M_goBack 114 = .ok (.invokevirtual 106, 3) := by decide +kernel
theorem d_M_goBack_117 : decode b_M_goBack 117 = .ok (.ifCond .eq 30, 3) := by decide +kernel
theorem d_M_goBack_120 : decode b_M_goBack 120 = .ok (.aload_n 0, 1) := by decide +kernel
theorem d_M_goBack_121 : decode b_M_goBack 121 = .ok (.aload_n 0, 1) := by decide +kernel
theorem d_M_goBack_122 : decode b_M_goBack 122 = .ok (.getfield 32, 3) := by decide +kernel
theorem d_M_goBack_125 : decode b_M_goBack 125 = .ok (.ifCond .ge 7, 3) := by decide +kernel
theorem d_M_goBack_128 : decode b_M_goBack 128 = .ok (.iconst 0, 1) := by decide +kernel
theorem d_M_goBack_129 : decode b_M_goBack 129 = .ok (.goto 7, 3) := by decide +kernel
theorem d_M_goBack_132 : decode b_M_goBack 132 = .ok (.aload_n 0, 1) := by decide +kernel
theorem d_M_goBack_133 : decode b_M_goBack 133 = .ok (.getfield 113, 3) := by decide +kernel
theorem d_M_goBack_136 : decode b_M_goBack 136 = .ok (.invokevirtual 106, 3) := by decide +kernel
theorem d_M_goBack_139 : decode b_M_goBack 139 = .ok (.ifCond .eq 8, 3) := by decide +kernel
theorem d_M_goBack_142 : decode b_M_goBack 142 = .ok (.aload_n 0, 1) := by decide +kernel
theorem d_M_goBack_143 : decode b_M_goBack 143 = .ok (.iconst 1, 1) := by decide +kernel
theorem d_M_goBack_144 : decode b_M_goBack 144 = .ok (.putfield 116, 3) := by decide +kernel
theorem d_M_goBack_147 : decode b_M_goBack 147 = .ok (.return_, 1) := by decide +kernel
set_option maxHeartbeats 4000000 in
set_option maxRecDepth 100000 in
theorem c_M_goBack (l : Launch) (D : va_G) (g : Nat → ClassId) (a : Nat → Nat) (P : Nat → Nat → Int32) (I : Nat → Int32) (F : Nat → Nat → Int32) {vl tr tc : Nat → Int32} {len : Nat} {best bb : Int32} {log : Nat → Int32} {ll : Nat} (hS : SM (vl, tr, tc, len, best, bb, log, ll, false, false) (I 11) (I 12) I F) (hI : SI (vl, tr, tc, len, best, bb, log, ll, false, false)) : Ct l D g y_M_goBack b_M_goBack 3 none 2 [.ref (a 0)] (MW a g P I F) (fun r w => r = none ∧ ∃ I2 F2, w = MW a g P I2 F2 ∧ SM (gbA vl tr tc len best bb log ll) (I2 11) (I2 12) I2 F2 ∧ FrI [9, 10, 11, 12, 15, 22] I I2 ∧ FrF [0, 1, 2] F F2) := by
  refine Ct.of (lv := [(0, _)]) (by decide) rfl (Nat.le_of_ble_eq_true rfl) rfl ?_
  intro G K
  obtain ⟨g22, g18, g19, g9, g10, gF2, gR⟩ := id hS
  obtain ⟨gb, g15, gF0, gF1, gT, gtc⟩ := gR rfl rfl
  obtain ⟨gB, gL⟩ := id hI
  dsimp only at g22 g18 g19 g9 g10 gF2 gb g15 gF0 gF1 gT gtc gB gL
  have J109 : ∀ (I1 : Nat → Int32) (F1 : Nat → Nat → Int32), (ll < 400) → (ft vl tr tc len = none) → (F1 2 = upd log ll 0) → (FrF [0, 1, 2] F F1) → (FrI [9, 10, 11, 12, 15, 22] I I1) → (I1 22 = nI (ll + 1)) → (I1 9 = bZ false) → (I1 10 = bZ false) → G 109 [(0, .ref (a 0))] [] (MW a g P I1 F1) := by
    intro I1 F1 hll hft hF2 hFr hIr h22 h9 h10
    have h18 : I1 18 = best := (hIr 18 (by decide)).trans g18
    have h19 : I1 19 = bb := (hIr 19 (by decide)).trans g19
    have J136 : (ll + 1 < 400) → G 136 [(0, .ref (a 0))] [.int bb, .ref (a 0)] (MW a g P (upd I1 22 (nI (ll + 1 + 1))) (va_up F1 2 (upd (F1 2) (ll + 1) best))) := by
      intro  hl1
      refine g_callW (q0 := 0) K (c_M_write l D g a P _ _ (ll := ll + 1 + 1) rfl (by omega) bb) mf_M_write im_M_write se_M_write ml_M_106 (by decide) rfl rfl (Nat.le_of_ble_eq_true rfl) d_M_goBack_136 (fun v w1 hq => ?_) rfl
      obtain ⟨b, rfl, hq⟩ := hq
      refine g_ri ?_
      refine g_if_eq K (tgt := 147) d_M_goBack_139 (by decide) (fun c139 => ?_) (fun c139 => ?_)
      · rcases hq with ⟨-, hl2, rfl⟩ | ⟨z, -⟩
        rotate_left
        · exact absurd (z.symm.trans (bZ_f c139)) (by decide)
        refine g_vret K d_M_goBack_147 (?_)
        first
        | exact ⟨rfl, _, _, rfl, by rw [gbA_1 hll hft (by omega)]; exact ⟨h22, h18, h19, h9, rfl, hF2, fun _ e => by cases e⟩, hIr.u (by decide), hFr⟩
        | exact ⟨rfl, _, _, rfl, by rw [gbA_2 hll hft (by omega)]; exact ⟨rfl, h18, h19, h9, rfl, by show upd (F1 2) (ll + 1) best = _; rw [hF2], fun _ e => by cases e⟩, (hIr.u (by decide)).u (by decide), hFr.u (by decide)⟩
        | exact ⟨rfl, _, _, rfl, by rw [gbA_3 (by omega) hft]; exact ⟨rfl, h18, h19, rfl, h10, by show upd (upd (F1 2) (ll + 1) best) (ll + 1 + 1) bb = _; rw [hF2], fun e => by cases e⟩, ((hIr.u (by decide)).u (by decide)).u (by decide), (hFr.u (by decide)).u (by decide)⟩
      · rcases hq with ⟨z, -⟩ | ⟨-, hl2, rfl⟩
        · exact absurd (z.symm.trans (bZ_t c139)) (by decide)
        refine g_aload_n K 0 d_M_goBack_142 rfl ?_
        refine g_iconst K (v := 1) d_M_goBack_143 (by decide) ?_
        refine gM_put_done K true rfl fl_M_116 d_M_goBack_144 ?_
        refine g_vret K d_M_goBack_147 (?_)
        first
        | exact ⟨rfl, _, _, rfl, by rw [gbA_1 hll hft (by omega)]; exact ⟨h22, h18, h19, h9, rfl, hF2, fun _ e => by cases e⟩, hIr.u (by decide), hFr⟩
        | exact ⟨rfl, _, _, rfl, by rw [gbA_2 hll hft (by omega)]; exact ⟨rfl, h18, h19, h9, rfl, by show upd (F1 2) (ll + 1) best = _; rw [hF2], fun _ e => by cases e⟩, (hIr.u (by decide)).u (by decide), hFr.u (by decide)⟩
        | exact ⟨rfl, _, _, rfl, by rw [gbA_3 (by omega) hft]; exact ⟨rfl, h18, h19, rfl, h10, by show upd (upd (F1 2) (ll + 1) best) (ll + 1 + 1) bb = _; rw [hF2], fun e => by cases e⟩, ((hIr.u (by decide)).u (by decide)).u (by decide), (hFr.u (by decide)).u (by decide)⟩
    refine g_aload_n K 0 d_M_goBack_109 rfl ?_
    refine g_aload_n K 0 d_M_goBack_110 rfl ?_
    refine gM_get K 18 fl_M_32 (by decide) rfl d_M_goBack_111 ?_
    refine g_top K h18 ?_
    refine g_callW (q0 := 0) K (c_M_write l D g a P I1 F1 h22 (by omega) best) mf_M_write im_M_write se_M_write ml_M_106 (by decide) rfl rfl (Nat.le_of_ble_eq_true rfl) d_M_goBack_114 (fun v w1 hq => ?_) rfl
    obtain ⟨b, rfl, hq⟩ := hq
    refine g_ri ?_
    refine g_if_eq K (tgt := 147) d_M_goBack_117 (by decide) (fun c117 => ?_) (fun c117 => ?_)
    · rcases hq with ⟨-, hl1, rfl⟩ | ⟨z, -⟩
      rotate_left
      · exact absurd (z.symm.trans (bZ_f c117)) (by decide)
      refine g_vret K d_M_goBack_147 (?_)
      first
      | exact ⟨rfl, _, _, rfl, by rw [gbA_1 hll hft (by omega)]; exact ⟨h22, h18, h19, h9, rfl, hF2, fun _ e => by cases e⟩, hIr.u (by decide), hFr⟩
      | exact ⟨rfl, _, _, rfl, by rw [gbA_2 hll hft (by omega)]; exact ⟨rfl, h18, h19, h9, rfl, by show upd (F1 2) (ll + 1) best = _; rw [hF2], fun _ e => by cases e⟩, (hIr.u (by decide)).u (by decide), hFr.u (by decide)⟩
      | exact ⟨rfl, _, _, rfl, by rw [gbA_3 (by omega) hft]; exact ⟨rfl, h18, h19, rfl, h10, by show upd (upd (F1 2) (ll + 1) best) (ll + 1 + 1) bb = _; rw [hF2], fun e => by cases e⟩, ((hIr.u (by decide)).u (by decide)).u (by decide), (hFr.u (by decide)).u (by decide)⟩
    · rcases hq with ⟨z, -⟩ | ⟨-, hl1, rfl⟩
      · exact absurd (z.symm.trans (bZ_t c117)) (by decide)
      refine g_aload_n K 0 d_M_goBack_120 rfl ?_
      refine g_aload_n K 0 d_M_goBack_121 rfl ?_
      refine gM_get K 18 fl_M_32 (by decide) rfl d_M_goBack_122 ?_
      refine g_if_ge K (tgt := 132) d_M_goBack_125 (by decide) (fun c125 => ?_) (fun c125 => ?_)
      · refine g_aload_n K 0 d_M_goBack_132 rfl ?_
        refine gM_get K 19 fl_M_113 (by decide) rfl d_M_goBack_133 ?_
        refine g_top K h19 ?_
        refine g_lv K [0] rfl (J136 hl1)
      · refine g_iconst K (v := 0) d_M_goBack_128 (by decide) ?_
        refine g_goto K (tgt := 136) d_M_goBack_129 (by decide) ?_
        refine g_top K (show (0 : Int32) = bb from ?_) ?_
        · rcases gB with z | z
          · exact z.2.symm
          · exact absurd (by show 0 ≤ I1 18; rw [h18, i_le, i_0]; exact z.1) c125
        refine g_lv K [0] rfl (J136 hl1)
  have J9 : ∀ (N : Nat) (len1 : Nat) (v1 : Nat → Int32) (I1 : Nat → Int32) (F1 : Nat → Nat → Int32), len1 < N → (ll < 400) → (TI v1 tr len1) → (MB2 (I1 11) (I1 12) v1) → (I1 15 = nI len1) → (ft v1 tr tc len1 = ft vl tr tc len) → (∀ i, i < len1 → un tr i len1 v1 = un tr i len vl) → (F1 0 = tr) → (F1 1 = tc) → (F1 2 = upd log ll 0) → (FrF [0, 1, 2] F F1) → (FrI [9, 10, 11, 12, 15, 22] I I1) → (I1 22 = nI (ll + 1)) → (I1 9 = bZ false) → (I1 10 = bZ false) → G 9 [(0, .ref (a 0))] [] (MW a g P I1 F1) := by
    intro N
    induction N with
    | zero => intro len1 v1 I1 F1 hm; exact absurd hm (Nat.not_lt_zero _)
    | succ N ih9 =>
      intro len1 v1 I1 F1 hm9 hll hT1 hb1 h15 hft hun hF0 hF1 hF2 hFr hIr h22 h9 h10
      have hle := hT1.le
      have J16 : ∀ (m : Nat), (len1 = m + 1) → G 16 [(0, .ref (a 0))] [] (MW a g P I1 F1) := by
        intro m hm
        subst hm
        obtain ⟨v, t1, t2, t3, t4, t5⟩ := hT1.top
        have e3 := tvn_of t3 (by omega)
        have eu : un tr m (m + 1) v1 = upd v1 v (-1) := by rw [un_s (by omega), un_le (Nat.le_refl m), e3]
        have J61 : ∀ (tu : Bool), (tu = decide (tc m = 1 ∧ v1 v = 0)) → G 61 [(0, .ref (a 0)), (1, .int (nI v))] [.int (bZ tu)] (MW a g P (upd I1 15 (nI m)) F1) := by
          intro tu htu
          refine g_istore_n (lv' := [(2, _), (0, _), (1, _)]) K d_M_goBack_61 (by decide) rfl ?_
          refine g_aload_n K 1 d_M_goBack_62 rfl ?_
          refine g_aload_n K 1 d_M_goBack_63 rfl ?_
          refine gM_get K 11 fl_M_69 (by decide) rfl d_M_goBack_64 ?_
          refine g_iconst K (v := 1) d_M_goBack_67 (by decide) ?_
          refine g_iload_n K 2 d_M_goBack_68 rfl ?_
          refine g_iconst K (v := 1) d_M_goBack_69 (by decide) ?_
          refine g_isub K d_M_goBack_70 ?_
          refine g_ishl K d_M_goBack_71 ?_
          refine g_iconst K (v := -1) d_M_goBack_72 (by decide) ?_
          refine g_ixor K d_M_goBack_73 ?_
          refine g_iand K d_M_goBack_74 ?_
          refine gM_put_set K fl_M_69 d_M_goBack_75 ?_
          refine g_aload_n K 1 d_M_goBack_78 rfl ?_
          refine g_aload_n K 1 d_M_goBack_79 rfl ?_
          refine gM_get K 12 fl_M_72 (by decide) rfl d_M_goBack_80 ?_
          refine g_iconst K (v := 1) d_M_goBack_83 (by decide) ?_
          refine g_iload_n K 2 d_M_goBack_84 rfl ?_
          refine g_iconst K (v := 1) d_M_goBack_85 (by decide) ?_
          refine g_isub K d_M_goBack_86 ?_
          refine g_ishl K d_M_goBack_87 ?_
          refine g_iconst K (v := -1) d_M_goBack_88 (by decide) ?_
          refine g_ixor K d_M_goBack_89 ?_
          refine g_iand K d_M_goBack_90 ?_
          refine gM_put_ones K fl_M_72 d_M_goBack_91 ?_
          refine g_iload_n K 0 d_M_goBack_94 rfl ?_
          refine g_if_eq K (tgt := 106) d_M_goBack_95 (by decide) (fun c95 => ?_) (fun c95 => ?_)
          · have e95 := of_decide_eq_false (htu.symm.trans (bZ_f c95))
            refine g_goto K (tgt := 9) d_M_goBack_106 (by decide) ?_
            refine g_lv K [1] rfl (ih9 m (upd v1 v (-1)) _ F1 (by omega) hll t5 (mb_none hb1 t1 (by omega)) rfl ?_ (fun i hi => ?_) hF0 hF1 hF2 hFr (((hIr.u (by decide)).u (by decide)).u (by decide)) h22 h9 h10)
            · rw [← hft]
              rw [show ft v1 tr tc (m + 1) = ft v1 tr tc m from if_neg (by rw [e3]; exact e95)]
              exact ft_congr (fun j hj => by rw [← eu]; exact un_at hT1 j hj (by omega))
            · rw [← hun i (by omega), un_s (by omega), e3]
          · have e95 := of_decide_eq_true (htu.symm.trans (bZ_t c95))
            refine g_aload_n K 1 d_M_goBack_98 rfl ?_
            refine g_iload_n K 2 d_M_goBack_99 rfl ?_
            refine g_iconst K (v := 1) d_M_goBack_100 (by decide) ?_
            refine g_iconst K (v := 1) d_M_goBack_101 (by decide) ?_
            refine g_callW (q0 := 0) K (c_M_lay l D g a P _ F1 (mb_none hb1 t1 (by omega)) t1 t2 true true (len := m) rfl (by omega)) mf_M_lay im_M_lay se_M_lay ml_M_109 (by decide) rfl rfl (Nat.le_of_ble_eq_true rfl) d_M_goBack_102 (fun v w1 hq => ?_) rfl
            obtain ⟨rfl, s3, o3, rfl, hb3⟩ := hq
            refine g_rv ?_
            refine g_vret K d_M_goBack_105 (⟨rfl, _, _, rfl, ?_, ((((((hIr.u (by decide)).u (by decide)).u (by decide)).u (by decide)).u (by decide)).u (by decide)), (hFr.u (by decide)).u (by decide)⟩)
            rw [gbA_s hll (hft.symm.trans (if_pos (by rw [e3]; exact e95)))]
            have hv : upd (un tr m len vl) (tvn tr m) 1 = upd (upd v1 v (-1)) v (bZ true) := by rw [← hun m (by omega), eu, e3]; rfl
            refine ⟨h22, (hIr 18 (by decide)).trans g18, (hIr 19 (by decide)).trans g19, h9, h10, hF2, fun _ _ => ⟨by rw [hv]; exact hb3, rfl, ?_, ?_, ?_, gtc⟩⟩
            · show upd (F1 0) m (nI v) = tr
              rw [hF0, upd_id t3]
            · show upd (F1 1) m (bZ true) = tc
              rw [hF1]; exact upd_id e95.1
            · have h5 := t5.set t1 t2 upd_s (x := 1) (Or.inr rfl)
              rw [upd_id t3] at h5
              show TI (upd (un tr m len vl) (tvn tr m) 1) tr (m + 1)
              rw [hv]
              exact h5
        have J60 : (¬ (tc m = 1 ∧ v1 v = 0)) → G 60 [(0, .ref (a 0)), (1, .int (nI v))] [] (MW a g P (upd I1 15 (nI m)) F1) := by
          intro  htn
          refine g_iconst K (v := 0) d_M_goBack_60 (by decide) ?_
          refine g_lv K [0, 1] rfl (J61 false (decide_eq_false htn).symm)
        refine g_aload_n K 0 d_M_goBack_16 rfl ?_
        refine g_dup K d_M_goBack_17 rfl ?_
        refine gM_get K 15 fl_M_103 (by decide) rfl d_M_goBack_18 ?_
        refine g_iconst K (v := 1) d_M_goBack_21 (by decide) ?_
        refine g_isub K d_M_goBack_22 ?_
        refine g_top K (show _ = nI m from (congrArg (· - 1) h15).trans (nI_pred m)) ?_
        refine gM_put_depth K fl_M_103 d_M_goBack_23 ?_
        refine g_aload_n K 0 d_M_goBack_26 rfl ?_
        refine gM_get K 13 fl_M_25 (by decide) rfl d_M_goBack_27 ?_
        refine g_aload_n K 0 d_M_goBack_30 rfl ?_
        refine gM_get K 15 fl_M_103 (by decide) rfl d_M_goBack_31 ?_
        refine g_iald K 6 (m) rfl rfl (by omega) d_M_goBack_34 ?_
        refine g_top K (show F1 0 m = nI v by rw [hF0]; exact t3) ?_
        refine g_istore_n (lv' := [(1, _), (0, _)]) K d_M_goBack_35 (by decide) rfl ?_
        refine g_aload_n K 1 d_M_goBack_36 rfl ?_
        refine gM_get K 14 fl_M_28 (by decide) rfl d_M_goBack_37 ?_
        refine g_aload_n K 1 d_M_goBack_40 rfl ?_
        refine gM_get K 15 fl_M_103 (by decide) rfl d_M_goBack_41 ?_
        refine g_zald K 7 (m) rfl rfl (by omega) d_M_goBack_44 ?_
        refine g_top K (show F1 1 m = tc m by rw [hF1]) ?_
        refine g_if_eq K (tgt := 60) d_M_goBack_45 (by decide) (fun c45 => ?_) (fun c45 => ?_)
        · refine g_lv K [1, 0] rfl (J60 (fun z => absurd (c45.symm.trans z.1) (by decide)))
        · have h45 : tc m = 1 := (gtc m).resolve_left c45
          refine g_aload_n K 1 d_M_goBack_48 rfl ?_
          refine g_iload_n K 0 d_M_goBack_49 rfl ?_
          refine g_callW (q0 := 0) K (c_M_isOne l D g a P (upd I1 15 (nI m)) F1 hb1 t1 t2) mf_M_isOne im_M_isOne se_M_isOne ml_M_79 (by decide) rfl rfl (Nat.le_of_ble_eq_true rfl) d_M_goBack_50 (fun v w1 hq => ?_) rfl
          obtain ⟨rfl, rfl⟩ := hq
          refine g_ri ?_
          refine g_if_ne K (tgt := 60) d_M_goBack_53 (by decide) (fun c53 => ?_) (fun c53 => ?_)
          · have h53 := of_decide_eq_true (bZ_t c53)
            refine g_lv K [1, 0] rfl (J60 (fun z => absurd (h53.symm.trans z.2) (by decide)))
          · have h53 : v1 v = 0 := t4.resolve_right (of_decide_eq_false (bZ_f c53))
            refine g_iconst K (v := 1) d_M_goBack_56 (by decide) ?_
            refine g_goto K (tgt := 61) d_M_goBack_57 (by decide) ?_
            refine g_lv K [1, 0] rfl (J61 true (decide_eq_true ⟨h45, h53⟩).symm)
      refine g_aload_n K 0 d_M_goBack_9 rfl ?_
      refine gM_get K 15 fl_M_103 (by decide) rfl d_M_goBack_10 ?_
      refine g_if_le K (tgt := 109) d_M_goBack_13 (by decide) (fun c13 => ?_) (fun c13 => ?_)
      · have hz : len1 = 0 := by rw [h15, i_le, i_0, nI_toInt (by omega)] at c13; omega
        refine g_lv K [0] rfl (J109 I1 F1 hll (by rw [← hft, hz]; rfl) hF2 hFr hIr h22 h9 h10)
      · have hz : len1 = (len1 - 1) + 1 := by rw [h15, i_le, i_0, nI_toInt (by omega)] at c13; omega
        refine g_lv K [0] rfl (J16 (len1 - 1) hz)
  refine g_aload_n K 0 d_M_goBack_0 rfl ?_
  refine g_iconst K (v := 0) d_M_goBack_1 (by decide) ?_
  refine g_callW (q0 := 0) K (c_M_write l D g a P I F g22 gL 0) mf_M_write im_M_write se_M_write ml_M_106 (by decide) rfl rfl (Nat.le_of_ble_eq_true rfl) d_M_goBack_2 (fun v w1 hq => ?_) rfl
  obtain ⟨b, rfl, hq⟩ := hq
  refine g_ri ?_
  refine g_if_ne K (tgt := 9) d_M_goBack_5 (by decide) (fun c5 => ?_) (fun c5 => ?_)
  · rcases hq with ⟨z, -⟩ | ⟨-, hll, rfl⟩
    · exact absurd (z.symm.trans (bZ_t c5)) (by decide)
    refine g_lv K [0] rfl (J9 _ len vl _ _ (Nat.lt_succ_self _) hll gT gb g15 rfl (fun _ _ => rfl) gF0 gF1 (show upd (F 2) ll 0 = _ by rw [gF2]) (FrF.rf.u (by decide)) (FrI.rf.u (by decide)) rfl g9 g10)
  · rcases hq with ⟨-, hll, rfl⟩ | ⟨z, -⟩
    rotate_left
    · exact absurd (z.symm.trans (bZ_f c5)) (by decide)
    refine g_vret K d_M_goBack_8 (⟨rfl, _, _, rfl, by rw [gbA_4 hll]; exact ⟨g22, g18, g19, g9, rfl, gF2, fun _ e => by cases e⟩, FrI.rf.u (by decide), FrF.rf⟩)
theorem d_M_step_0 : decode b_M_step 0 = .ok (.aload_n 0, 1) := by decide +kernel
theorem d_M_step_1 : decode b_M_step 1 = .ok (.dup, 1) := by decide +kernel
theorem d_M_step_2 : decode b_M_step 2 = .ok (.getfield 119, 3) := by decide +kernel
theorem d_M_step_5 : decode b_M_step 5 = .ok (.iconst 1, 1) := by decide +kernel
theorem d_M_step_6 : decode b_M_step 6 = .ok (.iadd, 1) := by decide +kernel
theorem d_M_step_7 : decode b_M_step 7 = .ok (.putfield 119, 3) := by decide +kernel
theorem d_M_step_10 : decode b_M_step 10 = .ok (.aload_n 0, 1) := by decide +kernel
theorem d_M_step_11 : decode b_M_step 11 = .ok (.getfield 32, 3) := by decide +kernel
theorem d_M_step_14 : decode b_M_step 14 = .ok (.ifCond .lt 7, 3) := by decide +kernel
theorem d_M_step_17 : decode b_M_step 17 = .ok (.iconst 1, 1) := by decide +kernel
theorem d_M_step_18 : decode b_M_step 18 = .ok (.goto 4, 3) := by decide +kernel
theorem d_M_step_21 : decode b_M_step 21 = .ok (.iconst 0, 1) := by decide +kernel
theorem d_M_step_22 : decode b_M_step 22 = .ok (.istore_n 1, 1) := by decide +kernel
theorem d_M_step_23 : decode b_M_step 23 = .ok (.aload_n 0, 1) := by decide +kernel
theorem d_M_step_24 : decode b_M_step 24 = .ok (.iload_n 1, 1) := by decide +kernel
theorem d_M_step_25 : decode b_M_step 25 = .ok (.aload_n 0, 1) := by decide +kernel
theorem d_M_step_26 : decode b_M_step 26 = .ok (.getfield 32, 3) := by decide +kernel
theorem d_M_step_29 : decode b_M_step 29 = .ok (.iconst 1, 1) := by decide +kernel
theorem d_M_step_30 : decode b_M_step 30 = .ok (.isub, 1) := by decide +kernel
theorem d_M_step_31 : decode b_M_step 31 = .ok (.invokevirtual 122, 3) := by decide +kernel
theorem d_M_step_34 : decode b_M_step 34 = .ok (.ifCond .eq 8, 3) := by decide +kernel
theorem d_M_step_37 : decode b_M_step 37 = .ok (.aload_n 0, 1) := by decide +kernel
theorem d_M_step_38 : decode b_M_step 38 = .ok (.invokevirtual 126, 3) := by decide +kernel
theorem d_M_step_41 : decode b_M_step 41 = .ok (.return_, 1) := by decide +kernel
theorem d_M_step_42 : decode b_M_step 42 = .ok (.aload_n 0, 1) := by decide +kernel
theorem d_M_step_43 : decode b_M_step 43 = .ok (.iload_n 1, 1) := by decide +kernel
theorem d_M_step_44 : decode b_M_step 44 = .ok (.aload_n 0, 1) := by decide +kernel
theorem d_M_step_45 : decode b_M_step 45 = .ok (.getfield 32, 3) := by decide +kernel
theorem d_M_step_48 : decode b_M_step 48 = .ok (.iconst 1, 1) := by decide +kernel
theorem d_M_step_49 : decode b_M_step 49 = .ok (.isub, 1) := by decide +kernel
theorem d_M_step_50 : decode b_M_step 50 = .ok (.invokevirtual 129, 3) := by decide +kernel
theorem d_M_step_53 : decode b_M_step 53 = .ok (.istore_n 2, 1) := by decide +kernel
theorem d_M_step_54 : decode b_M_step 54 = .ok (.iload_n 2, 1) := by decide +kernel
theorem d_M_step_55 : decode b_M_step 55 = .ok (.ifCond .eq 28, 3) := by decide +kernel
theorem d_M_step_58 : decode b_M_step 58 = .ok (.aload_n 0, 1) := by decide +kernel
theorem d_M_step_59 : decode b_M_step 59 = .ok (.iload_n 2, 1) := by decide +kernel
theorem d_M_step_60 : decode b_M_step 60 = .ok (.ifCond .ge 8, 3) := by decide +kernel
theorem d_M_step_63 : decode b_M_step 63 = .ok (.iload_n 2, 1) := by decide +kernel
theorem d_M_step_64 : decode b_M_step 64 = .ok (.ineg, 1) := by decide +kernel
theorem d_M_step_65 : decode b_M_step 65 = .ok (.goto 4, 3) := by decide +kernel
theorem d_M_step_68 : decode b_M_step 68 = .ok (.iload_n 2, 1) := by decide +kernel
theorem d_M_step_69 : decode b_M_step 69 = .ok (.iload_n 2, 1) := by decide +kernel
theorem d_M_step_70 : decode b_M_step 70 = .ok (.ifCond .le 7, 3) := by decide +kernel
theorem d_M_step_73 : decode b_M_step 73 = .ok (.iconst 1, 1) := by decide +kernel
theorem d_M_step_74 : decode b_M_step 74 = .ok (.goto 4, 3) := by decide +kernel
theorem d_M_step_77 : decode b_M_step 77 = .ok (.iconst 0, 1) := by decide +kernel
theorem d_M_step_78 : decode b_M_step 78 = .ok (.iconst 0, 1) := by decide +kernel
theorem d_M_step_79 : decode b_M_step 79 = .ok (.invokevirtual 109, 3) := by decide +kernel
theorem d_M_step_82 : decode b_M_step 82 = .ok (.return_, 1) := by decide +kernel
theorem d_M_step_83 : decode b_M_step 83 = .ok (.aload_n 0, 1) := by decide +kernel
theorem d_M_step_84 : decode b_M_step 84 = .ok (.getfield 103, 3) := by decide +kernel
theorem d_M_step_87 : decode b_M_step 87 = .ok (.bipush 16, 2) := by decide +kernel
theorem d_M_step_89 : decode b_M_step 89 = .ok (.if_icmp .ne 20, 3) := by decide +kernel
theorem d_M_step_92 : decode b_M_step 92 = .ok (.aload_n 0, 1) := by decide +kernel
theorem d_M_step_93 : decode b_M_step 93 = .ok (.aload_n 0, 1) := by decide +kernel
theorem d_M_step_94 : decode b_M_step 94 = .ok (.invokevirtual 85, 3) := by decide +kernel
theorem d_M_step_97 : decode b_M_step 97 = .ok (.putfield 32, 3) := by decide +kernel
theorem d_M_step_100 : decode b_M_step 100 = .ok (.aload_n 0, 1) := by decide +kernel
theorem d_M_step_101 : decode b_M_step 101 = .ok (.aload_n 0, 1) := by decide +kernel
theorem d_M_step_102 : decode b_M_step 102 = .ok (.getfield 72, 3) := by decide +kernel
theorem d_M_step_105 : decode b_M_step 105 = .ok (.putfield 113, 3) := by decide +kernel
theorem d_M_step_108 : decode b_M_step 108 = .ok (.return_, 1) := by decide +kernel
theorem d_M_step_109 : decode b_M_step 109 = .ok (.iconst 1, 1) := by decide +kernel
theorem d_M_step_110 : decode b_M_step 110 = .ok (.istore_n 3, 1) := by decide +kernel
theorem d_M_step_111 : decode b_M_step 111 = .ok (.aload_n 0, 1) := by decide +kernel
theorem d_M_step_112 : decode b_M_step 112 = .ok (.iload_n 3, 1) := by decide +kernel
theorem d_M_step_113 : decode b_M_step 113 = .ok (.invokevirtual 75, 3) := by decide +kernel
theorem d_M_step_116 : decode b_M_step 116 = .ok (.ifCond .eq 9, 3) := by decide +kernel
theorem d_M_step_119 : decode b_M_step 119 = .ok (.iinc 3 1, 3) := by decide +kernel
theorem d_M_step_122 : decode b_M_step 122 = .ok (.goto (-11), 3) := by decide +kernel
theorem d_M_step_125 : decode b_M_step 125 = .ok (.aload_n 0, 1) := by decide +kernel
theorem d_M_step_126 : decode b_M_step 126 = .ok (.iload_n 3, 1) := by decide +kernel
theorem d_M_step_127 : decode b_M_step 127 = .ok (.invokevirtual 106, 3) := by decide +kernel
theorem d_M_step_130 : decode b_M_step 130 = .ok (.ifCond .eq 10, 3) := by decide +kernel
theorem d_M_step_133 : decode b_M_step 133 = .ok (.aload_n 0, 1) := by decide +kernel
theorem d_M_step_134 : decode b_M_step 134 = .ok (.iload_n 3, 1) := by decide +kernel
theorem d_M_step_135 : decode b_M_step 135 = .ok (.iconst 0, 1) := by decide +kernel
theorem d_M_step_136 : decode b_M_step 136 = .ok (.iconst 1, 1) := by decide +kernel
theorem d_M_step_137 : decode b_M_step 137 = .ok (.invokevirtual 109, 3) := by decide +kernel
theorem d_M_step_140 : decode b_M_step 140 = .ok (.return_, 1) := by decide +kernel
set_option maxHeartbeats 4000000 in
set_option maxRecDepth 100000 in
theorem c_M_step (l : Launch) (D : va_G) (g : Nat → ClassId) (a : Nat → Nat) (P : Nat → Nat → Int32) (I : Nat → Int32) (F : Nat → Nat → Int32) {n k : Nat} (hp : PWF P n k) {vl tr tc : Nat → Int32} {len : Nat} {best bb : Int32} {log : Nat → Int32} {ll : Nat} (hS : SM (vl, tr, tc, len, best, bb, log, ll, false, false) (I 11) (I 12) I F) (hI : SI (vl, tr, tc, len, best, bb, log, ll, false, false)) (hn : I 6 = nI n) : Ct l D g y_M_step b_M_step 4 none 4 [.ref (a 0)] (MW a g P I F) (fun r w => r = none ∧ ∃ I2 F2, w = MW a g P I2 F2 ∧ SM (stepA P n vl tr tc len best bb log ll) (I2 11) (I2 12) I2 F2 ∧ I2 20 = I 20 + 1 ∧ FrI [9, 10, 11, 12, 15, 18, 19, 20, 22] I I2 ∧ FrF [0, 1, 2] F F2) := by
  refine Ct.of (lv := [(0, _)]) (by decide) rfl (Nat.le_of_ble_eq_true rfl) rfl ?_
  intro G K
  obtain ⟨g22, g18, g19, g9, g10, gF2, gR⟩ := id hS
  obtain ⟨gb, g15, gF0, gF1, gT, gtc⟩ := gR rfl rfl
  obtain ⟨gB, gL⟩ := id hI
  dsimp only at g22 g18 g19 g9 g10 gF2 gb g15 gF0 gF1 gT gtc gB gL
  have hbs : best = -1 ∨ 0 ≤ best.toInt ∧ best.toInt ≤ 524272 := gB.imp And.left id
  have hL : decide (0 ≤ best) = true → -1 ≤ (best - 1).toInt ∧ (best - 1).toInt ≤ 1073741824 := fun e => limS_bd hbs (L := (best - 1).toInt) (by rw [← limS_O hbs, e]; rfl)
  have J111 : ∀ (N : Nat) (v : Nat), 17 - v < N → (brk P n (limS best) vl = false) → (frc P n (limS best) vl = 0) → (len < 16) → (1 ≤ v) → (v ≤ 16) → (fop vl = (fi (fof vl) v (17 - v)).getD 0) → (¬ fop vl = 0) → G 111 [(0, .ref (a 0)), (3, .int (nI v))] [] (MW a g P (upd I 20 (I 20 + 1)) F) := by
    intro N
    induction N with
    | zero => intro v hm; exact absurd hm (Nat.not_lt_zero _)
    | succ N ih111 =>
      intro v hm111 hb0 hf0 hl16 h1 h2 hF hnz
      refine g_aload_n K 0 d_M_step_111 rfl ?_
      refine g_iload_n K 1 d_M_step_112 rfl ?_
      refine g_callW (q0 := 0) K (c_M_isSet l D g a P (upd I 20 (I 20 + 1)) F gb h1 h2) mf_M_isSet im_M_isSet se_M_isSet ml_M_75 (by decide) rfl rfl (Nat.le_of_ble_eq_true rfl) d_M_step_113 (fun v w1 hq => ?_) rfl
      obtain ⟨rfl, rfl⟩ := hq
      refine g_ri ?_
      refine g_if_eq K (tgt := 125) d_M_step_116 (by decide) (fun c116 => ?_) (fun c116 => ?_)
      · have h116 : vl v = -1 := Decidable.of_not_not (of_decide_eq_false (bZ_f c116))
        have hv : fop vl = nI v := by rw [hF, fi_some (by omega) (if_pos h116)]; rfl
        refine g_aload_n K 0 d_M_step_125 rfl ?_
        refine g_iload_n K 1 d_M_step_126 rfl ?_
        refine g_callW (q0 := 0) K (c_M_write l D g a P (upd I 20 (I 20 + 1)) F g22 gL (nI v)) mf_M_write im_M_write se_M_write ml_M_106 (by decide) rfl rfl (Nat.le_of_ble_eq_true rfl) d_M_step_127 (fun v w1 hq => ?_) rfl
        obtain ⟨b, rfl, hq⟩ := hq
        refine g_ri ?_
        refine g_if_eq K (tgt := 140) d_M_step_130 (by decide) (fun c130 => ?_) (fun c130 => ?_)
        · rcases hq with ⟨-, hll, rfl⟩ | ⟨z, -⟩
          rotate_left
          · exact absurd (z.symm.trans (bZ_f c130)) (by decide)
          refine g_vret K d_M_step_140 (⟨rfl, _, _, rfl, by rw [stepA_l hb0 hf0 hnz hll]; exact ⟨g22, g18, g19, g9, rfl, gF2, fun _ e => by cases e⟩, rfl, (FrI.rf.u (by decide)).u (by decide), FrF.rf⟩)
        · rcases hq with ⟨z, -⟩ | ⟨-, hll, rfl⟩
          · exact absurd (z.symm.trans (bZ_t c130)) (by decide)
          refine g_aload_n K 0 d_M_step_133 rfl ?_
          refine g_iload_n K 1 d_M_step_134 rfl ?_
          refine g_iconst K (v := 0) d_M_step_135 (by decide) ?_
          refine g_iconst K (v := 1) d_M_step_136 (by decide) ?_
          refine g_callW (q0 := 0) K (c_M_lay l D g a P (upd (upd I 20 (I 20 + 1)) 22 (nI (ll + 1))) (va_up F 2 (upd (F 2) ll (nI v))) gb h1 h2 false true g15 hl16) mf_M_lay im_M_lay se_M_lay ml_M_109 (by decide) rfl rfl (Nat.le_of_ble_eq_true rfl) d_M_step_137 (fun v w1 hq => ?_) rfl
          obtain ⟨rfl, s3, o3, rfl, hb3⟩ := hq
          refine g_rv ?_
          refine g_vret K d_M_step_140 (?_)
          refine ⟨rfl, _, _, rfl, ?_, rfl, (((((FrI.rf.u (by decide)).u (by decide)).u (by decide)).u (by decide)).u (by decide)), ((FrF.rf.u (by decide)).u (by decide)).u (by decide)⟩
          rw [stepA_c hb0 hf0 hnz (by omega), hv, vx_nI (by omega)]
          refine ⟨rfl, g18, g19, g9, g10, ?_, fun _ _ => ⟨hb3, rfl, ?_, ?_, ?_, fun i => ?_⟩⟩
          · show upd (F 2) ll _ = _
            rw [gF2]
          · show upd (F 0) len _ = _
            rw [gF0]
          · show upd (F 1) len _ = _
            rw [gF1]; rfl
          · exact gT.set h1 h2 h116 (Or.inl rfl)
          · show upd tc len 1 i = 0 ∨ upd tc len 1 i = 1
            by_cases e : i = len
            · rw [e, upd_s]; exact Or.inr rfl
            · rw [upd_n e]; exact gtc i
      · have h116 := of_decide_eq_true (bZ_t c116)
        have hF2 : fop vl = (fi (fof vl) (v + 1) (17 - (v + 1))).getD 0 := by rw [hF, fi_none (by omega) (if_neg h116)]
        have h17 : v + 1 ≤ 16 := by rcases Nat.lt_or_ge v 16 with z | z; exact z; exact absurd (by rw [hF2, fi_e (by omega)]; rfl) hnz
        refine g_iinc (v := nI (v + 1)) (lv' := [(3, _), (0, _)]) K 1 d_M_step_119 rfl (nI_1 v) (by decide) rfl ?_
        refine g_goto K (tgt := 111) d_M_step_122 (by decide) ?_
        refine g_lv K [1, 0] rfl (ih111 (v + 1) (by omega) hb0 hf0 hl16 (by omega) h17 hF2 hnz)
  have J69 : (brk P n (limS best) vl = false) → (¬ frc P n (limS best) vl = 0) → G 69 [(0, .ref (a 0)), (1, .int (bZ (decide (0 ≤ best)))), (2, .int (frc P n (limS best) vl))] [.int (nI (vx (frc P n (limS best) vl))), .ref (a 0)] (MW a g P (upd I 20 (I 20 + 1)) F) := by
    intro  hb0 hf0
    obtain ⟨q1, q2, q3⟩ := frc_open hp hf0
    have hlen : len < 16 := by have h3 := cn_open ⟨q1, q2⟩ q3; have h4 := gT.2.1; omega
    have J78 : G 78 [(0, .ref (a 0)), (1, .int (bZ (decide (0 ≤ best)))), (2, .int (frc P n (limS best) vl))] [.int (bZ (decide (0 < (frc P n (limS best) vl).toInt))), .int (nI (vx (frc P n (limS best) vl))), .ref (a 0)] (MW a g P (upd I 20 (I 20 + 1)) F) := by
      refine g_iconst K (v := 0) d_M_step_78 (by decide) ?_
      refine g_callW (q0 := 0) K (c_M_lay l D g a P (upd I 20 (I 20 + 1)) F gb q1 q2 (decide (0 < (frc P n (limS best) vl).toInt)) false g15 hlen) mf_M_lay im_M_lay se_M_lay ml_M_109 (by decide) rfl rfl (Nat.le_of_ble_eq_true rfl) d_M_step_79 (fun v w1 hq => ?_) rfl
      obtain ⟨rfl, s3, o3, rfl, hb3⟩ := hq
      refine g_rv ?_
      refine g_vret K d_M_step_82 (⟨rfl, _, _, rfl, ?_, rfl, ((((FrI.rf.u (by decide)).u (by decide)).u (by decide)).u (by decide)), (FrF.rf.u (by decide)).u (by decide)⟩)
      rw [stepA_f hb0 hf0]
      have hx : bZ (decide (0 < (frc P n (limS best) vl).toInt)) = if 0 < (frc P n (limS best) vl).toInt then 1 else 0 := by by_cases z : 0 < (frc P n (limS best) vl).toInt; rw [decide_eq_true z, if_pos z]; rfl; rw [decide_eq_false z, if_neg z]; rfl
      rw [hx] at hb3
      refine ⟨g22, g18, g19, g9, g10, gF2, fun _ _ => ⟨hb3, rfl, ?_, ?_, ?_, fun i => ?_⟩⟩
      · show upd (F 0) len _ = _
        rw [gF0]
      · show upd (F 1) len _ = _
        rw [gF1]; rfl
      · exact gT.set q1 q2 q3 (by split; exact Or.inr rfl; exact Or.inl rfl)
      · show upd tc len 0 i = 0 ∨ upd tc len 0 i = 1
        by_cases e : i = len
        · rw [e, upd_s]; exact Or.inl rfl
        · rw [upd_n e]; exact gtc i
    refine g_iload_n K 2 d_M_step_69 rfl ?_
    refine g_if_le K (tgt := 77) d_M_step_70 (by decide) (fun c70 => ?_) (fun c70 => ?_)
    · refine g_iconst K (v := 0) d_M_step_77 (by decide) ?_
      refine g_top K (show (0 : Int32) = bZ (decide (0 < (frc P n (limS best) vl).toInt)) from ?_) ?_
      · rw [decide_eq_false (by rw [i_le, i_0] at c70; omega)]; rfl
      refine g_lv K [0, 1, 2] rfl (J78 )
    · refine g_iconst K (v := 1) d_M_step_73 (by decide) ?_
      refine g_goto K (tgt := 78) d_M_step_74 (by decide) ?_
      refine g_top K (show (1 : Int32) = bZ (decide (0 < (frc P n (limS best) vl).toInt)) from ?_) ?_
      · rw [decide_eq_true (by rw [i_le, i_0] at c70; omega)]; rfl
      refine g_lv K [0, 1, 2] rfl (J78 )
  have J22 : G 22 [(0, .ref (a 0))] [.int (bZ (decide (0 ≤ best)))] (MW a g P (upd I 20 (I 20 + 1)) F) := by
    refine g_istore_n (lv' := [(1, _), (0, _)]) K d_M_step_22 (by decide) rfl ?_
    refine g_aload_n K 1 d_M_step_23 rfl ?_
    refine g_iload_n K 0 d_M_step_24 rfl ?_
    refine g_aload_n K 1 d_M_step_25 rfl ?_
    refine gM_get K 18 fl_M_32 (by decide) rfl d_M_step_26 ?_
    refine g_iconst K (v := 1) d_M_step_29 (by decide) ?_
    refine g_isub K d_M_step_30 ?_
    refine g_top K (show _ = best - 1 from congrArg (· - 1) g18) ?_
    refine g_callW (q0 := 0) K (c_M_isBroken l D g a P (upd I 20 (I 20 + 1)) F hp gT.1 gb (lb := decide (0 ≤ best)) (L := best - 1) hL hn) mf_M_isBroken im_M_isBroken se_M_isBroken ml_M_122 (by decide) rfl rfl (Nat.le_of_ble_eq_true rfl) d_M_step_31 (fun v w1 hq => ?_) rfl
    obtain ⟨rfl, rfl⟩ := hq
    rw [limS_O hbs]
    refine g_ri ?_
    refine g_if_eq K (tgt := 42) d_M_step_34 (by decide) (fun c34 => ?_) (fun c34 => ?_)
    · have hb0 := bZ_f c34
      refine g_aload_n K 1 d_M_step_42 rfl ?_
      refine g_iload_n K 0 d_M_step_43 rfl ?_
      refine g_aload_n K 1 d_M_step_44 rfl ?_
      refine gM_get K 18 fl_M_32 (by decide) rfl d_M_step_45 ?_
      refine g_iconst K (v := 1) d_M_step_48 (by decide) ?_
      refine g_isub K d_M_step_49 ?_
      refine g_top K (show _ = best - 1 from congrArg (· - 1) g18) ?_
      refine g_callW (q0 := 0) K (c_M_forced l D g a P (upd I 20 (I 20 + 1)) F hp gT.1 gb (lb := decide (0 ≤ best)) (L := best - 1) hL hn) mf_M_forced im_M_forced se_M_forced ml_M_129 (by decide) rfl rfl (Nat.le_of_ble_eq_true rfl) d_M_step_50 (fun v w1 hq => ?_) rfl
      obtain ⟨rfl, rfl⟩ := hq
      rw [limS_O hbs]
      refine g_ri ?_
      refine g_istore_n (lv' := [(2, _), (1, _), (0, _)]) K d_M_step_53 (by decide) rfl ?_
      refine g_iload_n K 0 d_M_step_54 rfl ?_
      refine g_if_eq K (tgt := 83) d_M_step_55 (by decide) (fun c55 => ?_) (fun c55 => ?_)
      · refine g_aload_n K 2 d_M_step_83 rfl ?_
        refine gM_get K 15 fl_M_103 (by decide) rfl d_M_step_84 ?_
        refine g_bipush K (v := 16) d_M_step_87 (by decide) ?_
        refine g_top K nI_16 ?_
        refine g_icmp_ne K (tgt := 109) d_M_step_89 (by decide) (fun c89 => ?_) (fun c89 => ?_)
        · have hl16 : len < 16 := by have := gT.le; rcases Nat.lt_or_ge len 16 with z | z; exact z; exact absurd (by show I 15 = nI 16; rw [g15, show len = 16 by omega]) c89
          have hnz : ¬ fop vl = 0 := by intro z; rcases fop_cases vl with q | ⟨v, q1, q2, q3, q4⟩; have := cn_all q.2; have := gT.2.1; omega; rw [q4] at z; exact nI_ne0 (by omega) (by omega) z
          refine g_iconst K (v := 1) d_M_step_109 (by decide) ?_
          refine g_top K nI_1' ?_
          refine g_istore_n (lv' := [(3, _), (2, _), (1, _), (0, _)]) K d_M_step_110 (by decide) rfl ?_
          refine g_lv K [3, 0] rfl (J111 _ 1 (Nat.lt_succ_self _) hb0 c55 hl16 (by omega) (by omega) rfl hnz)
        · have hl16 : len = 16 := nI_inj (by have := gT.le; omega) (by omega) (g15.symm.trans c89)
          have hall : fop vl = 0 ∧ ∀ v, 1 ≤ v → v ≤ 16 → ¬ vl v = -1 := by rcases fop_cases vl with q | ⟨v, q1, q2, q3, q4⟩; exact q; have := cn_open ⟨q1, q2⟩ q3; have := gT.2.1; omega
          refine g_aload_n K 2 d_M_step_92 rfl ?_
          refine g_aload_n K 2 d_M_step_93 rfl ?_
          refine g_callW (q0 := 0) K (c_M_cost l D g a P (upd I 20 (I 20 + 1)) F hp gT.1 gb) mf_M_cost im_M_cost se_M_cost ml_M_85 (by decide) rfl rfl (Nat.le_of_ble_eq_true rfl) d_M_step_94 (fun v w1 hq => ?_) rfl
          obtain ⟨rfl, rfl⟩ := hq
          refine g_ri ?_
          refine gM_put_best K fl_M_32 d_M_step_97 ?_
          refine g_aload_n K 2 d_M_step_100 rfl ?_
          refine g_aload_n K 2 d_M_step_101 rfl ?_
          refine gM_get K 12 fl_M_72 (by decide) rfl d_M_step_102 ?_
          refine gM_put_bestOnes K fl_M_113 d_M_step_105 ?_
          refine g_vret K d_M_step_108 (⟨rfl, _, _, rfl, ?_, rfl, ((FrI.rf.u (by decide)).u (by decide)).u (by decide), FrF.rf⟩)
          rw [stepA_o hb0 c55 hall.1]
          refine ⟨g22, rfl, ?_, g9, g10, gF2, fun _ _ => ⟨gb, g15, gF0, gF1, gT, gtc⟩⟩
          exact bo_mb gT.1 gb hall.2
      · refine g_aload_n K 2 d_M_step_58 rfl ?_
        refine g_iload_n K 0 d_M_step_59 rfl ?_
        refine g_if_ge K (tgt := 68) d_M_step_60 (by decide) (fun c60 => ?_) (fun c60 => ?_)
        · refine g_iload_n K 0 d_M_step_68 rfl ?_
          refine g_top K (lit_pos' (frc_open hp c55).2.1 c60) ?_
          refine g_lv K [2, 1, 0] rfl (J69 hb0 c55)
        · refine g_iload_n K 0 d_M_step_63 rfl ?_
          refine g_ineg K d_M_step_64 ?_
          refine g_goto K (tgt := 69) d_M_step_65 (by decide) ?_
          refine g_top K (lit_neg' (frc_open hp c55).2.1 c60) ?_
          refine g_lv K [2, 1, 0] rfl (J69 hb0 c55)
    · have hb0 := bZ_t c34
      refine g_aload_n K 1 d_M_step_37 rfl ?_
      refine g_callW (q0 := 0) K (c_M_goBack l D g a P (upd I 20 (I 20 + 1)) F hS hI) mf_M_goBack im_M_goBack se_M_goBack ml_M_126 (by decide) rfl rfl (Nat.le_of_ble_eq_true rfl) d_M_step_38 (fun v w1 hq => ?_) rfl
      obtain ⟨rfl, I2, F2, rfl, q1, q2, q3⟩ := hq
      refine g_rv ?_
      refine g_vret K d_M_step_41 (⟨rfl, I2, F2, rfl, by rw [stepA_b hb0]; exact q1, q2 20 (by decide), (FrI.rf.u (by decide)).t (q2.m (by decide)), q3⟩)
  refine g_aload_n K 0 d_M_step_0 rfl ?_
  refine g_dup K d_M_step_1 rfl ?_
  refine gM_get K 20 fl_M_119 (by decide) rfl d_M_step_2 ?_
  refine g_iconst K (v := 1) d_M_step_5 (by decide) ?_
  refine g_iadd K d_M_step_6 ?_
  refine gM_put_made K fl_M_119 d_M_step_7 ?_
  refine g_aload_n K 0 d_M_step_10 rfl ?_
  refine gM_get K 18 fl_M_32 (by decide) rfl d_M_step_11 ?_
  refine g_if_lt K (tgt := 21) d_M_step_14 (by decide) (fun c14 => ?_) (fun c14 => ?_)
  · refine g_iconst K (v := 0) d_M_step_21 (by decide) ?_
    refine g_top K (show (0 : Int32) = bZ (decide (0 ≤ best)) from ?_) ?_
    · rw [decide_eq_false (by rw [i_le, i_0]; have c := c14; rw [show (upd I 20 (I 20 + 1)) 18 = best from g18, i_lt, i_0] at c; omega)]; rfl
    refine g_lv K [0] rfl (J22 )
  · refine g_iconst K (v := 1) d_M_step_17 (by decide) ?_
    refine g_goto K (tgt := 22) d_M_step_18 (by decide) ?_
    refine g_top K (show (1 : Int32) = bZ (decide (0 ≤ best)) from ?_) ?_
    · rw [decide_eq_true (by rw [i_le, i_0]; have c := c14; rw [show (upd I 20 (I 20 + 1)) 18 = best from g18, i_lt, i_0] at c; omega)]; rfl
    refine g_lv K [0] rfl (J22 )
end
section
abbrev okF (f : Int32) : Prop := 1 ≤ f.toInt ∧ f.toInt ≤ 2000
def ansR (z : SA) : Int32 := cond z.2.2.2.2.2.2.2.2.2 (-2) (cond z.2.2.2.2.2.2.2.2.1 1 2)
theorem SI.run {P : Nat → Nat → Int32} {n k : Nat} (hp : PWF P n k) : ∀ (f : Nat) {z : SA} {c : Int32}, SI z → SI (runA P n f z c).1
  | 0, _, _, h => h
  | f + 1, z, c, h => by
    show SI (if z.2.2.2.2.2.2.2.2.1 = true ∨ z.2.2.2.2.2.2.2.2.2 = true then (z, c) else runA P n f (stepT P n z) (c + 1)).1
    split
    · exact h
    · exact SI.run hp f (h.step hp)
theorem d_M_run_0 : decode b_M_run 0 = .ok (.iload_n 1, 1) := by decide +kernel
theorem d_M_run_1 : decode b_M_run 1 = .ok (.iconst 1, 1) := by decide +kernel
theorem d_M_run_2 : decode b_M_run 2 = .ok (.sipush 2000, 3) := by decide +kernel
theorem d_M_run_5 : decode b_M_run 5 = .ok (.invokestatic 58, 3) := by decide +kernel
theorem d_M_run_8 : decode b_M_run 8 = .ok (.ifCond .ne 5, 3) := by decide +kernel
theorem d_M_run_11 : decode b_M_run 11 = .ok (.iconst (-1), 1) := by decide +kernel
theorem d_M_run_12 : decode b_M_run 12 = .ok (.ireturn, 1) := by decide +kernel
theorem d_M_run_13 : decode b_M_run 13 = .ok (.aload_n 0, 1) := by decide +kernel
theorem d_M_run_14 : decode b_M_run 14 = .ok (.getfield 54, 3) := by decide +kernel
theorem d_M_run_17 : decode b_M_run 17 = .ok (.ifCond .ne 21, 3) := by decide +kernel
theorem d_M_run_20 : decode b_M_run 20 = .ok (.aload_n 0, 1) := by decide +kernel
theorem d_M_run_21 : decode b_M_run 21 = .ok (.iconst 1, 1) := by decide +kernel
theorem d_M_run_22 : decode b_M_run 22 = .ok (.putfield 54, 3) := by decide +kernel
theorem d_M_run_25 : decode b_M_run 25 = .ok (.aload_n 0, 1) := by decide +kernel
theorem d_M_run_26 : decode b_M_run 26 = .ok (.aload_n 0, 1) := by decide +kernel
theorem d_M_run_27 : decode b_M_run 27 = .ok (.getfield 19, 3) := by decide +kernel
theorem d_M_run_30 : decode b_M_run 30 = .ok (.aload_n 0, 1) := by decide +kernel
theorem d_M_run_31 : decode b_M_run 31 = .ok (.getfield 65, 3) := by decide +kernel
theorem d_M_run_34 : decode b_M_run 34 = .ok (.iaload, 1) := by decide +kernel
theorem d_M_run_35 : decode b_M_run 35 = .ok (.putfield 62, 3) := by decide +kernel
theorem d_M_run_38 : decode b_M_run 38 = .ok (.aload_n 0, 1) := by decide +kernel
theorem d_M_run_39 : decode b_M_run 39 = .ok (.aload_n 0, 1) := by decide +kernel
theorem d_M_run_40 : decode b_M_run 40 = .ok (.getfield 133, 3) := by decide +kernel
theorem d_M_run_43 : decode b_M_run 43 = .ok (.putfield 69, 3) := by decide +kernel
theorem d_M_run_46 : decode b_M_run 46 = .ok (.aload_n 0, 1) := by decide +kernel
theorem d_M_run_47 : decode b_M_run 47 = .ok (.aload_n 0, 1) := by decide +kernel
theorem d_M_run_48 : decode b_M_run 48 = .ok (.getfield 136, 3) := by decide +kernel
theorem d_M_run_51 : decode b_M_run 51 = .ok (.putfield 72, 3) := by decide +kernel
theorem d_M_run_54 : decode b_M_run 54 = .ok (.iconst 0, 1) := by decide +kernel
theorem d_M_run_55 : decode b_M_run 55 = .ok (.istore_n 2, 1) := by decide +kernel
theorem d_M_run_56 : decode b_M_run 56 = .ok (.iload_n 2, 1) := by decide +kernel
theorem d_M_run_57 : decode b_M_run 57 = .ok (.iload_n 1, 1) := by decide +kernel
theorem d_M_run_58 : decode b_M_run 58 = .ok (.if_icmp .ge 27, 3) := by decide +kernel
theorem d_M_run_61 : decode b_M_run 61 = .ok (.aload_n 0, 1) := by decide +kernel
theorem d_M_run_62 : decode b_M_run 62 = .ok (.getfield 116, 3) := by decide +kernel
theorem d_M_run_65 : decode b_M_run 65 = .ok (.ifCond .ne 20, 3) := by decide +kernel
theorem d_M_run_68 : decode b_M_run 68 = .ok (.aload_n 0, 1) := by decide +kernel
theorem d_M_run_69 : decode b_M_run 69 = .ok (.getfield 96, 3) := by decide +kernel
theorem d_M_run_72 : decode b_M_run 72 = .ok (.ifCond .ne 13, 3) := by decide +kernel
theorem d_M_run_75 : decode b_M_run 75 = .ok (.aload_n 0, 1) := by decide +kernel
theorem d_M_run_76 : decode b_M_run 76 = .ok (.invokevirtual 139, 3) := by decide +kernel
theorem d_M_run_79 : decode b_M_run 79 = .ok (.iinc 2 1, 3) := by decide +kernel
theorem d_M_run_82 : decode b_M_run 82 = .ok (.goto (-26), 3) := by decide +kernel
theorem d_M_run_85 : decode b_M_run 85 = .ok (.aload_n 0, 1) := by decide +kernel
theorem d_M_run_86 : decode b_M_run 86 = .ok (.aload_n 0, 1) := by decide +kernel
theorem d_M_run_87 : decode b_M_run 87 = .ok (.getfield 69, 3) := by decide +kernel
theorem d_M_run_90 : decode b_M_run 90 = .ok (.putfield 133, 3) := by decide +kernel
theorem d_M_run_93 : decode b_M_run 93 = .ok (.aload_n 0, 1) := by decide +kernel
theorem d_M_run_94 : decode b_M_run 94 = .ok (.aload_n 0, 1) := by decide +kernel
theorem d_M_run_95 : decode b_M_run 95 = .ok (.getfield 72, 3) := by decide +kernel
theorem d_M_run_98 : decode b_M_run 98 = .ok (.putfield 136, 3) := by decide +kernel
theorem d_M_run_101 : decode b_M_run 101 = .ok (.aload_n 0, 1) := by decide +kernel
theorem d_M_run_102 : decode b_M_run 102 = .ok (.getfield 96, 3) := by decide +kernel
theorem d_M_run_105 : decode b_M_run 105 = .ok (.ifCond .eq 8, 3) := by decide +kernel
theorem d_M_run_108 : decode b_M_run 108 = .ok (.bipush (-2), 2) := by decide +kernel
theorem d_M_run_110 : decode b_M_run 110 = .ok (.goto 15, 3) := by decide +kernel
theorem d_M_run_113 : decode b_M_run 113 = .ok (.aload_n 0, 1) := by decide +kernel
theorem d_M_run_114 : decode b_M_run 114 = .ok (.getfield 116, 3) := by decide +kernel
theorem d_M_run_117 : decode b_M_run 117 = .ok (.ifCond .eq 7, 3) := by decide +kernel
theorem d_M_run_120 : decode b_M_run 120 = .ok (.iconst 1, 1) := by decide +kernel
theorem d_M_run_121 : decode b_M_run 121 = .ok (.goto 4, 3) := by decide +kernel
theorem d_M_run_124 : decode b_M_run 124 = .ok (.iconst 2, 1) := by decide +kernel
theorem d_M_run_125 : decode b_M_run 125 = .ok (.ireturn, 1) := by decide +kernel
set_option maxHeartbeats 4000000 in
set_option maxRecDepth 100000 in
theorem c_M_run (l : Launch) (D : va_G) (g : Nat → ClassId) (a : Nat → Nat) (P : Nat → Nat → Int32) (I : Nat → Int32) (F : Nat → Nat → Int32) {n k : Nat} (hp : PWF P n k) {bg : Bool} (h8 : I 8 = bZ bg) (h6 : I 6 = nI n) {z : SA} (hS : SM z (I 16) (I 17) I F) (hI : SI z) (f : Int32) : Ct l D g y_M_run b_M_run 3 (some .int) 5 [.ref (a 0), .int f] (MW a g P I F) (fun r w => (¬ okF f ∧ r = some (.int (-1)) ∧ w = MW a g P I F) ∨ (okF f ∧ ∃ I2 F2, r = some (.int (ansR (runA P n f.toNatClampNeg z (I 20)).1)) ∧ w = MW a g P I2 F2 ∧ SM (runA P n f.toNatClampNeg z (I 20)).1 (I2 16) (I2 17) I2 F2 ∧ I2 20 = (runA P n f.toNatClampNeg z (I 20)).2 ∧ I2 8 = bZ true ∧ FrI [7, 8, 9, 10, 11, 12, 15, 16, 17, 18, 19, 20, 22] I I2 ∧ FrF [0, 1, 2] F F2)) := by
  refine Ct.of (lv := [(0, _), (1, _)]) (by decide) rfl (Nat.le_of_ble_eq_true rfl) rfl ?_
  intro G K
  have J85 : ∀ (I2 : Nat → Int32) (F2 : Nat → Nat → Int32) (z2 : SA) (cc : Int32), (okF f) → ((z2, cc) = runA P n f.toNatClampNeg z (I 20)) → (SM z2 (I2 11) (I2 12) I2 F2) → (SI z2) → (I2 20 = cc) → (FrI [7, 8, 9, 10, 11, 12, 15, 16, 17, 18, 19, 20, 22] I I2) → (FrF [0, 1, 2] F F2) → (I2 8 = bZ true) → G 85 [(0, .ref (a 0))] [] (MW a g P I2 F2) := by
    intro I2 F2 z2 cc hok hr hS2 hI2 h20 hIr hFr h82
    refine g_aload_n K 0 d_M_run_85 rfl ?_
    refine g_aload_n K 0 d_M_run_86 rfl ?_
    refine gM_get K 11 fl_M_69 (by decide) rfl d_M_run_87 ?_
    refine gM_put_searchSet K fl_M_133 d_M_run_90 ?_
    refine g_aload_n K 0 d_M_run_93 rfl ?_
    refine g_aload_n K 0 d_M_run_94 rfl ?_
    refine gM_get K 12 fl_M_72 (by decide) rfl d_M_run_95 ?_
    refine gM_put_searchOnes K fl_M_136 d_M_run_98 ?_
    refine g_aload_n K 0 d_M_run_101 rfl ?_
    refine gM_get K 10 fl_M_96 (by decide) rfl d_M_run_102 ?_
    refine g_if_eq K (tgt := 113) d_M_run_105 (by decide) (fun c105 => ?_) (fun c105 => ?_)
    · have e105 : z2.2.2.2.2.2.2.2.2.2 = false := bZ_f (hS2.2.2.2.2.1.symm.trans c105)
      refine g_aload_n K 0 d_M_run_113 rfl ?_
      refine gM_get K 9 fl_M_116 (by decide) rfl d_M_run_114 ?_
      refine g_if_eq K (tgt := 124) d_M_run_117 (by decide) (fun c117 => ?_) (fun c117 => ?_)
      · have e117 : z2.2.2.2.2.2.2.2.2.1 = false := bZ_f (hS2.2.2.2.1.symm.trans c117)
        refine g_iconst K (v := 2) d_M_run_124 (by decide) ?_
        refine g_iret K d_M_run_125 (Or.inr ⟨hok, _, F2, ?_, rfl, ?_, ?_, h82, ((hIr.u (by decide)).u (by decide)), hFr⟩)
        · first
          | (rw [← hr]; show _ = some (Value.int (cond _ _ _)); rw [e105]; rfl)
          | (rw [← hr]; show _ = some (Value.int (cond _ _ _)); rw [e105]; show _ = some (Value.int (cond _ _ _)); rw [e117]; rfl)
        · rw [← hr]; exact hS2
        · rw [← hr]; exact h20
      · have e117 : z2.2.2.2.2.2.2.2.2.1 = true := bZ_t (fun h => c117 (hS2.2.2.2.1.trans h))
        refine g_iconst K (v := 1) d_M_run_120 (by decide) ?_
        refine g_goto K (tgt := 125) d_M_run_121 (by decide) ?_
        refine g_iret K d_M_run_125 (Or.inr ⟨hok, _, F2, ?_, rfl, ?_, ?_, h82, ((hIr.u (by decide)).u (by decide)), hFr⟩)
        · first
          | (rw [← hr]; show _ = some (Value.int (cond _ _ _)); rw [e105]; rfl)
          | (rw [← hr]; show _ = some (Value.int (cond _ _ _)); rw [e105]; show _ = some (Value.int (cond _ _ _)); rw [e117]; rfl)
        · rw [← hr]; exact hS2
        · rw [← hr]; exact h20
    · have e105 : z2.2.2.2.2.2.2.2.2.2 = true := bZ_t (fun h => c105 (hS2.2.2.2.2.1.trans h))
      refine g_bipush K (v := -2) d_M_run_108 (by decide) ?_
      refine g_goto K (tgt := 125) d_M_run_110 (by decide) ?_
      refine g_iret K d_M_run_125 (Or.inr ⟨hok, _, F2, ?_, rfl, ?_, ?_, h82, ((hIr.u (by decide)).u (by decide)), hFr⟩)
      · first
        | (rw [← hr]; show _ = some (Value.int (cond _ _ _)); rw [e105]; rfl)
        | (rw [← hr]; show _ = some (Value.int (cond _ _ _)); rw [e105]; show _ = some (Value.int (cond _ _ _)); rw [e117]; rfl)
      · rw [← hr]; exact hS2
      · rw [← hr]; exact h20
  have J56 : ∀ (N : Nat) (j : Nat) (I2 : Nat → Int32) (F2 : Nat → Nat → Int32) (z2 : SA) (cc : Int32), f.toNatClampNeg - j < N → (okF f) → (f = nI f.toNatClampNeg) → (j ≤ 2000) → (runA P n (f.toNatClampNeg - j) z2 cc = runA P n f.toNatClampNeg z (I 20)) → (SM z2 (I2 11) (I2 12) I2 F2) → (SI z2) → (I2 20 = cc) → (FrI [7, 8, 9, 10, 11, 12, 15, 16, 17, 18, 19, 20, 22] I I2) → (FrF [0, 1, 2] F F2) → (I2 8 = bZ true) → G 56 [(0, .ref (a 0)), (1, .int f), (2, .int (nI j))] [] (MW a g P I2 F2) := by
    intro N
    induction N with
    | zero => intro j I2 F2 z2 cc hm; exact absurd hm (Nat.not_lt_zero _)
    | succ N ih56 =>
      intro j I2 F2 z2 cc hm56 hok hf2 hj hr hS2 hI2 h20 hIr hFr h82
      have hf1 := nat_i (i := f) (by have := hok.1; omega)
      have hf3 : f.toNatClampNeg ≤ 2000 := by have := hok.2; omega
      refine g_iload_n K 2 d_M_run_56 rfl ?_
      refine g_iload_n K 1 d_M_run_57 rfl ?_
      refine g_top K hf2 ?_
      refine g_icmp_ge K (tgt := 85) d_M_run_58 (by decide) (fun c58 => ?_) (fun c58 => ?_)
      · have h58 := (nI_leI (by omega) (by omega)).mp c58
        refine g_lv K [0] rfl (J85 I2 F2 z2 cc hok (by rw [← hr, Nat.sub_eq_zero_of_le h58]; rfl) hS2 hI2 h20 hIr hFr h82)
      · have h58 : j < f.toNatClampNeg := Nat.lt_of_not_le (fun h => c58 ((nI_leI (by omega) (by omega)).mpr h))
        refine g_aload_n K 0 d_M_run_61 rfl ?_
        refine gM_get K 9 fl_M_116 (by decide) rfl d_M_run_62 ?_
        refine g_if_ne K (tgt := 85) d_M_run_65 (by decide) (fun c65 => ?_) (fun c65 => ?_)
        · have e65 : z2.2.2.2.2.2.2.2.2.1 = true := bZ_t (fun h => c65 (hS2.2.2.2.1.trans h))
          refine g_lv K [0] rfl (J85 I2 F2 z2 cc hok (by rw [← hr, sub_s h58]; exact (if_pos (Or.inl e65)).symm) hS2 hI2 h20 hIr hFr h82)
        · refine g_aload_n K 0 d_M_run_68 rfl ?_
          refine gM_get K 10 fl_M_96 (by decide) rfl d_M_run_69 ?_
          refine g_if_ne K (tgt := 85) d_M_run_72 (by decide) (fun c72 => ?_) (fun c72 => ?_)
          · have e72 : z2.2.2.2.2.2.2.2.2.2 = true := bZ_t (fun h => c72 (hS2.2.2.2.2.1.trans h))
            refine g_lv K [0] rfl (J85 I2 F2 z2 cc hok (by rw [← hr, sub_s h58]; exact (if_pos (Or.inr e72)).symm) hS2 hI2 h20 hIr hFr h82)
          · obtain ⟨vl, tr, tc, len, best, bb, log, ll, dn2, ls2⟩ := z2
            obtain rfl : dn2 = false := bZ_f (hS2.2.2.2.1.symm.trans c65)
            obtain rfl : ls2 = false := bZ_f (hS2.2.2.2.2.1.symm.trans c72)
            have hn2 : I2 6 = nI n := (hIr 6 (by decide)).trans h6
            refine g_aload_n K 0 d_M_run_75 rfl ?_
            refine g_callW (q0 := 0) K (c_M_step l D g a P I2 F2 hp hS2 hI2 hn2) mf_M_step im_M_step se_M_step ml_M_139 (by decide) rfl rfl (Nat.le_of_ble_eq_true rfl) d_M_run_76 (fun v w1 hq => ?_) rfl
            obtain ⟨rfl, I3, F3, rfl, hS3, h203, hI3, hF3⟩ := hq
            refine g_rv ?_
            refine g_iinc (v := nI (j + 1)) (lv' := [(2, _), (0, _), (1, _)]) K 2 d_M_run_79 rfl (nI_1 j) (by decide) rfl ?_
            refine g_goto K (tgt := 56) d_M_run_82 (by decide) ?_
            refine g_lv K [1, 2, 0] rfl (ih56 (j + 1) I3 F3 (stepA P n vl tr tc len best bb log ll) (cc + 1) (by omega) hok hf2 (by omega) (by rw [← hr, sub_s h58]; exact (if_neg (by decide : ¬ (false = true ∨ false = true))).symm) hS3 (hI2.step hp) (by rw [h203, h20]) (hIr.t (hI3.m (by decide))) (hFr.t hF3) ((hI3 8 (by decide)).trans h82))
  have J38 : ∀ (I1 : Nat → Int32), (okF f) → (FrI [7, 8] I I1) → (I1 8 = bZ true) → G 38 [(0, .ref (a 0)), (1, .int f)] [] (MW a g P I1 F) := by
    intro I1 hok hI1 h81
    have hf1 := nat_i (i := f) (by have := hok.1; omega)
    have hf2 : f = nI f.toNatClampNeg := nI_nat (by have := hok.1; omega)
    refine g_aload_n K 0 d_M_run_38 rfl ?_
    refine g_aload_n K 0 d_M_run_39 rfl ?_
    refine gM_get K 16 fl_M_133 (by decide) rfl d_M_run_40 ?_
    refine gM_put_set K fl_M_69 d_M_run_43 ?_
    refine g_aload_n K 0 d_M_run_46 rfl ?_
    refine g_aload_n K 0 d_M_run_47 rfl ?_
    refine gM_get K 17 fl_M_136 (by decide) rfl d_M_run_48 ?_
    refine gM_put_ones K fl_M_72 d_M_run_51 ?_
    refine g_iconst K (v := 0) d_M_run_54 (by decide) ?_
    refine g_top K nI_0' ?_
    refine g_istore_n (lv' := [(2, _), (0, _), (1, _)]) K d_M_run_55 (by decide) rfl ?_
    refine g_lv K [1, 2, 0] rfl (J56 _ 0 _ F z (I 20) (Nat.lt_succ_self _) hok hf2 (Nat.zero_le _) rfl ⟨(hI1 22 (by decide)).trans hS.1, (hI1 18 (by decide)).trans hS.2.1, (hI1 19 (by decide)).trans hS.2.2.1, (hI1 9 (by decide)).trans hS.2.2.2.1, (hI1 10 (by decide)).trans hS.2.2.2.2.1, hS.2.2.2.2.2.1, fun e1 e2 => ⟨by show MB2 (I1 16) (I1 17) z.1; rw [hI1 16 (by decide), hI1 17 (by decide)]; exact (hS.2.2.2.2.2.2 e1 e2).1, (hI1 15 (by decide)).trans (hS.2.2.2.2.2.2 e1 e2).2.1, (hS.2.2.2.2.2.2 e1 e2).2.2⟩⟩ hI (hI1 20 (by decide)) (((hI1.m (by decide)).u (by decide)).u (by decide)) FrF.rf h81)
  refine g_iload_n K 1 d_M_run_0 rfl ?_
  refine g_iconst K (v := 1) d_M_run_1 (by decide) ?_
  refine g_sipush K (v := 2000) d_M_run_2 (by decide) ?_
  refine g_callS K (c_M_isIn l D g f 1 2000) mf_M_isIn is_M_isIn ml_M_58 (by decide) (Nat.le_of_ble_eq_true rfl) d_M_run_5 (fun v hq => ?_) rfl
  obtain ⟨rfl, -⟩ := hq
  refine g_ri ?_
  refine g_if_ne K (tgt := 13) d_M_run_8 (by decide) (fun c8 => ?_) (fun c8 => ?_)
  · have hok : okF f := of_decide_eq_true ((in_i 1 2000 i_1 k_2000 f).symm.trans (bZ_t c8))
    refine g_aload_n K 0 d_M_run_13 rfl ?_
    refine gM_get K 8 fl_M_54 (by decide) rfl d_M_run_14 ?_
    refine g_if_ne K (tgt := 38) d_M_run_17 (by decide) (fun c17 => ?_) (fun c17 => ?_)
    · refine g_lv K [0, 1] rfl (J38 I hok FrI.rf (by rw [h8, bZ_t (fun h => c17 (h8.trans h))]))
    · refine g_aload_n K 0 d_M_run_20 rfl ?_
      refine g_iconst K (v := 1) d_M_run_21 (by decide) ?_
      refine gM_put_begun K true rfl fl_M_54 d_M_run_22 ?_
      refine g_aload_n K 0 d_M_run_25 rfl ?_
      refine g_aload_n K 0 d_M_run_26 rfl ?_
      refine gM_get K 4 fl_M_19 (by decide) rfl d_M_run_27 ?_
      refine g_aload_n K 0 d_M_run_30 rfl ?_
      refine gM_get K 6 fl_M_65 (by decide) rfl d_M_run_31 ?_
      refine g_iald K 4 (n) rfl h6 (by have := hp.1; omega) d_M_run_34 ?_
      refine gM_put_terms K fl_M_62 d_M_run_35 ?_
      refine g_lv K [0, 1] rfl (J38 _ hok ((FrI.rf.u (by decide)).u (by decide)) rfl)
  · have hok : ¬ okF f := of_decide_eq_false ((in_i 1 2000 i_1 k_2000 f).symm.trans (bZ_f c8))
    refine g_iconst K (v := -1) d_M_run_11 (by decide) ?_
    refine g_iret K d_M_run_12 (Or.inl ⟨hok, rfl, rfl⟩)
end
section
theorem un_self {tr : Nat → Int32} {pos : Nat} : ∀ {len : Nat} {vl : Nat → Int32}, TI vl tr len → pos < len → un tr pos len vl (tvn tr pos) = -1
  | 0, vl, _, h2 => absurd h2 (Nat.not_lt_zero pos)
  | len + 1, vl, h, h2 => by
    obtain ⟨v, t1, t2, t3, t4, t5⟩ := h.top
    have e1 := tvn_of t3 (by omega)
    rw [un_s (by omega), e1]
    by_cases e : pos = len
    · subst e
      rw [un_le (Nat.le_refl _), e1, upd_s]
    · exact un_self t5 (by omega)
theorem vi_16 {lit : Int32} (h : 1 ≤ lit.toInt ∧ lit.toInt ≤ 16) : 1 ≤ vx lit ∧ vx lit ≤ 16 := (vx_of h).2
theorem vi_n16 {lit : Int32} (h1 : ¬ 0 ≤ lit) (h2 : ¬ lit < -16) : 1 ≤ vx lit ∧ vx lit ≤ 16 := by
  rw [i_le, i_0] at h1
  rw [i_lt, show (-16 : Int32).toInt = -16 by decide] at h2
  unfold vx
  omega
theorem vi_no1 {lit : Int32} (h : ¬ (1 ≤ lit.toInt ∧ lit.toInt ≤ 16)) (h1 : 0 ≤ lit) : ¬ (1 ≤ vx lit ∧ vx lit ≤ 16) := by
  rw [i_le, i_0] at h1
  unfold vx
  omega
theorem vi_no2 {lit : Int32} (h1 : ¬ 0 ≤ lit) (h2 : lit < -16) : ¬ (1 ≤ vx lit ∧ vx lit ≤ 16) := by
  rw [i_le, i_0] at h1
  rw [i_lt, show (-16 : Int32).toInt = -16 by decide] at h2
  unfold vx
  omega
/-- behind the 0 of a broken tree -/
def tuA (vl tr tc : Nat → Int32) (len : Nat) (best bb : Int32) (log : Nat → Int32) (ll : Nat) : SA :=
  match ft vl tr tc len with
  | some i => (upd (un tr i len vl) (tvn tr i) 1, tr, tc, i + 1, best, bb, log, ll, false, false)
  | none =>
    if ll = 400 then (vl, tr, tc, len, best, bb, log, ll, false, true)
    else if ll + 1 = 400 then (vl, tr, tc, len, best, bb, upd log ll best, ll + 1, false, true)
    else (vl, tr, tc, len, best, bb, upd (upd log ll best) (ll + 1) bb, ll + 2, true, false)
theorem gbA_t {vl tr tc : Nat → Int32} {len : Nat} {best bb : Int32} {log : Nat → Int32} {ll : Nat} (h : ll < 400) : gbA vl tr tc len best bb log ll = tuA vl tr tc len best bb (upd log ll 0) (ll + 1) := by
  unfold gbA tuA
  rw [if_neg (by omega)]
  all_goals (cases ft vl tr tc len <;> rfl)
theorem tuA_s {vl tr tc : Nat → Int32} {len : Nat} {best bb : Int32} {log : Nat → Int32} {ll i : Nat} (h2 : ft vl tr tc len = some i) : tuA vl tr tc len best bb log ll = (upd (un tr i len vl) (tvn tr i) 1, tr, tc, i + 1, best, bb, log, ll, false, false) := by
  unfold tuA
  rw [h2]
theorem tuA_n {vl tr tc : Nat → Int32} {len : Nat} {best bb : Int32} {log : Nat → Int32} {ll : Nat} (h2 : ft vl tr tc len = none) : tuA vl tr tc len best bb log ll = if ll = 400 then (vl, tr, tc, len, best, bb, log, ll, false, true) else if ll + 1 = 400 then (vl, tr, tc, len, best, bb, upd log ll best, ll + 1, false, true) else (vl, tr, tc, len, best, bb, upd (upd log ll best) (ll + 1) bb, ll + 2, true, false) := by
  unfold tuA
  rw [h2]
/-- the class's search -/
def SC (P : Nat → Nat → Int32) (n : Nat) (bg : Bool) (z : SA) (I : Nat → Int32) (F : Nat → Nat → Int32) (B0 : BS) : Prop := I 14 = nI z.2.2.2.2.2.2.2.1 ∧ I 15 = z.2.2.2.2.1 ∧ I 16 = z.2.2.2.2.2.1 ∧ I 17 = bZ z.2.2.2.2.2.2.2.2.1 ∧ I 18 = bZ z.2.2.2.2.2.2.2.2.2 ∧ F 3 = z.2.2.2.2.2.2.1 ∧
  (z.2.2.2.2.2.2.2.2.1 = false → z.2.2.2.2.2.2.2.2.2 = false → (∀ i, z.2.2.1 i = 0 ∨ z.2.2.1 i = 1) ∧ B0.2.1 = z.2.1 ∧
    (bg = true → BI P n B0 z.2.2.2.1 ∧ B0.1 = z.1 ∧ BL B0 (limS z.2.2.2.2.1) ∧ ∃ ch, I 12 = nI ch ∧ CHR (F 0) (F 1) (F 2) z.1 z.2.1 z.2.2.1 z.2.2.2.1 ch) ∧
    (bg = false → z.1 = (fun _ => -1) ∧ z.2.2.2.1 = 0 ∧ I 12 = nI 0 ∧ limS z.2.2.2.2.1 = none))
theorem d_C_isVariable_0 : decode b_C_isVariable 0 = .ok (.iload_n 0, 1) := by decide +kernel
theorem d_C_isVariable_1 : decode b_C_isVariable 1 = .ok (.ifCond .le 13, 3) := by decide +kernel
theorem d_C_isVariable_4 : decode b_C_isVariable 4 = .ok (.iload_n 0, 1) := by decide +kernel
theorem d_C_isVariable_5 : decode b_C_isVariable 5 = .ok (.bipush 16, 2) := by decide +kernel
theorem d_C_isVariable_7 : decode b_C_isVariable 7 = .ok (.if_icmp .gt 7, 3) := by decide +kernel
theorem d_C_isVariable_10 : decode b_C_isVariable 10 = .ok (.iconst 1, 1) := by decide +kernel
theorem d_C_isVariable_11 : decode b_C_isVariable 11 = .ok (.goto 4, 3) := by decide +kernel
theorem d_C_isVariable_14 : decode b_C_isVariable 14 = .ok (.iconst 0, 1) := by decide +kernel
theorem d_C_isVariable_15 : decode b_C_isVariable 15 = .ok (.ireturn, 1) := by decide +kernel
set_option maxHeartbeats 4000000 in
set_option maxRecDepth 100000 in
theorem c_C_isVariable (l : Launch) (D : va_G) (g : Nat → ClassId) (v : Int32) : Ct l D g y_C_isVariable b_C_isVariable 1 (some .boolean) 0 [.int v] [] (fun r w => r = some (.int (bZ (decide (1 ≤ v.toInt ∧ v.toInt ≤ 16)))) ∧ w = []) := by
  refine Ct.of (lv := [(0, _)]) (by decide) rfl (Nat.le_of_ble_eq_true rfl) rfl ?_
  intro G K
  refine g_iload_n K 0 d_C_isVariable_0 rfl ?_
  refine g_if_le K (tgt := 14) d_C_isVariable_1 (by decide) (fun c1 => ?_) (fun c1 => ?_)
  · refine g_iconst K (v := 0) d_C_isVariable_14 (by decide) ?_
    refine g_zret K rfl d_C_isVariable_15 (?_)
    first | (refine ⟨rz_t ?_, rfl⟩; rw [i_le, i_0] at c1; rw [i_lt, k_16] at c7; omega) | (refine ⟨rz_f (fun h => ?_), rfl⟩; rw [i_le, i_0] at c1; first | omega | (rw [i_lt, k_16] at c7; omega))
  · refine g_iload_n K 0 d_C_isVariable_4 rfl ?_
    refine g_bipush K (v := 16) d_C_isVariable_5 (by decide) ?_
    refine g_icmp_gt K (tgt := 14) d_C_isVariable_7 (by decide) (fun c7 => ?_) (fun c7 => ?_)
    · refine g_iconst K (v := 0) d_C_isVariable_14 (by decide) ?_
      refine g_zret K rfl d_C_isVariable_15 (?_)
      first | (refine ⟨rz_t ?_, rfl⟩; rw [i_le, i_0] at c1; rw [i_lt, k_16] at c7; omega) | (refine ⟨rz_f (fun h => ?_), rfl⟩; rw [i_le, i_0] at c1; first | omega | (rw [i_lt, k_16] at c7; omega))
    · refine g_iconst K (v := 1) d_C_isVariable_10 (by decide) ?_
      refine g_goto K (tgt := 15) d_C_isVariable_11 (by decide) ?_
      refine g_zret K rfl d_C_isVariable_15 (?_)
      first | (refine ⟨rz_t ?_, rfl⟩; rw [i_le, i_0] at c1; rw [i_lt, k_16] at c7; omega) | (refine ⟨rz_f (fun h => ?_), rfl⟩; rw [i_le, i_0] at c1; first | omega | (rw [i_lt, k_16] at c7; omega))
theorem d_C_setCost_0 : decode b_C_setCost 0 = .ok (.aload_n 0, 1) := by decide +kernel
theorem d_C_setCost_1 : decode b_C_setCost 1 = .ok (.getfield 66, 3) := by decide +kernel
theorem d_C_setCost_4 : decode b_C_setCost 4 = .ok (.ifCond .ne 21, 3) := by decide +kernel
theorem d_C_setCost_7 : decode b_C_setCost 7 = .ok (.iload_n 1, 1) := by decide +kernel
theorem d_C_setCost_8 : decode b_C_setCost 8 = .ok (.invokestatic 70, 3) := by decide +kernel
theorem d_C_setCost_11 : decode b_C_setCost 11 = .ok (.ifCond .eq 14, 3) := by decide +kernel
theorem d_C_setCost_14 : decode b_C_setCost 14 = .ok (.iload_n 2, 1) := by decide +kernel
theorem d_C_setCost_15 : decode b_C_setCost 15 = .ok (.ifCond .lt 10, 3) := by decide +kernel
theorem d_C_setCost_18 : decode b_C_setCost 18 = .ok (.iload_n 2, 1) := by decide +kernel
theorem d_C_setCost_19 : decode b_C_setCost 19 = .ok (.sipush 32767, 3) := by decide +kernel
theorem d_C_setCost_22 : decode b_C_setCost 22 = .ok (.if_icmp .le 5, 3) := by decide +kernel
theorem d_C_setCost_25 : decode b_C_setCost 25 = .ok (.iconst (-1), 1) := by decide +kernel
theorem d_C_setCost_26 : decode b_C_setCost 26 = .ok (.ireturn, 1) := by decide +kernel
theorem d_C_setCost_27 : decode b_C_setCost 27 = .ok (.aload_n 0, 1) := by decide +kernel
theorem d_C_setCost_28 : decode b_C_setCost 28 = .ok (.getfield 9, 3) := by decide +kernel
theorem d_C_setCost_31 : decode b_C_setCost 31 = .ok (.iload_n 1, 1) := by decide +kernel
theorem d_C_setCost_32 : decode b_C_setCost 32 = .ok (.iload_n 2, 1) := by decide +kernel
theorem d_C_setCost_33 : decode b_C_setCost 33 = .ok (.iastore, 1) := by decide +kernel
theorem d_C_setCost_34 : decode b_C_setCost 34 = .ok (.iconst 0, 1) := by decide +kernel
theorem d_C_setCost_35 : decode b_C_setCost 35 = .ok (.ireturn, 1) := by decide +kernel
set_option maxHeartbeats 4000000 in
set_option maxRecDepth 100000 in
theorem c_C_setCost (l : Launch) (D : va_G) (g : Nat → ClassId) (a : Nat → Nat) (P : Nat → Nat → Int32) (I : Nat → Int32) (F : Nat → Nat → Int32) (B0 B1 : BS) {bg : Bool} (h7 : I 7 = bZ bg) (v c : Int32) : Ct l D g y_C_setCost b_C_setCost 3 (some .int) 1 [.ref (a 0), .int v, .int c] (CW a g P I F B0 B1) (fun r w => (okC bg v c = true ∧ r = some (.int 0) ∧ w = CW a g (PC P v c) I F B0 B1) ∨ (okC bg v c = false ∧ r = some (.int (-1)) ∧ w = CW a g P I F B0 B1)) := by
  refine Ct.of (lv := [(0, _), (1, _), (2, _)]) (by decide) rfl (Nat.le_of_ble_eq_true rfl) rfl ?_
  intro G K
  have J25 : (okC bg v c = false) → G 25 [(0, .ref (a 0)), (1, .int v), (2, .int c)] [] (CW a g P I F B0 B1) := by
    intro  hN
    refine g_iconst K (v := -1) d_C_setCost_25 (by decide) ?_
    refine g_iret K d_C_setCost_26 (Or.inr ⟨hN, rfl, rfl⟩)
  refine g_aload_n K 0 d_C_setCost_0 rfl ?_
  refine gC_get K 7 fl_C_66 (by decide) rfl d_C_setCost_1 ?_
  refine g_if_ne K (tgt := 25) d_C_setCost_4 (by decide) (fun c4 => ?_) (fun c4 => ?_)
  · refine g_lv K [0, 1, 2] rfl (J25 (okC_n1 (bZ_t (fun z => c4 (h7.trans z)))))
  · have e1 : bg = false := bZ_f (h7.symm.trans c4)
    refine g_iload_n K 1 d_C_setCost_7 rfl ?_
    refine g_callS K (c_C_isVariable l D g v) mf_C_isVariable is_C_isVariable ml_C_70 (by decide) (Nat.le_of_ble_eq_true rfl) d_C_setCost_8 (fun v hq => ?_) rfl
    obtain ⟨rfl, -⟩ := hq
    refine g_ri ?_
    refine g_if_eq K (tgt := 25) d_C_setCost_11 (by decide) (fun c11 => ?_) (fun c11 => ?_)
    · refine g_lv K [0, 1, 2] rfl (J25 (okC_n2 (bZ_f c11)))
    · have e2 := of_decide_eq_true (bZ_t c11)
      refine g_iload_n K 2 d_C_setCost_14 rfl ?_
      refine g_if_lt K (tgt := 25) d_C_setCost_15 (by decide) (fun c15 => ?_) (fun c15 => ?_)
      · have e3 : c.toInt < 0 := by rw [i_lt, i_0] at c15; exact c15
        refine g_lv K [0, 1, 2] rfl (J25 (okC_n3 (decide_eq_false (fun z => by omega))))
      · have e3 : 0 ≤ c.toInt := by rw [i_lt, i_0] at c15; omega
        refine g_iload_n K 2 d_C_setCost_18 rfl ?_
        refine g_sipush K (v := 32767) d_C_setCost_19 (by decide) ?_
        refine g_icmp_le K (tgt := 27) d_C_setCost_22 (by decide) (fun c22 => ?_) (fun c22 => ?_)
        · have e4 : c.toInt ≤ 32767 := by rw [i_le, k_32767] at c22; exact c22
          have e5 := vx_of e2
          refine g_aload_n K 0 d_C_setCost_27 rfl ?_
          refine gC_get K 0 fl_C_9 (by decide) rfl d_C_setCost_28 ?_
          refine g_iload_n K 1 d_C_setCost_31 rfl ?_
          refine g_iload_n K 2 d_C_setCost_32 rfl ?_
          refine gC_ast_costs K (vx v) e5.1 (by omega) d_C_setCost_33 ?_
          refine g_iconst K (v := 0) d_C_setCost_34 (by decide) ?_
          refine g_iret K d_C_setCost_35 (Or.inl ⟨okC_y e1 e2 ⟨e3, e4⟩, rfl, rfl⟩)
        · have e4 : ¬ c.toInt ≤ 32767 := by rw [i_le, k_32767] at c22; exact c22
          refine g_lv K [0, 1, 2] rfl (J25 (okC_n3 (decide_eq_false (fun z => e4 z.2))))
theorem d_C_term_0 : decode b_C_term 0 = .ok (.aload_n 0, 1) := by decide +kernel
theorem d_C_term_1 : decode b_C_term 1 = .ok (.getfield 66, 3) := by decide +kernel
theorem d_C_term_4 : decode b_C_term 4 = .ok (.ifCond .ne 53, 3) := by decide +kernel
theorem d_C_term_7 : decode b_C_term 7 = .ok (.aload_n 0, 1) := by decide +kernel
theorem d_C_term_8 : decode b_C_term 8 = .ok (.getfield 74, 3) := by decide +kernel
theorem d_C_term_11 : decode b_C_term 11 = .ok (.bipush 20, 2) := by decide +kernel
theorem d_C_term_13 : decode b_C_term 13 = .ok (.if_icmp .ge 44, 3) := by decide +kernel
theorem d_C_term_16 : decode b_C_term 16 = .ok (.aload_n 0, 1) := by decide +kernel
theorem d_C_term_17 : decode b_C_term 17 = .ok (.getfield 77, 3) := by decide +kernel
theorem d_C_term_20 : decode b_C_term 20 = .ok (.bipush 120, 2) := by decide +kernel
theorem d_C_term_22 : decode b_C_term 22 = .ok (.if_icmp .ge 35, 3) := by decide +kernel
theorem d_C_term_25 : decode b_C_term 25 = .ok (.iload_n 1, 1) := by decide +kernel
theorem d_C_term_26 : decode b_C_term 26 = .ok (.ifCond .le 31, 3) := by decide +kernel
theorem d_C_term_29 : decode b_C_term 29 = .ok (.iload_n 1, 1) := by decide +kernel
theorem d_C_term_30 : decode b_C_term 30 = .ok (.sipush 32767, 3) := by decide +kernel
theorem d_C_term_33 : decode b_C_term 33 = .ok (.if_icmp .gt 24, 3) := by decide +kernel
theorem d_C_term_36 : decode b_C_term 36 = .ok (.iload_n 2, 1) := by decide +kernel
theorem d_C_term_37 : decode b_C_term 37 = .ok (.invokestatic 70, 3) := by decide +kernel
theorem d_C_term_40 : decode b_C_term 40 = .ok (.ifCond .ne 13, 3) := by decide +kernel
theorem d_C_term_43 : decode b_C_term 43 = .ok (.iload_n 2, 1) := by decide +kernel
theorem d_C_term_44 : decode b_C_term 44 = .ok (.ifCond .ge 13, 3) := by decide +kernel
theorem d_C_term_47 : decode b_C_term 47 = .ok (.iload_n 2, 1) := by decide +kernel
theorem d_C_term_48 : decode b_C_term 48 = .ok (.bipush (-16), 2) := by decide +kernel
theorem d_C_term_50 : decode b_C_term 50 = .ok (.if_icmp .lt 7, 3) := by decide +kernel
theorem d_C_term_53 : decode b_C_term 53 = .ok (.iconst 1, 1) := by decide +kernel
theorem d_C_term_54 : decode b_C_term 54 = .ok (.goto 4, 3) := by decide +kernel
theorem d_C_term_57 : decode b_C_term 57 = .ok (.iconst 0, 1) := by decide +kernel
theorem d_C_term_58 : decode b_C_term 58 = .ok (.istore_n 3, 1) := by decide +kernel
theorem d_C_term_59 : decode b_C_term 59 = .ok (.aload_n 0, 1) := by decide +kernel
theorem d_C_term_60 : decode b_C_term 60 = .ok (.getfield 13, 3) := by decide +kernel
theorem d_C_term_63 : decode b_C_term 63 = .ok (.aload_n 0, 1) := by decide +kernel
theorem d_C_term_64 : decode b_C_term 64 = .ok (.getfield 74, 3) := by decide +kernel
theorem d_C_term_67 : decode b_C_term 67 = .ok (.iaload, 1) := by decide +kernel
theorem d_C_term_68 : decode b_C_term 68 = .ok (.istore 4, 2) := by decide +kernel
theorem d_C_term_70 : decode b_C_term 70 = .ok (.iload 4, 2) := by decide +kernel
theorem d_C_term_72 : decode b_C_term 72 = .ok (.aload_n 0, 1) := by decide +kernel
theorem d_C_term_73 : decode b_C_term 73 = .ok (.getfield 77, 3) := by decide +kernel
theorem d_C_term_76 : decode b_C_term 76 = .ok (.if_icmp .ge 42, 3) := by decide +kernel
theorem d_C_term_79 : decode b_C_term 79 = .ok (.iload_n 3, 1) := by decide +kernel
theorem d_C_term_80 : decode b_C_term 80 = .ok (.ifCond .eq 38, 3) := by decide +kernel
theorem d_C_term_83 : decode b_C_term 83 = .ok (.aload_n 0, 1) := by decide +kernel
theorem d_C_term_84 : decode b_C_term 84 = .ok (.getfield 22, 3) := by decide +kernel
theorem d_C_term_87 : decode b_C_term 87 = .ok (.iload 4, 2) := by decide +kernel
theorem d_C_term_89 : decode b_C_term 89 = .ok (.iaload, 1) := by decide +kernel
theorem d_C_term_90 : decode b_C_term 90 = .ok (.iload_n 2, 1) := by decide +kernel
theorem d_C_term_91 : decode b_C_term 91 = .ok (.if_icmp .eq 19, 3) := by decide +kernel
theorem d_C_term_94 : decode b_C_term 94 = .ok (.aload_n 0, 1) := by decide +kernel
theorem d_C_term_95 : decode b_C_term 95 = .ok (.getfield 22, 3) := by decide +kernel
theorem d_C_term_98 : decode b_C_term 98 = .ok (.iload 4, 2) := by decide +kernel
theorem d_C_term_100 : decode b_C_term 100 = .ok (.iaload, 1) := by decide +kernel
theorem d_C_term_101 : decode b_C_term 101 = .ok (.iload_n 2, 1) := by decide +kernel
theorem d_C_term_102 : decode b_C_term 102 = .ok (.ineg, 1) := by decide +kernel
theorem d_C_term_103 : decode b_C_term 103 = .ok (.if_icmp .eq 7, 3) := by decide +kernel
theorem d_C_term_106 : decode b_C_term 106 = .ok (.iconst 1, 1) := by decide +kernel
theorem d_C_term_107 : decode b_C_term 107 = .ok (.goto 4, 3) := by decide +kernel
theorem d_C_term_110 : decode b_C_term 110 = .ok (.iconst 0, 1) := by decide +kernel
theorem d_C_term_111 : decode b_C_term 111 = .ok (.istore_n 3, 1) := by decide +kernel
theorem d_C_term_112 : decode b_C_term 112 = .ok (.iinc 4 1, 3) := by decide +kernel
theorem d_C_term_115 : decode b_C_term 115 = .ok (.goto (-45), 3) := by decide +kernel
theorem d_C_term_118 : decode b_C_term 118 = .ok (.iload_n 3, 1) := by decide +kernel
theorem d_C_term_119 : decode b_C_term 119 = .ok (.ifCond .ne 5, 3) := by decide +kernel
theorem d_C_term_122 : decode b_C_term 122 = .ok (.iconst (-1), 1) := by decide +kernel
theorem d_C_term_123 : decode b_C_term 123 = .ok (.ireturn, 1) := by decide +kernel
theorem d_C_term_124 : decode b_C_term 124 = .ok (.aload_n 0, 1) := by decide +kernel
theorem d_C_term_125 : decode b_C_term 125 = .ok (.getfield 19, 3) := by decide +kernel
theorem d_C_term_128 : decode b_C_term 128 = .ok (.aload_n 0, 1) := by decide +kernel
theorem d_C_term_129 : decode b_C_term 129 = .ok (.getfield 77, 3) := by decide +kernel
theorem d_C_term_132 : decode b_C_term 132 = .ok (.iload_n 1, 1) := by decide +kernel
theorem d_C_term_133 : decode b_C_term 133 = .ok (.iastore, 1) := by decide +kernel
theorem d_C_term_134 : decode b_C_term 134 = .ok (.aload_n 0, 1) := by decide +kernel
theorem d_C_term_135 : decode b_C_term 135 = .ok (.getfield 22, 3) := by decide +kernel
theorem d_C_term_138 : decode b_C_term 138 = .ok (.aload_n 0, 1) := by decide +kernel
theorem d_C_term_139 : decode b_C_term 139 = .ok (.getfield 77, 3) := by decide +kernel
theorem d_C_term_142 : decode b_C_term 142 = .ok (.iload_n 2, 1) := by decide +kernel
theorem d_C_term_143 : decode b_C_term 143 = .ok (.iastore, 1) := by decide +kernel
theorem d_C_term_144 : decode b_C_term 144 = .ok (.aload_n 0, 1) := by decide +kernel
theorem d_C_term_145 : decode b_C_term 145 = .ok (.dup, 1) := by decide +kernel
theorem d_C_term_146 : decode b_C_term 146 = .ok (.getfield 77, 3) := by decide +kernel
theorem d_C_term_149 : decode b_C_term 149 = .ok (.iconst 1, 1) := by decide +kernel
theorem d_C_term_150 : decode b_C_term 150 = .ok (.iadd, 1) := by decide +kernel
theorem d_C_term_151 : decode b_C_term 151 = .ok (.putfield 77, 3) := by decide +kernel
theorem d_C_term_154 : decode b_C_term 154 = .ok (.iconst 0, 1) := by decide +kernel
theorem d_C_term_155 : decode b_C_term 155 = .ok (.ireturn, 1) := by decide +kernel
set_option maxHeartbeats 4000000 in
set_option maxRecDepth 100000 in
theorem c_C_term (l : Launch) (D : va_G) (g : Nat → ClassId) (a : Nat → Nat) (P : Nat → Nat → Int32) (I : Nat → Int32) (F : Nat → Nat → Int32) (B0 B1 : BS) {n k : Nat} (hp : PWF P n k) {bg : Bool} (h7 : I 7 = bZ bg) (h5 : I 5 = nI n) (h6 : I 6 = nI k) (cf lit : Int32) : Ct l D g y_C_term b_C_term 5 (some .int) 1 [.ref (a 0), .int cf, .int lit] (CW a g P I F B0 B1) (fun r w => (okT P bg n k cf lit = true ∧ r = some (.int 0) ∧ w = CW a g (PT P k cf lit) (upd I 6 (nI (k + 1))) F B0 B1) ∨ (okT P bg n k cf lit = false ∧ r = some (.int (-1)) ∧ w = CW a g P I F B0 B1)) := by
  refine Ct.of (lv := [(0, _), (1, _), (2, _)]) (by decide) rfl (Nat.le_of_ble_eq_true rfl) rfl ?_
  intro G K
  have J70 : ∀ (N : Nat) (t : Nat) (g1 : Bool), k - t < N → (t ≤ 120) → (g1 = true → okT0 bg n k cf lit = true) → ((g1 && !an (dupf P lit) t (k - t)) = okT P bg n k cf lit) → G 70 [(0, .ref (a 0)), (1, .int cf), (2, .int lit), (3, .int (bZ g1)), (4, .int (nI t))] [] (CW a g P I F B0 B1) := by
    intro N
    induction N with
    | zero => intro t g1 hm; exact absurd hm (Nat.not_lt_zero _)
    | succ N ih70 =>
      intro t g1 hm70 ht h0 hG
      have J118 : (g1 = okT P bg n k cf lit) → G 118 [(0, .ref (a 0)), (1, .int cf), (2, .int lit), (3, .int (bZ g1))] [] (CW a g P I F B0 B1) := by
        intro  hE
        refine g_iload_n K 3 d_C_term_118 rfl ?_
        refine g_if_ne K (tgt := 124) d_C_term_119 (by decide) (fun c119 => ?_) (fun c119 => ?_)
        · have e128 := hE.symm.trans (bZ_t c119)
          obtain ⟨z1, z2, z3, z4, z5⟩ := okT0_i.mp ((Bool.and_eq_true _ _ ▸ e128 : _ ∧ _).1)
          refine g_aload_n K 0 d_C_term_124 rfl ?_
          refine gC_get K 3 fl_C_19 (by decide) rfl d_C_term_125 ?_
          refine g_aload_n K 0 d_C_term_128 rfl ?_
          refine gC_get K 6 fl_C_77 (by decide) rfl d_C_term_129 ?_
          refine g_iload_n K 1 d_C_term_132 rfl ?_
          refine gC_ast_coefficients K (k) h6 z3 d_C_term_133 ?_
          refine g_aload_n K 0 d_C_term_134 rfl ?_
          refine gC_get K 4 fl_C_22 (by decide) rfl d_C_term_135 ?_
          refine g_aload_n K 0 d_C_term_138 rfl ?_
          refine gC_get K 6 fl_C_77 (by decide) rfl d_C_term_139 ?_
          refine g_iload_n K 2 d_C_term_142 rfl ?_
          refine gC_ast_literals K (k) h6 z3 d_C_term_143 ?_
          refine g_aload_n K 0 d_C_term_144 rfl ?_
          refine g_dup K d_C_term_145 rfl ?_
          refine gC_get K 6 fl_C_77 (by decide) rfl d_C_term_146 ?_
          refine g_iconst K (v := 1) d_C_term_149 (by decide) ?_
          refine g_iadd K d_C_term_150 ?_
          refine g_top K (show _ = nI (k + 1) from (congrArg (· + 1) h6).trans (nI_1 k)) ?_
          refine gC_put_terms K fl_C_77 d_C_term_151 ?_
          refine g_iconst K (v := 0) d_C_term_154 (by decide) ?_
          refine g_iret K d_C_term_155 (Or.inl ⟨e128, rfl, rfl⟩)
        · have e127 := hE.symm.trans (bZ_f c119)
          refine g_iconst K (v := -1) d_C_term_122 (by decide) ?_
          refine g_iret K d_C_term_123 (Or.inr ⟨e127, rfl, rfl⟩)
      have J111 : ∀ (g2 : Bool), (t < k) → (g2 = true → okT0 bg n k cf lit = true) → ((g2 && !an (dupf P lit) (t + 1) (k - (t + 1))) = okT P bg n k cf lit) → G 111 [(0, .ref (a 0)), (1, .int cf), (2, .int lit), (3, .int (bZ g1)), (4, .int (nI t))] [.int (bZ g2)] (CW a g P I F B0 B1) := by
        intro g2 h76 h02 hG2
        refine g_istore_n (lv' := [(3, _), (0, _), (1, _), (2, _), (4, _)]) K d_C_term_111 (by decide) rfl ?_
        refine g_iinc (v := nI (t + 1)) (lv' := [(4, _), (3, _), (0, _), (1, _), (2, _)]) K 4 d_C_term_112 rfl (nI_1 t) (by decide) rfl ?_
        refine g_goto K (tgt := 70) d_C_term_115 (by decide) ?_
        refine g_lv K [2, 3, 4, 1, 0] rfl (ih70 (t + 1) g2 (by omega) (by have := hp.2.1; omega) h02 hG2)
      have J110 : (t < k) → (false = okT P bg n k cf lit) → G 110 [(0, .ref (a 0)), (1, .int cf), (2, .int lit), (3, .int (bZ g1)), (4, .int (nI t))] [] (CW a g P I F B0 B1) := by
        intro  h76 hG2
        refine g_iconst K (v := 0) d_C_term_110 (by decide) ?_
        refine g_lv K [0, 1, 2, 3, 4] rfl (J111 false h76 (fun e => by cases e) hG2)
      refine g_iload K 4 d_C_term_70 rfl ?_
      refine g_aload_n K 0 d_C_term_72 rfl ?_
      refine gC_get K 6 fl_C_77 (by decide) rfl d_C_term_73 ?_
      have hk2 := hp.2.1
      refine g_top K h6 ?_
      refine g_icmp_ge K (tgt := 118) d_C_term_76 (by decide) (fun c76 => ?_) (fun c76 => ?_)
      · have h76 := (nI_leI (by omega) (by omega)).mp c76
        refine g_lv K [0, 1, 2, 3] rfl (J118 (by rw [← hG, an_e h76, Bool.not_false, Bool.and_true]))
      · have h76 : t < k := Nat.lt_of_not_le (fun h => c76 ((nI_leI (by omega) (by omega)).mpr h))
        refine g_iload_n K 3 d_C_term_79 rfl ?_
        refine g_if_eq K (tgt := 118) d_C_term_80 (by decide) (fun c80 => ?_) (fun c80 => ?_)
        · have e1 := bZ_f c80
          refine g_lv K [0, 1, 2, 3] rfl (J118 (by rw [← hG, e1]; rfl))
        · have e1 := bZ_t c80
          refine g_aload_n K 0 d_C_term_83 rfl ?_
          refine gC_get K 4 fl_C_22 (by decide) rfl d_C_term_84 ?_
          refine g_iload K 4 d_C_term_87 rfl ?_
          refine g_iald K 5 (t) rfl rfl (by omega) d_C_term_89 ?_
          refine g_iload_n K 2 d_C_term_90 rfl ?_
          refine g_icmp_eq K (tgt := 110) d_C_term_91 (by decide) (fun c91 => ?_) (fun c91 => ?_)
          · refine g_lv K [0, 1, 2, 3, 4] rfl (J110 h76 (by rw [← hG, e1, an_s h76, show dupf P lit t = true from decide_eq_true (Or.inl c91)]; rfl))
          · refine g_aload_n K 0 d_C_term_94 rfl ?_
            refine gC_get K 4 fl_C_22 (by decide) rfl d_C_term_95 ?_
            refine g_iload K 4 d_C_term_98 rfl ?_
            refine g_iald K 5 (t) rfl rfl (by omega) d_C_term_100 ?_
            refine g_iload_n K 2 d_C_term_101 rfl ?_
            refine g_ineg K d_C_term_102 ?_
            refine g_icmp_eq K (tgt := 110) d_C_term_103 (by decide) (fun c103 => ?_) (fun c103 => ?_)
            · refine g_lv K [0, 1, 2, 3, 4] rfl (J110 h76 (by rw [← hG, e1, an_s h76, show dupf P lit t = true from decide_eq_true (Or.inr c103)]; rfl))
            · refine g_iconst K (v := 1) d_C_term_106 (by decide) ?_
              refine g_goto K (tgt := 111) d_C_term_107 (by decide) ?_
              refine g_lv K [0, 1, 2, 3, 4] rfl (J111 true h76 (fun _ => h0 e1) (by rw [← hG, e1, an_s h76, show dupf P lit t = false from decide_eq_false (fun z => z.elim c91 c103)]; rfl))
  have J58 : ∀ (g0 : Bool), (g0 = okT0 bg n k cf lit) → G 58 [(0, .ref (a 0)), (1, .int cf), (2, .int lit)] [.int (bZ g0)] (CW a g P I F B0 B1) := by
    intro g0 hg0
    refine g_istore_n (lv' := [(3, _), (0, _), (1, _), (2, _)]) K d_C_term_58 (by decide) rfl ?_
    refine g_aload_n K 1 d_C_term_59 rfl ?_
    refine gC_get K 1 fl_C_13 (by decide) rfl d_C_term_60 ?_
    refine g_aload_n K 1 d_C_term_63 rfl ?_
    refine gC_get K 5 fl_C_74 (by decide) rfl d_C_term_64 ?_
    refine g_iald K 2 (n) rfl h5 (by have := hp.1; omega) d_C_term_67 ?_
    refine g_top K (hp.2.2.1 n (Nat.le_refl n)).1 ?_
    refine g_istore (lv' := [(4, _), (3, _), (0, _), (1, _), (2, _)]) K d_C_term_68 (by decide) rfl ?_
    refine g_lv K [2, 3, 4, 1, 0] rfl (J70 _ (stn P n) g0 (Nat.lt_succ_self _) (by have := (hp.2.2.1 n (Nat.le_refl n)).2; have := hp.2.1; omega) (fun e => hg0.symm.trans e) (by rw [hg0]; rfl))
  have J57 : (false = okT0 bg n k cf lit) → G 57 [(0, .ref (a 0)), (1, .int cf), (2, .int lit)] [] (CW a g P I F B0 B1) := by
    intro  hN
    refine g_iconst K (v := 0) d_C_term_57 (by decide) ?_
    refine g_lv K [0, 1, 2] rfl (J58 false hN)
  have J53 : (okT0 bg n k cf lit = true) → G 53 [(0, .ref (a 0)), (1, .int cf), (2, .int lit)] [] (CW a g P I F B0 B1) := by
    intro  hY
    refine g_iconst K (v := 1) d_C_term_53 (by decide) ?_
    refine g_goto K (tgt := 58) d_C_term_54 (by decide) ?_
    refine g_lv K [0, 1, 2] rfl (J58 true hY.symm)
  refine g_aload_n K 0 d_C_term_0 rfl ?_
  refine gC_get K 7 fl_C_66 (by decide) rfl d_C_term_1 ?_
  refine g_if_ne K (tgt := 57) d_C_term_4 (by decide) (fun c4 => ?_) (fun c4 => ?_)
  · refine g_lv K [0, 1, 2] rfl (J57 (okT0_n (fun z => by rw [z.1] at h7; exact c4 h7)))
  · have e4 : bg = false := bZ_f (h7.symm.trans c4)
    refine g_aload_n K 0 d_C_term_7 rfl ?_
    refine gC_get K 5 fl_C_74 (by decide) rfl d_C_term_8 ?_
    refine g_bipush K (v := 20) d_C_term_11 (by decide) ?_
    refine g_top K nI_20 ?_
    refine g_icmp_ge K (tgt := 57) d_C_term_13 (by decide) (fun c13 => ?_) (fun c13 => ?_)
    · have h13 : ¬ n < 20 := by rw [h5] at c13; have := (nI_leI (by omega) (by have := hp.1; omega)).mp c13; omega
      refine g_lv K [0, 1, 2] rfl (J57 (okT0_n (fun z => h13 z.2.1)))
    · have h13 : n < 20 := by rw [h5] at c13; exact Nat.lt_of_not_le (fun h => c13 ((nI_leI (by omega) (by have := hp.1; omega)).mpr h))
      refine g_aload_n K 0 d_C_term_16 rfl ?_
      refine gC_get K 6 fl_C_77 (by decide) rfl d_C_term_17 ?_
      refine g_bipush K (v := 120) d_C_term_20 (by decide) ?_
      refine g_top K nI_120 ?_
      refine g_icmp_ge K (tgt := 57) d_C_term_22 (by decide) (fun c22 => ?_) (fun c22 => ?_)
      · have h22 : ¬ k < 120 := by rw [h6] at c22; have := (nI_leI (by omega) (by have := hp.2.1; omega)).mp c22; omega
        refine g_lv K [0, 1, 2] rfl (J57 (okT0_n (fun z => h22 z.2.2.1)))
      · have h22 : k < 120 := by rw [h6] at c22; exact Nat.lt_of_not_le (fun h => c22 ((nI_leI (by omega) (by have := hp.2.1; omega)).mpr h))
        refine g_iload_n K 1 d_C_term_25 rfl ?_
        refine g_if_le K (tgt := 57) d_C_term_26 (by decide) (fun c26 => ?_) (fun c26 => ?_)
        · have e26 : ¬ 1 ≤ cf.toInt := by rw [i_le, i_0] at c26; omega
          refine g_lv K [0, 1, 2] rfl (J57 (okT0_n (fun z => e26 z.2.2.2.1.1)))
        · have e26 : 1 ≤ cf.toInt := by rw [i_le, i_0] at c26; omega
          refine g_iload_n K 1 d_C_term_29 rfl ?_
          refine g_sipush K (v := 32767) d_C_term_30 (by decide) ?_
          refine g_icmp_gt K (tgt := 57) d_C_term_33 (by decide) (fun c33 => ?_) (fun c33 => ?_)
          · have e33 : ¬ cf.toInt ≤ 32767 := by rw [i_lt, k_32767] at c33; omega
            refine g_lv K [0, 1, 2] rfl (J57 (okT0_n (fun z => e33 z.2.2.2.1.2)))
          · have e33 : cf.toInt ≤ 32767 := by rw [i_lt, k_32767] at c33; omega
            refine g_iload_n K 2 d_C_term_36 rfl ?_
            refine g_callS K (c_C_isVariable l D g lit) mf_C_isVariable is_C_isVariable ml_C_70 (by decide) (Nat.le_of_ble_eq_true rfl) d_C_term_37 (fun v hq => ?_) rfl
            obtain ⟨rfl, -⟩ := hq
            refine g_ri ?_
            refine g_if_ne K (tgt := 53) d_C_term_40 (by decide) (fun c40 => ?_) (fun c40 => ?_)
            · have e40 := vi_16 (of_decide_eq_true (bZ_t c40))
              refine g_lv K [0, 1, 2] rfl (J53 (okT0_i.mpr ⟨e4, h13, h22, ⟨e26, e33⟩, e40⟩))
            · have e40 := of_decide_eq_false (bZ_f c40)
              refine g_iload_n K 2 d_C_term_43 rfl ?_
              refine g_if_ge K (tgt := 57) d_C_term_44 (by decide) (fun c44 => ?_) (fun c44 => ?_)
              · refine g_lv K [0, 1, 2] rfl (J57 (okT0_n (fun z => vi_no1 e40 c44 z.2.2.2.2)))
              · refine g_iload_n K 2 d_C_term_47 rfl ?_
                refine g_bipush K (v := -16) d_C_term_48 (by decide) ?_
                refine g_icmp_lt K (tgt := 57) d_C_term_50 (by decide) (fun c50 => ?_) (fun c50 => ?_)
                · refine g_lv K [0, 1, 2] rfl (J57 (okT0_n (fun z => vi_no2 c44 c50 z.2.2.2.2)))
                · refine g_lv K [0, 1, 2] rfl (J53 (okT0_i.mpr ⟨e4, h13, h22, ⟨e26, e33⟩, vi_n16 c44 c50⟩))
theorem d_C_end_0 : decode b_C_end 0 = .ok (.aload_n 0, 1) := by decide +kernel
theorem d_C_end_1 : decode b_C_end 1 = .ok (.getfield 66, 3) := by decide +kernel
theorem d_C_end_4 : decode b_C_end 4 = .ok (.ifCond .ne 22, 3) := by decide +kernel
theorem d_C_end_7 : decode b_C_end 7 = .ok (.aload_n 0, 1) := by decide +kernel
theorem d_C_end_8 : decode b_C_end 8 = .ok (.getfield 74, 3) := by decide +kernel
theorem d_C_end_11 : decode b_C_end 11 = .ok (.bipush 20, 2) := by decide +kernel
theorem d_C_end_13 : decode b_C_end 13 = .ok (.if_icmp .eq 13, 3) := by decide +kernel
theorem d_C_end_16 : decode b_C_end 16 = .ok (.iload_n 1, 1) := by decide +kernel
theorem d_C_end_17 : decode b_C_end 17 = .ok (.ifCond .lt 9, 3) := by decide +kernel
theorem d_C_end_20 : decode b_C_end 20 = .ok (.iload_n 1, 1) := by decide +kernel
theorem d_C_end_21 : decode b_C_end 21 = .ok (.ldc 80, 2) := by decide +kernel
theorem d_C_end_23 : decode b_C_end 23 = .ok (.if_icmp .le 5, 3) := by decide +kernel
theorem d_C_end_26 : decode b_C_end 26 = .ok (.iconst (-1), 1) := by decide +kernel
theorem d_C_end_27 : decode b_C_end 27 = .ok (.ireturn, 1) := by decide +kernel
theorem d_C_end_28 : decode b_C_end 28 = .ok (.aload_n 0, 1) := by decide +kernel
theorem d_C_end_29 : decode b_C_end 29 = .ok (.getfield 16, 3) := by decide +kernel
theorem d_C_end_32 : decode b_C_end 32 = .ok (.aload_n 0, 1) := by decide +kernel
theorem d_C_end_33 : decode b_C_end 33 = .ok (.getfield 74, 3) := by decide +kernel
theorem d_C_end_36 : decode b_C_end 36 = .ok (.iload_n 1, 1) := by decide +kernel
theorem d_C_end_37 : decode b_C_end 37 = .ok (.iastore, 1) := by decide +kernel
theorem d_C_end_38 : decode b_C_end 38 = .ok (.aload_n 0, 1) := by decide +kernel
theorem d_C_end_39 : decode b_C_end 39 = .ok (.dup, 1) := by decide +kernel
theorem d_C_end_40 : decode b_C_end 40 = .ok (.getfield 74, 3) := by decide +kernel
theorem d_C_end_43 : decode b_C_end 43 = .ok (.iconst 1, 1) := by decide +kernel
theorem d_C_end_44 : decode b_C_end 44 = .ok (.iadd, 1) := by decide +kernel
theorem d_C_end_45 : decode b_C_end 45 = .ok (.putfield 74, 3) := by decide +kernel
theorem d_C_end_48 : decode b_C_end 48 = .ok (.aload_n 0, 1) := by decide +kernel
theorem d_C_end_49 : decode b_C_end 49 = .ok (.getfield 13, 3) := by decide +kernel
theorem d_C_end_52 : decode b_C_end 52 = .ok (.aload_n 0, 1) := by decide +kernel
theorem d_C_end_53 : decode b_C_end 53 = .ok (.getfield 74, 3) := by decide +kernel
theorem d_C_end_56 : decode b_C_end 56 = .ok (.aload_n 0, 1) := by decide +kernel
theorem d_C_end_57 : decode b_C_end 57 = .ok (.getfield 77, 3) := by decide +kernel
theorem d_C_end_60 : decode b_C_end 60 = .ok (.iastore, 1) := by decide +kernel
theorem d_C_end_61 : decode b_C_end 61 = .ok (.aload_n 0, 1) := by decide +kernel
theorem d_C_end_62 : decode b_C_end 62 = .ok (.getfield 74, 3) := by decide +kernel
theorem d_C_end_65 : decode b_C_end 65 = .ok (.iconst 1, 1) := by decide +kernel
theorem d_C_end_66 : decode b_C_end 66 = .ok (.isub, 1) := by decide +kernel
theorem d_C_end_67 : decode b_C_end 67 = .ok (.ireturn, 1) := by decide +kernel
set_option maxHeartbeats 4000000 in
set_option maxRecDepth 100000 in
theorem c_C_end (l : Launch) (D : va_G) (g : Nat → ClassId) (a : Nat → Nat) (P : Nat → Nat → Int32) (I : Nat → Int32) (F : Nat → Nat → Int32) (B0 B1 : BS) {n k : Nat} (hp : PWF P n k) {bg : Bool} (h7 : I 7 = bZ bg) (h5 : I 5 = nI n) (h6 : I 6 = nI k) (b : Int32) : Ct l D g y_C_end b_C_end 2 (some .int) 1 [.ref (a 0), .int b] (CW a g P I F B0 B1) (fun r w => (okE bg n b = true ∧ r = some (.int (nI n)) ∧ w = CW a g (PE P n k b) (upd I 5 (nI (n + 1))) F B0 B1) ∨ (okE bg n b = false ∧ r = some (.int (-1)) ∧ w = CW a g P I F B0 B1)) := by
  refine Ct.of (lv := [(0, _), (1, _)]) (by decide) rfl (Nat.le_of_ble_eq_true rfl) rfl ?_
  intro G K
  have J26 : (okE bg n b = false) → G 26 [(0, .ref (a 0)), (1, .int b)] [] (CW a g P I F B0 B1) := by
    intro  hN
    refine g_iconst K (v := -1) d_C_end_26 (by decide) ?_
    refine g_iret K d_C_end_27 (Or.inr ⟨hN, rfl, rfl⟩)
  refine g_aload_n K 0 d_C_end_0 rfl ?_
  refine gC_get K 7 fl_C_66 (by decide) rfl d_C_end_1 ?_
  refine g_if_ne K (tgt := 26) d_C_end_4 (by decide) (fun c4 => ?_) (fun c4 => ?_)
  · refine g_lv K [0, 1] rfl (J26 (okE_n1 (bZ_t (fun z => c4 (h7.trans z)))))
  · have e1 : bg = false := bZ_f (h7.symm.trans c4)
    refine g_aload_n K 0 d_C_end_7 rfl ?_
    refine gC_get K 5 fl_C_74 (by decide) rfl d_C_end_8 ?_
    refine g_bipush K (v := 20) d_C_end_11 (by decide) ?_
    refine g_top K nI_20 ?_
    refine g_icmp_eq K (tgt := 26) d_C_end_13 (by decide) (fun c13 => ?_) (fun c13 => ?_)
    · have h13 : ¬ n < 20 := by have := nI_inj (by have := hp.1; omega) (by omega) (h5.symm.trans c13); omega
      refine g_lv K [0, 1] rfl (J26 (okE_n3 h13))
    · have h13 : n < 20 := by have := hp.1; rcases Nat.lt_or_ge n 20 with z | z; exact z; exact absurd (by rw [h5, show n = 20 by omega]) c13
      refine g_iload_n K 1 d_C_end_16 rfl ?_
      refine g_if_lt K (tgt := 26) d_C_end_17 (by decide) (fun c17 => ?_) (fun c17 => ?_)
      · have e2 : b.toInt < 0 := by rw [i_lt, i_0] at c17; exact c17
        refine g_lv K [0, 1] rfl (J26 (okE_n2 (decide_eq_false (fun z => by omega))))
      · have e2 : 0 ≤ b.toInt := by rw [i_lt, i_0] at c17; omega
        refine g_iload_n K 1 d_C_end_20 rfl ?_
        refine g_ldc K co_C_80 d_C_end_21 ?_
        refine g_icmp_le K (tgt := 28) d_C_end_23 (by decide) (fun c23 => ?_) (fun c23 => ?_)
        · have e3 : b.toInt ≤ 1073741824 := by rw [i_le, k_B] at c23; exact c23
          refine g_aload_n K 0 d_C_end_28 rfl ?_
          refine gC_get K 2 fl_C_16 (by decide) rfl d_C_end_29 ?_
          refine g_aload_n K 0 d_C_end_32 rfl ?_
          refine gC_get K 5 fl_C_74 (by decide) rfl d_C_end_33 ?_
          refine g_iload_n K 1 d_C_end_36 rfl ?_
          refine gC_ast_bounds K (n) h5 (by omega) d_C_end_37 ?_
          refine g_aload_n K 0 d_C_end_38 rfl ?_
          refine g_dup K d_C_end_39 rfl ?_
          refine gC_get K 5 fl_C_74 (by decide) rfl d_C_end_40 ?_
          refine g_iconst K (v := 1) d_C_end_43 (by decide) ?_
          refine g_iadd K d_C_end_44 ?_
          refine g_top K (show _ = nI (n + 1) from (congrArg (· + 1) h5).trans (nI_1 n)) ?_
          refine gC_put_count K fl_C_74 d_C_end_45 ?_
          refine g_aload_n K 0 d_C_end_48 rfl ?_
          refine gC_get K 1 fl_C_13 (by decide) rfl d_C_end_49 ?_
          refine g_aload_n K 0 d_C_end_52 rfl ?_
          refine gC_get K 5 fl_C_74 (by decide) rfl d_C_end_53 ?_
          refine g_aload_n K 0 d_C_end_56 rfl ?_
          refine gC_get K 6 fl_C_77 (by decide) rfl d_C_end_57 ?_
          refine g_top K h6 ?_
          refine gC_ast_starts K (n + 1) rfl (by omega) d_C_end_60 ?_
          refine g_aload_n K 0 d_C_end_61 rfl ?_
          refine gC_get K 5 fl_C_74 (by decide) rfl d_C_end_62 ?_
          refine g_iconst K (v := 1) d_C_end_65 (by decide) ?_
          refine g_isub K d_C_end_66 ?_
          refine g_top K (show _ = nI n from nI_pred n) ?_
          refine g_iret K d_C_end_67 (Or.inl ⟨okE_y e1 h13 ⟨e2, e3⟩, rfl, rfl⟩)
        · have e3 : ¬ b.toInt ≤ 1073741824 := by rw [i_le, k_B] at c23; exact c23
          refine g_lv K [0, 1] rfl (J26 (okE_n2 (decide_eq_false (fun z => e3 z.2))))
theorem d_C_optimum_0 : decode b_C_optimum 0 = .ok (.aload_n 0, 1) := by decide +kernel
theorem d_C_optimum_1 : decode b_C_optimum 1 = .ok (.getfield 90, 3) := by decide +kernel
theorem d_C_optimum_4 : decode b_C_optimum 4 = .ok (.ifCond .eq 10, 3) := by decide +kernel
theorem d_C_optimum_7 : decode b_C_optimum 7 = .ok (.aload_n 0, 1) := by decide +kernel
theorem d_C_optimum_8 : decode b_C_optimum 8 = .ok (.getfield 47, 3) := by decide +kernel
theorem d_C_optimum_11 : decode b_C_optimum 11 = .ok (.goto 5, 3) := by decide +kernel
theorem d_C_optimum_14 : decode b_C_optimum 14 = .ok (.bipush (-3), 2) := by decide +kernel
theorem d_C_optimum_16 : decode b_C_optimum 16 = .ok (.ireturn, 1) := by decide +kernel
set_option maxHeartbeats 4000000 in
set_option maxRecDepth 100000 in
theorem c_C_optimum (l : Launch) (D : va_G) (g : Nat → ClassId) (a : Nat → Nat) (P : Nat → Nat → Int32) (I : Nat → Int32) (F : Nat → Nat → Int32) (B0 B1 : BS) {dn : Bool} (h9 : I 17 = bZ dn) : Ct l D g y_C_optimum b_C_optimum 1 (some .int) 0 [.ref (a 0)] (CW a g P I F B0 B1) (fun r w => r = some (.int (cond dn (I 15) (-3))) ∧ w = CW a g P I F B0 B1) := by
  refine Ct.of (lv := [(0, _)]) (by decide) rfl (Nat.le_of_ble_eq_true rfl) rfl ?_
  intro G K
  refine g_aload_n K 0 d_C_optimum_0 rfl ?_
  refine gC_get K 17 fl_C_90 (by decide) rfl d_C_optimum_1 ?_
  refine g_if_eq K (tgt := 14) d_C_optimum_4 (by decide) (fun c4 => ?_) (fun c4 => ?_)
  · refine g_bipush K (v := -3) d_C_optimum_14 (by decide) ?_
    refine g_iret K d_C_optimum_16 (?_)
    first | exact ⟨by rw [bZ_t (fun z => c4 (h9.trans z))]; rfl, rfl⟩ | exact ⟨by rw [bZ_f (h9.symm.trans c4)]; rfl, rfl⟩
  · refine g_aload_n K 0 d_C_optimum_7 rfl ?_
    refine gC_get K 15 fl_C_47 (by decide) rfl d_C_optimum_8 ?_
    refine g_goto K (tgt := 16) d_C_optimum_11 (by decide) ?_
    refine g_iret K d_C_optimum_16 (?_)
    first | exact ⟨by rw [bZ_t (fun z => c4 (h9.trans z))]; rfl, rfl⟩ | exact ⟨by rw [bZ_f (h9.symm.trans c4)]; rfl, rfl⟩
theorem d_C_value_0 : decode b_C_value 0 = .ok (.iload_n 1, 1) := by decide +kernel
theorem d_C_value_1 : decode b_C_value 1 = .ok (.invokestatic 70, 3) := by decide +kernel
theorem d_C_value_4 : decode b_C_value 4 = .ok (.ifCond .eq 10, 3) := by decide +kernel
theorem d_C_value_7 : decode b_C_value 7 = .ok (.aload_n 0, 1) := by decide +kernel
theorem d_C_value_8 : decode b_C_value 8 = .ok (.getfield 47, 3) := by decide +kernel
theorem d_C_value_11 : decode b_C_value 11 = .ok (.ifCond .ge 7, 3) := by decide +kernel
theorem d_C_value_14 : decode b_C_value 14 = .ok (.iconst (-1), 1) := by decide +kernel
theorem d_C_value_15 : decode b_C_value 15 = .ok (.goto 13, 3) := by decide +kernel
theorem d_C_value_18 : decode b_C_value 18 = .ok (.aload_n 0, 1) := by decide +kernel
theorem d_C_value_19 : decode b_C_value 19 = .ok (.getfield 124, 3) := by decide +kernel
theorem d_C_value_22 : decode b_C_value 22 = .ok (.iload_n 1, 1) := by decide +kernel
theorem d_C_value_23 : decode b_C_value 23 = .ok (.iconst 1, 1) := by decide +kernel
theorem d_C_value_24 : decode b_C_value 24 = .ok (.isub, 1) := by decide +kernel
theorem d_C_value_25 : decode b_C_value 25 = .ok (.ishr, 1) := by decide +kernel
theorem d_C_value_26 : decode b_C_value 26 = .ok (.iconst 1, 1) := by decide +kernel
theorem d_C_value_27 : decode b_C_value 27 = .ok (.iand, 1) := by decide +kernel
theorem d_C_value_28 : decode b_C_value 28 = .ok (.ireturn, 1) := by decide +kernel
set_option maxHeartbeats 4000000 in
set_option maxRecDepth 100000 in
theorem c_C_value (l : Launch) (D : va_G) (g : Nat → ClassId) (a : Nat → Nat) (P : Nat → Nat → Int32) (I : Nat → Int32) (F : Nat → Nat → Int32) (B0 B1 : BS) (v : Int32) : Ct l D g y_C_value b_C_value 2 (some .int) 1 [.ref (a 0), .int v] (CW a g P I F B0 B1) (fun r w => r = some (.int (if (1 ≤ v.toInt ∧ v.toInt ≤ 16) ∧ 0 ≤ (I 15).toInt then (I 16 >>> ((v - 1) &&& 31)) &&& 1 else -1)) ∧ w = CW a g P I F B0 B1) := by
  refine Ct.of (lv := [(0, _), (1, _)]) (by decide) rfl (Nat.le_of_ble_eq_true rfl) rfl ?_
  intro G K
  have J14 : (¬ ((1 ≤ v.toInt ∧ v.toInt ≤ 16) ∧ 0 ≤ (I 15).toInt)) → G 14 [(0, .ref (a 0)), (1, .int v)] [] (CW a g P I F B0 B1) := by
    intro  hN
    refine g_iconst K (v := -1) d_C_value_14 (by decide) ?_
    refine g_goto K (tgt := 28) d_C_value_15 (by decide) ?_
    refine g_iret K d_C_value_28 (?_)
    first | exact ⟨by rw [if_neg hN], rfl⟩ | exact ⟨by rw [if_pos ⟨e2, by rwa [i_le, i_0] at c11⟩], rfl⟩
  refine g_iload_n K 1 d_C_value_0 rfl ?_
  refine g_callS K (c_C_isVariable l D g v) mf_C_isVariable is_C_isVariable ml_C_70 (by decide) (Nat.le_of_ble_eq_true rfl) d_C_value_1 (fun v hq => ?_) rfl
  obtain ⟨rfl, -⟩ := hq
  refine g_ri ?_
  refine g_if_eq K (tgt := 14) d_C_value_4 (by decide) (fun c4 => ?_) (fun c4 => ?_)
  · refine g_lv K [0, 1] rfl (J14 (fun z => (of_decide_eq_false (bZ_f c4)) z.1))
  · have e2 := of_decide_eq_true (bZ_t c4)
    refine g_aload_n K 0 d_C_value_7 rfl ?_
    refine gC_get K 15 fl_C_47 (by decide) rfl d_C_value_8 ?_
    refine g_if_ge K (tgt := 18) d_C_value_11 (by decide) (fun c11 => ?_) (fun c11 => ?_)
    · refine g_aload_n K 0 d_C_value_18 rfl ?_
      refine gC_get K 16 fl_C_124 (by decide) rfl d_C_value_19 ?_
      refine g_iload_n K 1 d_C_value_22 rfl ?_
      refine g_iconst K (v := 1) d_C_value_23 (by decide) ?_
      refine g_isub K d_C_value_24 ?_
      refine g_ishr K d_C_value_25 ?_
      refine g_iconst K (v := 1) d_C_value_26 (by decide) ?_
      refine g_iand K d_C_value_27 ?_
      refine g_iret K d_C_value_28 (?_)
      first | exact ⟨by rw [if_neg hN], rfl⟩ | exact ⟨by rw [if_pos ⟨e2, by rwa [i_le, i_0] at c11⟩], rfl⟩
    · refine g_lv K [0, 1] rfl (J14 (fun z => c11 (by rw [i_le, i_0]; exact z.2)))
theorem d_C_logSize_0 : decode b_C_logSize 0 = .ok (.aload_n 0, 1) := by decide +kernel
theorem d_C_logSize_1 : decode b_C_logSize 1 = .ok (.getfield 81, 3) := by decide +kernel
theorem d_C_logSize_4 : decode b_C_logSize 4 = .ok (.ireturn, 1) := by decide +kernel
set_option maxHeartbeats 4000000 in
set_option maxRecDepth 100000 in
theorem c_C_logSize (l : Launch) (D : va_G) (g : Nat → ClassId) (a : Nat → Nat) (P : Nat → Nat → Int32) (I : Nat → Int32) (F : Nat → Nat → Int32) (B0 B1 : BS) : Ct l D g y_C_logSize b_C_logSize 1 (some .int) 0 [.ref (a 0)] (CW a g P I F B0 B1) (fun r w => r = some (.int (I 14)) ∧ w = CW a g P I F B0 B1) := by
  refine Ct.of (lv := [(0, _)]) (by decide) rfl (Nat.le_of_ble_eq_true rfl) rfl ?_
  intro G K
  refine g_aload_n K 0 d_C_logSize_0 rfl ?_
  refine gC_get K 14 fl_C_81 (by decide) rfl d_C_logSize_1 ?_
  refine g_iret K d_C_logSize_4 (⟨rfl, rfl⟩)
theorem d_C_steps_0 : decode b_C_steps 0 = .ok (.aload_n 0, 1) := by decide +kernel
theorem d_C_steps_1 : decode b_C_steps 1 = .ok (.getfield 93, 3) := by decide +kernel
theorem d_C_steps_4 : decode b_C_steps 4 = .ok (.ireturn, 1) := by decide +kernel
set_option maxHeartbeats 4000000 in
set_option maxRecDepth 100000 in
theorem c_C_steps (l : Launch) (D : va_G) (g : Nat → ClassId) (a : Nat → Nat) (P : Nat → Nat → Int32) (I : Nat → Int32) (F : Nat → Nat → Int32) (B0 B1 : BS) : Ct l D g y_C_steps b_C_steps 1 (some .int) 0 [.ref (a 0)] (CW a g P I F B0 B1) (fun r w => r = some (.int (I 19)) ∧ w = CW a g P I F B0 B1) := by
  refine Ct.of (lv := [(0, _)]) (by decide) rfl (Nat.le_of_ble_eq_true rfl) rfl ?_
  intro G K
  refine g_aload_n K 0 d_C_steps_0 rfl ?_
  refine gC_get K 19 fl_C_93 (by decide) rfl d_C_steps_1 ?_
  refine g_iret K d_C_steps_4 (⟨rfl, rfl⟩)
theorem d_C_logAt_0 : decode b_C_logAt 0 = .ok (.iload_n 1, 1) := by decide +kernel
theorem d_C_logAt_1 : decode b_C_logAt 1 = .ok (.ifCond .lt 20, 3) := by decide +kernel
theorem d_C_logAt_4 : decode b_C_logAt 4 = .ok (.iload_n 1, 1) := by decide +kernel
theorem d_C_logAt_5 : decode b_C_logAt 5 = .ok (.aload_n 0, 1) := by decide +kernel
theorem d_C_logAt_6 : decode b_C_logAt 6 = .ok (.getfield 81, 3) := by decide +kernel
theorem d_C_logAt_9 : decode b_C_logAt 9 = .ok (.if_icmp .ge 12, 3) := by decide +kernel
theorem d_C_logAt_12 : decode b_C_logAt 12 = .ok (.aload_n 0, 1) := by decide +kernel
theorem d_C_logAt_13 : decode b_C_logAt 13 = .ok (.getfield 44, 3) := by decide +kernel
theorem d_C_logAt_16 : decode b_C_logAt 16 = .ok (.iload_n 1, 1) := by decide +kernel
theorem d_C_logAt_17 : decode b_C_logAt 17 = .ok (.iaload, 1) := by decide +kernel
theorem d_C_logAt_18 : decode b_C_logAt 18 = .ok (.goto 5, 3) := by decide +kernel
theorem d_C_logAt_21 : decode b_C_logAt 21 = .ok (.bipush (-9), 2) := by decide +kernel
theorem d_C_logAt_23 : decode b_C_logAt 23 = .ok (.ireturn, 1) := by decide +kernel
set_option maxHeartbeats 4000000 in
set_option maxRecDepth 100000 in
theorem c_C_logAt (l : Launch) (D : va_G) (g : Nat → ClassId) (a : Nat → Nat) (P : Nat → Nat → Int32) (I : Nat → Int32) (F : Nat → Nat → Int32) (B0 B1 : BS) {ll : Nat} (h22 : I 14 = nI ll) (hl : ll ≤ 400) (i : Int32) : Ct l D g y_C_logAt b_C_logAt 2 (some .int) 0 [.ref (a 0), .int i] (CW a g P I F B0 B1) (fun r w => r = some (.int (if 0 ≤ i.toInt ∧ i.toInt < ll then F 3 i.toNatClampNeg else -9)) ∧ w = CW a g P I F B0 B1) := by
  refine Ct.of (lv := [(0, _), (1, _)]) (by decide) rfl (Nat.le_of_ble_eq_true rfl) rfl ?_
  intro G K
  have J21 : (¬ (0 ≤ i.toInt ∧ i.toInt < ll)) → G 21 [(0, .ref (a 0)), (1, .int i)] [] (CW a g P I F B0 B1) := by
    intro  hN
    refine g_bipush K (v := -9) d_C_logAt_21 (by decide) ?_
    refine g_iret K d_C_logAt_23 (?_)
    first | exact ⟨by rw [if_neg hN], rfl⟩ | exact ⟨by rw [if_pos ⟨e1, e9⟩], rfl⟩
  refine g_iload_n K 1 d_C_logAt_0 rfl ?_
  refine g_if_lt K (tgt := 21) d_C_logAt_1 (by decide) (fun c1 => ?_) (fun c1 => ?_)
  · refine g_lv K [0, 1] rfl (J21 (fun z => by rw [i_lt, i_0] at c1; omega))
  · have e1 : 0 ≤ i.toInt := by rw [i_lt, i_0] at c1; omega
    refine g_iload_n K 1 d_C_logAt_4 rfl ?_
    refine g_aload_n K 0 d_C_logAt_5 rfl ?_
    refine gC_get K 14 fl_C_81 (by decide) rfl d_C_logAt_6 ?_
    refine g_icmp_ge K (tgt := 21) d_C_logAt_9 (by decide) (fun c9 => ?_) (fun c9 => ?_)
    · refine g_lv K [0, 1] rfl (J21 (fun z => by rw [h22, i_le, nI_toInt (by omega)] at c9; omega))
    · have e9 : i.toInt < ll := by rw [h22, i_le, nI_toInt (by omega)] at c9; omega
      have e10 := nat_i e1
      refine g_aload_n K 0 d_C_logAt_12 rfl ?_
      refine gC_get K 13 fl_C_44 (by decide) rfl d_C_logAt_13 ?_
      refine g_iload_n K 1 d_C_logAt_16 rfl ?_
      refine g_iald K 13 (i.toNatClampNeg) rfl (nI_nat e1) (by omega) d_C_logAt_17 ?_
      refine g_goto K (tgt := 23) d_C_logAt_18 (by decide) ?_
      refine g_iret K d_C_logAt_23 (?_)
      first | exact ⟨by rw [if_neg hN], rfl⟩ | exact ⟨by rw [if_pos ⟨e1, e9⟩], rfl⟩
theorem d_C_anew_0 : decode b_C_anew 0 = .ok (.aload_n 0, 1) := by decide +kernel
theorem d_C_anew_1 : decode b_C_anew 1 = .ok (.iconst 0, 1) := by decide +kernel
theorem d_C_anew_2 : decode b_C_anew 2 = .ok (.putfield 143, 3) := by decide +kernel
theorem d_C_anew_5 : decode b_C_anew 5 = .ok (.aload_n 0, 1) := by decide +kernel
theorem d_C_anew_6 : decode b_C_anew 6 = .ok (.iconst 2, 1) := by decide +kernel
theorem d_C_anew_7 : decode b_C_anew 7 = .ok (.putfield 63, 3) := by decide +kernel
theorem d_C_anew_10 : decode b_C_anew 10 = .ok (.return_, 1) := by decide +kernel
set_option maxHeartbeats 4000000 in
set_option maxRecDepth 100000 in
theorem c_C_anew (l : Launch) (D : va_G) (g : Nat → ClassId) (a : Nat → Nat) (P : Nat → Nat → Int32) (I : Nat → Int32) (F : Nat → Nat → Int32) (B0 B1 : BS) : Ct l D g y_C_anew b_C_anew 1 none 0 [.ref (a 0)] (CW a g P I F B0 B1) (fun r w => r = none ∧ w = CW a g P (upd (upd I 27 (bZ false)) 29 2) F B0 B1) := by
  refine Ct.of (lv := [(0, _)]) (by decide) rfl (Nat.le_of_ble_eq_true rfl) rfl ?_
  intro G K
  refine g_aload_n K 0 d_C_anew_0 rfl ?_
  refine g_iconst K (v := 0) d_C_anew_1 (by decide) ?_
  refine gC_put_looked K false rfl fl_C_143 d_C_anew_2 ?_
  refine g_aload_n K 0 d_C_anew_5 rfl ?_
  refine g_iconst K (v := 2) d_C_anew_6 (by decide) ?_
  refine gC_put_verdict K fl_C_63 d_C_anew_7 ?_
  refine g_vret K d_C_anew_10 (⟨rfl, rfl⟩)
theorem d_C_poke_0 : decode b_C_poke 0 = .ok (.aload_n 0, 1) := by decide +kernel
theorem d_C_poke_1 : decode b_C_poke 1 = .ok (.getfield 90, 3) := by decide +kernel
theorem d_C_poke_4 : decode b_C_poke 4 = .ok (.ifCond .eq 22, 3) := by decide +kernel
theorem d_C_poke_7 : decode b_C_poke 7 = .ok (.iload_n 1, 1) := by decide +kernel
theorem d_C_poke_8 : decode b_C_poke 8 = .ok (.ifCond .lt 18, 3) := by decide +kernel
theorem d_C_poke_11 : decode b_C_poke 11 = .ok (.iload_n 1, 1) := by decide +kernel
theorem d_C_poke_12 : decode b_C_poke 12 = .ok (.aload_n 0, 1) := by decide +kernel
theorem d_C_poke_13 : decode b_C_poke 13 = .ok (.getfield 81, 3) := by decide +kernel
theorem d_C_poke_16 : decode b_C_poke 16 = .ok (.if_icmp .gt 10, 3) := by decide +kernel
theorem d_C_poke_19 : decode b_C_poke 19 = .ok (.iload_n 1, 1) := by decide +kernel
theorem d_C_poke_20 : decode b_C_poke 20 = .ok (.sipush 400, 3) := by decide +kernel
theorem d_C_poke_23 : decode b_C_poke 23 = .ok (.if_icmp .lt 5, 3) := by decide +kernel
theorem d_C_poke_26 : decode b_C_poke 26 = .ok (.iconst (-1), 1) := by decide +kernel
theorem d_C_poke_27 : decode b_C_poke 27 = .ok (.ireturn, 1) := by decide +kernel
theorem d_C_poke_28 : decode b_C_poke 28 = .ok (.aload_n 0, 1) := by decide +kernel
theorem d_C_poke_29 : decode b_C_poke 29 = .ok (.getfield 44, 3) := by decide +kernel
theorem d_C_poke_32 : decode b_C_poke 32 = .ok (.iload_n 1, 1) := by decide +kernel
theorem d_C_poke_33 : decode b_C_poke 33 = .ok (.iload_n 2, 1) := by decide +kernel
theorem d_C_poke_34 : decode b_C_poke 34 = .ok (.iastore, 1) := by decide +kernel
theorem d_C_poke_35 : decode b_C_poke 35 = .ok (.iload_n 1, 1) := by decide +kernel
theorem d_C_poke_36 : decode b_C_poke 36 = .ok (.aload_n 0, 1) := by decide +kernel
theorem d_C_poke_37 : decode b_C_poke 37 = .ok (.getfield 81, 3) := by decide +kernel
theorem d_C_poke_40 : decode b_C_poke 40 = .ok (.if_icmp .ne 13, 3) := by decide +kernel
theorem d_C_poke_43 : decode b_C_poke 43 = .ok (.aload_n 0, 1) := by decide +kernel
theorem d_C_poke_44 : decode b_C_poke 44 = .ok (.dup, 1) := by decide +kernel
theorem d_C_poke_45 : decode b_C_poke 45 = .ok (.getfield 81, 3) := by decide +kernel
theorem d_C_poke_48 : decode b_C_poke 48 = .ok (.iconst 1, 1) := by decide +kernel
theorem d_C_poke_49 : decode b_C_poke 49 = .ok (.iadd, 1) := by decide +kernel
theorem d_C_poke_50 : decode b_C_poke 50 = .ok (.putfield 81, 3) := by decide +kernel
theorem d_C_poke_53 : decode b_C_poke 53 = .ok (.aload_n 0, 1) := by decide +kernel
theorem d_C_poke_54 : decode b_C_poke 54 = .ok (.invokevirtual 146, 3) := by decide +kernel
theorem d_C_poke_57 : decode b_C_poke 57 = .ok (.iconst 0, 1) := by decide +kernel
theorem d_C_poke_58 : decode b_C_poke 58 = .ok (.ireturn, 1) := by decide +kernel
set_option maxHeartbeats 4000000 in
set_option maxRecDepth 100000 in
theorem c_C_poke (l : Launch) (D : va_G) (g : Nat → ClassId) (a : Nat → Nat) (P : Nat → Nat → Int32) (I : Nat → Int32) (F : Nat → Nat → Int32) (B0 B1 : BS) {ll : Nat} (h22 : I 14 = nI ll) (hl : ll ≤ 400) {dn : Bool} (h9 : I 17 = bZ dn) (i w0 : Int32) : Ct l D g y_C_poke b_C_poke 3 (some .int) 1 [.ref (a 0), .int i, .int w0] (CW a g P I F B0 B1) (fun r w => (okP dn ll i = true ∧ r = some (.int 0) ∧ w = CW a g P (upd (upd (upd I 14 (nI (if i.toInt = ll then ll + 1 else ll))) 27 (bZ false)) 29 2) (va_up F 3 (upd (F 3) i.toNatClampNeg w0)) B0 B1) ∨ (okP dn ll i = false ∧ r = some (.int (-1)) ∧ w = CW a g P I F B0 B1)) := by
  refine Ct.of (lv := [(0, _), (1, _), (2, _)]) (by decide) rfl (Nat.le_of_ble_eq_true rfl) rfl ?_
  intro G K
  have J53 : (okP dn ll i = true) → G 53 [(0, .ref (a 0)), (1, .int i), (2, .int w0)] [] (CW a g P (upd I 14 (nI (if i.toInt = ll then ll + 1 else ll))) (va_up F 3 (upd (F 3) i.toNatClampNeg w0)) B0 B1) := by
    intro  hY
    refine g_aload_n K 0 d_C_poke_53 rfl ?_
    refine g_callW (q0 := 0) K (c_C_anew l D g a P _ _ B0 B1) mf_C_anew im_C_anew se_C_anew ml_C_146 (by decide) rfl rfl (Nat.le_of_ble_eq_true rfl) d_C_poke_54 (fun v w1 hq => ?_) rfl
    obtain ⟨rfl, rfl⟩ := hq
    refine g_rv ?_
    refine g_iconst K (v := 0) d_C_poke_57 (by decide) ?_
    refine g_iret K d_C_poke_58 (Or.inl ⟨hY, rfl, rfl⟩)
  have J26 : (okP dn ll i = false) → G 26 [(0, .ref (a 0)), (1, .int i), (2, .int w0)] [] (CW a g P I F B0 B1) := by
    intro  hN
    refine g_iconst K (v := -1) d_C_poke_26 (by decide) ?_
    refine g_iret K d_C_poke_27 (Or.inr ⟨hN, rfl, rfl⟩)
  refine g_aload_n K 0 d_C_poke_0 rfl ?_
  refine gC_get K 17 fl_C_90 (by decide) rfl d_C_poke_1 ?_
  refine g_if_eq K (tgt := 26) d_C_poke_4 (by decide) (fun c4 => ?_) (fun c4 => ?_)
  · refine g_lv K [0, 1, 2] rfl (J26 (by unfold okP; rw [bZ_f (h9.symm.trans c4)]; rfl))
  · have e1 : dn = true := bZ_t (fun z => c4 (h9.trans z))
    refine g_iload_n K 1 d_C_poke_7 rfl ?_
    have hll : (I 14).toInt = ll := by rw [h22, nI_toInt (by omega)]
    refine g_if_lt K (tgt := 26) d_C_poke_8 (by decide) (fun c8 => ?_) (fun c8 => ?_)
    · have e2 : i.toInt < 0 := by rw [i_lt, i_0] at c8; exact c8
      refine g_lv K [0, 1, 2] rfl (J26 (by unfold okP; rw [decide_eq_false (fun z => by omega), Bool.and_false]))
    · have e2 : 0 ≤ i.toInt := by rw [i_lt, i_0] at c8; omega
      refine g_iload_n K 1 d_C_poke_11 rfl ?_
      refine g_aload_n K 0 d_C_poke_12 rfl ?_
      refine gC_get K 14 fl_C_81 (by decide) rfl d_C_poke_13 ?_
      refine g_icmp_gt K (tgt := 26) d_C_poke_16 (by decide) (fun c16 => ?_) (fun c16 => ?_)
      · have e3 : ¬ i.toInt ≤ ll := by rw [i_lt, hll] at c16; omega
        refine g_lv K [0, 1, 2] rfl (J26 (by unfold okP; rw [decide_eq_false (fun z => e3 z.2.1), Bool.and_false]))
      · have e3 : i.toInt ≤ ll := by rw [i_lt, hll] at c16; omega
        refine g_iload_n K 1 d_C_poke_19 rfl ?_
        refine g_sipush K (v := 400) d_C_poke_20 (by decide) ?_
        refine g_icmp_lt K (tgt := 28) d_C_poke_23 (by decide) (fun c23 => ?_) (fun c23 => ?_)
        · have e4 : i.toInt < 400 := by rw [i_lt, k_400] at c23; exact c23
          have e5 := nat_i e2
          have hY : okP dn ll i = true := by unfold okP; rw [e1, decide_eq_true ⟨e2, e3, e4⟩]; rfl
          refine g_aload_n K 0 d_C_poke_28 rfl ?_
          refine gC_get K 13 fl_C_44 (by decide) rfl d_C_poke_29 ?_
          refine g_iload_n K 1 d_C_poke_32 rfl ?_
          refine g_iload_n K 2 d_C_poke_33 rfl ?_
          refine gC_ast_log K (i.toNatClampNeg) (nI_nat e2) (by omega) d_C_poke_34 ?_
          refine g_iload_n K 1 d_C_poke_35 rfl ?_
          refine g_aload_n K 0 d_C_poke_36 rfl ?_
          refine gC_get K 14 fl_C_81 (by decide) rfl d_C_poke_37 ?_
          refine g_icmp_ne K (tgt := 53) d_C_poke_40 (by decide) (fun c40 => ?_) (fun c40 => ?_)
          · have e6 : upd I 14 (nI (if i.toInt = ll then ll + 1 else ll)) = I := upd_id (by rw [if_neg (fun z => c40 (by rw [i_ne]; exact z.trans hll.symm))]; exact h22)
            rw [e6] at J53
            refine g_lv K [0, 1, 2] rfl (J53 hY)
          · refine g_aload_n K 0 d_C_poke_43 rfl ?_
            refine g_dup K d_C_poke_44 rfl ?_
            refine gC_get K 14 fl_C_81 (by decide) rfl d_C_poke_45 ?_
            refine g_iconst K (v := 1) d_C_poke_48 (by decide) ?_
            refine g_iadd K d_C_poke_49 ?_
            refine g_top K (show _ = (nI (if i.toInt = ll then ll + 1 else ll)) by rw [if_pos (by rw [show i = I 14 from c40, hll])]; exact (congrArg (· + 1) h22).trans (nI_1 ll)) ?_
            refine gC_put_logLength K fl_C_81 d_C_poke_50 ?_
            refine g_lv K [0, 1, 2] rfl (J53 hY)
        · have e4 : ¬ i.toInt < 400 := by rw [i_lt, k_400] at c23; exact c23
          refine g_lv K [0, 1, 2] rfl (J26 (by unfold okP; rw [decide_eq_false (fun z => e4 z.2.2), Bool.and_false]))
theorem d_C_cut_0 : decode b_C_cut 0 = .ok (.aload_n 0, 1) := by decide +kernel
theorem d_C_cut_1 : decode b_C_cut 1 = .ok (.getfield 90, 3) := by decide +kernel
theorem d_C_cut_4 : decode b_C_cut 4 = .ok (.ifCond .eq 15, 3) := by decide +kernel
theorem d_C_cut_7 : decode b_C_cut 7 = .ok (.iload_n 1, 1) := by decide +kernel
theorem d_C_cut_8 : decode b_C_cut 8 = .ok (.ifCond .lt 11, 3) := by decide +kernel
theorem d_C_cut_11 : decode b_C_cut 11 = .ok (.iload_n 1, 1) := by decide +kernel
theorem d_C_cut_12 : decode b_C_cut 12 = .ok (.aload_n 0, 1) := by decide +kernel
theorem d_C_cut_13 : decode b_C_cut 13 = .ok (.getfield 81, 3) := by decide +kernel
theorem d_C_cut_16 : decode b_C_cut 16 = .ok (.if_icmp .le 5, 3) := by decide +kernel
theorem d_C_cut_19 : decode b_C_cut 19 = .ok (.iconst (-1), 1) := by decide +kernel
theorem d_C_cut_20 : decode b_C_cut 20 = .ok (.ireturn, 1) := by decide +kernel
theorem d_C_cut_21 : decode b_C_cut 21 = .ok (.aload_n 0, 1) := by decide +kernel
theorem d_C_cut_22 : decode b_C_cut 22 = .ok (.iload_n 1, 1) := by decide +kernel
theorem d_C_cut_23 : decode b_C_cut 23 = .ok (.putfield 81, 3) := by decide +kernel
theorem d_C_cut_26 : decode b_C_cut 26 = .ok (.aload_n 0, 1) := by decide +kernel
theorem d_C_cut_27 : decode b_C_cut 27 = .ok (.invokevirtual 146, 3) := by decide +kernel
theorem d_C_cut_30 : decode b_C_cut 30 = .ok (.iconst 0, 1) := by decide +kernel
theorem d_C_cut_31 : decode b_C_cut 31 = .ok (.ireturn, 1) := by decide +kernel
set_option maxHeartbeats 4000000 in
set_option maxRecDepth 100000 in
theorem c_C_cut (l : Launch) (D : va_G) (g : Nat → ClassId) (a : Nat → Nat) (P : Nat → Nat → Int32) (I : Nat → Int32) (F : Nat → Nat → Int32) (B0 B1 : BS) {ll : Nat} (h22 : I 14 = nI ll) (hl : ll ≤ 400) {dn : Bool} (h9 : I 17 = bZ dn) (i : Int32) : Ct l D g y_C_cut b_C_cut 2 (some .int) 1 [.ref (a 0), .int i] (CW a g P I F B0 B1) (fun r w => (okK dn ll i = true ∧ r = some (.int 0) ∧ w = CW a g P (upd (upd (upd I 14 i) 27 (bZ false)) 29 2) F B0 B1) ∨ (okK dn ll i = false ∧ r = some (.int (-1)) ∧ w = CW a g P I F B0 B1)) := by
  refine Ct.of (lv := [(0, _), (1, _)]) (by decide) rfl (Nat.le_of_ble_eq_true rfl) rfl ?_
  intro G K
  have J19 : (okK dn ll i = false) → G 19 [(0, .ref (a 0)), (1, .int i)] [] (CW a g P I F B0 B1) := by
    intro  hN
    refine g_iconst K (v := -1) d_C_cut_19 (by decide) ?_
    refine g_iret K d_C_cut_20 (Or.inr ⟨hN, rfl, rfl⟩)
  refine g_aload_n K 0 d_C_cut_0 rfl ?_
  refine gC_get K 17 fl_C_90 (by decide) rfl d_C_cut_1 ?_
  refine g_if_eq K (tgt := 19) d_C_cut_4 (by decide) (fun c4 => ?_) (fun c4 => ?_)
  · refine g_lv K [0, 1] rfl (J19 (by unfold okK; rw [bZ_f (h9.symm.trans c4)]; rfl))
  · have e1 : dn = true := bZ_t (fun z => c4 (h9.trans z))
    refine g_iload_n K 1 d_C_cut_7 rfl ?_
    have hll : (I 14).toInt = ll := by rw [h22, nI_toInt (by omega)]
    refine g_if_lt K (tgt := 19) d_C_cut_8 (by decide) (fun c8 => ?_) (fun c8 => ?_)
    · have e2 : i.toInt < 0 := by rw [i_lt, i_0] at c8; exact c8
      refine g_lv K [0, 1] rfl (J19 (by unfold okK; rw [decide_eq_false (fun z => by omega), Bool.and_false]))
    · have e2 : 0 ≤ i.toInt := by rw [i_lt, i_0] at c8; omega
      refine g_iload_n K 1 d_C_cut_11 rfl ?_
      refine g_aload_n K 0 d_C_cut_12 rfl ?_
      refine gC_get K 14 fl_C_81 (by decide) rfl d_C_cut_13 ?_
      refine g_icmp_le K (tgt := 21) d_C_cut_16 (by decide) (fun c16 => ?_) (fun c16 => ?_)
      · have e3 : i.toInt ≤ ll := by rw [i_le, hll] at c16; exact c16
        have hY : okK dn ll i = true := by unfold okK; rw [e1, decide_eq_true ⟨e2, e3⟩]; rfl
        refine g_aload_n K 0 d_C_cut_21 rfl ?_
        refine g_iload_n K 1 d_C_cut_22 rfl ?_
        refine gC_put_logLength K fl_C_81 d_C_cut_23 ?_
        refine g_aload_n K 0 d_C_cut_26 rfl ?_
        refine g_callW (q0 := 0) K (c_C_anew l D g a P _ _ B0 B1) mf_C_anew im_C_anew se_C_anew ml_C_146 (by decide) rfl rfl (Nat.le_of_ble_eq_true rfl) d_C_cut_27 (fun v w1 hq => ?_) rfl
        obtain ⟨rfl, rfl⟩ := hq
        refine g_rv ?_
        refine g_iconst K (v := 0) d_C_cut_30 (by decide) ?_
        refine g_iret K d_C_cut_31 (Or.inl ⟨hY, rfl, rfl⟩)
      · have e3 : ¬ i.toInt ≤ ll := by rw [i_le, hll] at c16; exact c16
        refine g_lv K [0, 1] rfl (J19 (by unfold okK; rw [decide_eq_false (fun z => e3 z.2), Bool.and_false]))
theorem d_C_write_0 : decode b_C_write 0 = .ok (.aload_n 0, 1) := by decide +kernel
theorem d_C_write_1 : decode b_C_write 1 = .ok (.getfield 81, 3) := by decide +kernel
theorem d_C_write_4 : decode b_C_write 4 = .ok (.sipush 400, 3) := by decide +kernel
theorem d_C_write_7 : decode b_C_write 7 = .ok (.if_icmp .ne 10, 3) := by decide +kernel
theorem d_C_write_10 : decode b_C_write 10 = .ok (.aload_n 0, 1) := by decide +kernel
theorem d_C_write_11 : decode b_C_write 11 = .ok (.iconst 1, 1) := by decide +kernel
theorem d_C_write_12 : decode b_C_write 12 = .ok (.putfield 84, 3) := by decide +kernel
theorem d_C_write_15 : decode b_C_write 15 = .ok (.iconst 0, 1) := by decide +kernel
theorem d_C_write_16 : decode b_C_write 16 = .ok (.ireturn, 1) := by decide +kernel
theorem d_C_write_17 : decode b_C_write 17 = .ok (.aload_n 0, 1) := by decide +kernel
theorem d_C_write_18 : decode b_C_write 18 = .ok (.getfield 44, 3) := by decide +kernel
theorem d_C_write_21 : decode b_C_write 21 = .ok (.aload_n 0, 1) := by decide +kernel
theorem d_C_write_22 : decode b_C_write 22 = .ok (.getfield 81, 3) := by decide +kernel
theorem d_C_write_25 : decode b_C_write 25 = .ok (.iload_n 1, 1) := by decide +kernel
theorem d_C_write_26 : decode b_C_write 26 = .ok (.iastore, 1) := by decide +kernel
theorem d_C_write_27 : decode b_C_write 27 = .ok (.aload_n 0, 1) := by decide +kernel
theorem d_C_write_28 : decode b_C_write 28 = .ok (.dup, 1) := by decide +kernel
theorem d_C_write_29 : decode b_C_write 29 = .ok (.getfield 81, 3) := by decide +kernel
theorem d_C_write_32 : decode b_C_write 32 = .ok (.iconst 1, 1) := by decide +kernel
theorem d_C_write_33 : decode b_C_write 33 = .ok (.iadd, 1) := by decide +kernel
theorem d_C_write_34 : decode b_C_write 34 = .ok (.putfield 81, 3) := by decide +kernel
theorem d_C_write_37 : decode b_C_write 37 = .ok (.iconst 1, 1) := by decide +kernel
theorem d_C_write_38 : decode b_C_write 38 = .ok (.ireturn, 1) := by decide +kernel
set_option maxHeartbeats 4000000 in
set_option maxRecDepth 100000 in
theorem c_C_write (l : Launch) (D : va_G) (g : Nat → ClassId) (a : Nat → Nat) (P : Nat → Nat → Int32) (I : Nat → Int32) (F : Nat → Nat → Int32) (B0 B1 : BS) {ll : Nat} (hl : I 14 = nI ll) (hl4 : ll ≤ 400) (w0 : Int32) : Ct l D g y_C_write b_C_write 2 (some .boolean) 0 [.ref (a 0), .int w0] (CW a g P I F B0 B1) (fun r w => ∃ b : Bool, r = some (.int (bZ b)) ∧ ((b = false ∧ ll = 400 ∧ w = CW a g P (upd I 18 1) F B0 B1) ∨ (b = true ∧ ll < 400 ∧ w = CW a g P (upd I 14 (nI (ll + 1))) (va_up F 3 (upd (F 3) ll w0)) B0 B1))) := by
  refine Ct.of (lv := [(0, _), (1, _)]) (by decide) rfl (Nat.le_of_ble_eq_true rfl) rfl ?_
  intro G K
  refine g_aload_n K 0 d_C_write_0 rfl ?_
  refine gC_get K 14 fl_C_81 (by decide) rfl d_C_write_1 ?_
  refine g_sipush K (v := 400) d_C_write_4 (by decide) ?_
  refine g_top K (show (400 : Int32) = nI 400 by decide) ?_
  refine g_icmp_ne K (tgt := 17) d_C_write_7 (by decide) (fun c7 => ?_) (fun c7 => ?_)
  · have h7 : ll < 400 := by rcases Nat.lt_or_ge ll 400 with h | h; exact h; exact absurd (by rw [hl, show ll = 400 by omega]) c7
    refine g_aload_n K 0 d_C_write_17 rfl ?_
    refine gC_get K 13 fl_C_44 (by decide) rfl d_C_write_18 ?_
    refine g_aload_n K 0 d_C_write_21 rfl ?_
    refine gC_get K 14 fl_C_81 (by decide) rfl d_C_write_22 ?_
    refine g_iload_n K 1 d_C_write_25 rfl ?_
    refine gC_ast_log K (ll) hl (by omega) d_C_write_26 ?_
    refine g_aload_n K 0 d_C_write_27 rfl ?_
    refine g_dup K d_C_write_28 rfl ?_
    refine gC_get K 14 fl_C_81 (by decide) rfl d_C_write_29 ?_
    refine g_iconst K (v := 1) d_C_write_32 (by decide) ?_
    refine g_iadd K d_C_write_33 ?_
    refine g_top K (show _ = nI (ll + 1) from (congrArg (· + 1) hl).trans (nI_1 ll)) ?_
    refine gC_put_logLength K fl_C_81 d_C_write_34 ?_
    refine g_iconst K (v := 1) d_C_write_37 (by decide) ?_
    refine g_zret K rfl d_C_write_38 (⟨true, rfl, Or.inr ⟨rfl, h7, rfl⟩⟩)
  · have h7 : ll = 400 := nI_inj (by omega) (by omega) (hl.symm.trans c7)
    refine g_aload_n K 0 d_C_write_10 rfl ?_
    refine g_iconst K (v := 1) d_C_write_11 (by decide) ?_
    refine gC_put_lost K true rfl fl_C_84 d_C_write_12 ?_
    refine g_iconst K (v := 0) d_C_write_15 (by decide) ?_
    refine g_zret K rfl d_C_write_16 (⟨false, rfl, Or.inl ⟨rfl, h7, rfl⟩⟩)
end
section
theorem FSn {a : Nat → Nat} {I : Nat → Int32} {n : Nat} (h : I 5 = nI n) : FS a (CF a I) (nI n) := by
  have e := CF_fs a I
  rw [h] at e
  exact e
theorem sv_pos {vl : Nat → Int32} {v : Nat} (h1 : 1 ≤ v) (h2 : v ≤ 16) : sv vl (nI v) = upd vl v 1 := by
  unfold sv
  rw [vx_nI (by omega), nI_toInt (by omega), if_pos (by omega)]
theorem sv_neg {vl : Nat → Int32} {v : Nat} (h1 : 1 ≤ v) (h2 : v ≤ 16) : sv vl (-nI v) = upd vl v 0 := by
  unfold sv
  rw [vx_neg (by omega), sb_negT (by omega), if_neg (by omega)]
theorem tvn_ne {vl tr : Nat → Int32} {len i j : Nat} (h : TI vl tr len) (hi : i < len) (hj : j < len) (hij : i ≠ j) : tvn tr i ≠ tvn tr j := by
  obtain ⟨v, v1, v2, v3, -⟩ := h.2.2.1 i hi
  obtain ⟨w, w1, w2, w3, -⟩ := h.2.2.1 j hj
  rw [tvn_of v3 (by omega), tvn_of w3 (by omega)]
  intro e
  exact hij (h.2.2.2 i j hi hj (by rw [v3, w3, e]))
theorem CHR.push {c0 c1 c2 vl tr tc : Nat → Int32} {len ch v : Nat} (h : CHR c0 c1 c2 vl tr tc len ch) (hT : TI vl tr len) (hv1 : 1 ≤ v) (hv2 : v ≤ 16) (ho : vl v = -1) {x t : Int32} (ht : t = 0) : CHR c0 c1 c2 (upd vl v x) (upd tr len (nI v)) (upd tc len t) (len + 1) ch := by
  refine Or.inr ⟨by rw [upd_s, ht], h.congr (fun _ _ => ⟨rfl, rfl, rfl⟩) (fun i hi => ⟨upd_n (by omega), upd_n (by omega), ?_⟩)⟩
  obtain ⟨w, w1, w2, w3, w4⟩ := hT.2.2.1 i hi
  rw [tvn_of w3 (by omega)]
  exact upd_n (fun e => w4 (by rw [e]; exact ho))
theorem CHR.pushC {c0 c1 c2 vl tr tc : Nat → Int32} {len ch v : Nat} (h : CHR c0 c1 c2 vl tr tc len ch) (hT : TI vl tr len) (hv1 : 1 ≤ v) (hv2 : v ≤ 16) (ho : vl v = -1) : CHR (upd c0 ch (nI v)) (upd c1 ch 0) (upd c2 ch (nI len)) (upd vl v 0) (upd tr len (nI v)) (upd tc len 1) (len + 1) (ch + 1) := by
  refine Or.inl ⟨upd_s, ch, rfl, upd_s, by rw [upd_s, upd_s], ?_, h.congr (fun j hj => ⟨upd_n (by omega), upd_n (by omega), upd_n (by omega)⟩) (fun i hi => ⟨upd_n (by omega), upd_n (by omega), ?_⟩)⟩
  · rw [upd_s, tvn_of (v := v) upd_s (by omega), upd_s]
  · obtain ⟨w, w1, w2, w3, w4⟩ := hT.2.2.1 i hi
    rw [tvn_of w3 (by omega)]
    exact upd_n (fun e => w4 (by rw [e]; exact ho))
theorem CHR.turned {c0 c1 c2 vl tr tc : Nat → Int32} {len c i : Nat} (h : CHR c0 c1 c2 vl tr tc i c) (hT : TI vl tr len) (hi : i < len) (h1 : tc i = 1) (h2 : c2 c = nI i) (h3 : c0 c = tr i) : CHR c0 (upd c1 c 1) c2 (upd (un tr i len vl) (tvn tr i) 1) tr tc (i + 1) (c + 1) := by
  refine Or.inl ⟨h1, c, rfl, h2, h3, by rw [upd_s, upd_s], h.congr (fun j hj => ⟨rfl, upd_n (by omega), rfl⟩) (fun j hj => ⟨rfl, rfl, ?_⟩)⟩
  rw [upd_n (tvn_ne hT (by omega) hi (by omega)), un_at hT j hj (by omega)]
theorem i64_m1 {x : Int32} (h : 0 ≤ x.toInt) : (x - 1).toInt64 = Int64.ofInt (x.toInt - 1) := by
  have := i_bd x
  rw [← Int64.ofInt_int32ToInt, i_sub (by rw [i_1]; omega) (by rw [i_1]; omega), i_1]
theorem d_C_turn_0 : decode b_C_turn 0 = .ok (.aload_n 0, 1) := by decide +kernel
theorem d_C_turn_1 : decode b_C_turn 1 = .ok (.getfield 134, 3) := by decide +kernel
theorem d_C_turn_4 : decode b_C_turn 4 = .ok (.ifCond .le 30, 3) := by decide +kernel
theorem d_C_turn_7 : decode b_C_turn 7 = .ok (.aload_n 0, 1) := by decide +kernel
theorem d_C_turn_8 : decode b_C_turn 8 = .ok (.getfield 37, 3) := by decide +kernel
theorem d_C_turn_11 : decode b_C_turn 11 = .ok (.aload_n 0, 1) := by decide +kernel
theorem d_C_turn_12 : decode b_C_turn 12 = .ok (.getfield 134, 3) := by decide +kernel
theorem d_C_turn_15 : decode b_C_turn 15 = .ok (.iconst 1, 1) := by decide +kernel
theorem d_C_turn_16 : decode b_C_turn 16 = .ok (.isub, 1) := by decide +kernel
theorem d_C_turn_17 : decode b_C_turn 17 = .ok (.baload, 1) := by decide +kernel
theorem d_C_turn_18 : decode b_C_turn 18 = .ok (.ifCond .eq 16, 3) := by decide +kernel
theorem d_C_turn_21 : decode b_C_turn 21 = .ok (.aload_n 0, 1) := by decide +kernel
theorem d_C_turn_22 : decode b_C_turn 22 = .ok (.dup, 1) := by decide +kernel
theorem d_C_turn_23 : decode b_C_turn 23 = .ok (.getfield 134, 3) := by decide +kernel
theorem d_C_turn_26 : decode b_C_turn 26 = .ok (.iconst 1, 1) := by decide +kernel
theorem d_C_turn_27 : decode b_C_turn 27 = .ok (.isub, 1) := by decide +kernel
theorem d_C_turn_28 : decode b_C_turn 28 = .ok (.putfield 134, 3) := by decide +kernel
theorem d_C_turn_31 : decode b_C_turn 31 = .ok (.goto (-31), 3) := by decide +kernel
theorem d_C_turn_34 : decode b_C_turn 34 = .ok (.aload_n 0, 1) := by decide +kernel
theorem d_C_turn_35 : decode b_C_turn 35 = .ok (.getfield 134, 3) := by decide +kernel
theorem d_C_turn_38 : decode b_C_turn 38 = .ok (.ifCond .ne 31, 3) := by decide +kernel
theorem d_C_turn_41 : decode b_C_turn 41 = .ok (.aload_n 0, 1) := by decide +kernel
theorem d_C_turn_42 : decode b_C_turn 42 = .ok (.aload_n 0, 1) := by decide +kernel
theorem d_C_turn_43 : decode b_C_turn 43 = .ok (.getfield 47, 3) := by decide +kernel
theorem d_C_turn_46 : decode b_C_turn 46 = .ok (.invokevirtual 103, 3) := by decide +kernel
theorem d_C_turn_49 : decode b_C_turn 49 = .ok (.ifCond .eq 19, 3) := by decide +kernel
theorem d_C_turn_52 : decode b_C_turn 52 = .ok (.aload_n 0, 1) := by decide +kernel
theorem d_C_turn_53 : decode b_C_turn 53 = .ok (.aload_n 0, 1) := by decide +kernel
theorem d_C_turn_54 : decode b_C_turn 54 = .ok (.getfield 124, 3) := by decide +kernel
theorem d_C_turn_57 : decode b_C_turn 57 = .ok (.invokevirtual 103, 3) := by decide +kernel
theorem d_C_turn_60 : decode b_C_turn 60 = .ok (.ifCond .eq 8, 3) := by decide +kernel
theorem d_C_turn_63 : decode b_C_turn 63 = .ok (.aload_n 0, 1) := by decide +kernel
theorem d_C_turn_64 : decode b_C_turn 64 = .ok (.iconst 1, 1) := by decide +kernel
theorem d_C_turn_65 : decode b_C_turn 65 = .ok (.putfield 90, 3) := by decide +kernel
theorem d_C_turn_68 : decode b_C_turn 68 = .ok (.return_, 1) := by decide +kernel
theorem d_C_turn_69 : decode b_C_turn 69 = .ok (.aload_n 0, 1) := by decide +kernel
theorem d_C_turn_70 : decode b_C_turn 70 = .ok (.getfield 30, 3) := by decide +kernel
theorem d_C_turn_73 : decode b_C_turn 73 = .ok (.aload_n 0, 1) := by decide +kernel
theorem d_C_turn_74 : decode b_C_turn 74 = .ok (.getfield 41, 3) := by decide +kernel
theorem d_C_turn_77 : decode b_C_turn 77 = .ok (.aload_n 0, 1) := by decide +kernel
theorem d_C_turn_78 : decode b_C_turn 78 = .ok (.getfield 134, 3) := by decide +kernel
theorem d_C_turn_81 : decode b_C_turn 81 = .ok (.iconst 1, 1) := by decide +kernel
theorem d_C_turn_82 : decode b_C_turn 82 = .ok (.isub, 1) := by decide +kernel
theorem d_C_turn_83 : decode b_C_turn 83 = .ok (.iaload, 1) := by decide +kernel
theorem d_C_turn_84 : decode b_C_turn 84 = .ok (.invokevirtual 140, 3) := by decide +kernel
theorem d_C_turn_87 : decode b_C_turn 87 = .ok (.aload_n 0, 1) := by decide +kernel
theorem d_C_turn_88 : decode b_C_turn 88 = .ok (.getfield 37, 3) := by decide +kernel
theorem d_C_turn_91 : decode b_C_turn 91 = .ok (.aload_n 0, 1) := by decide +kernel
theorem d_C_turn_92 : decode b_C_turn 92 = .ok (.getfield 134, 3) := by decide +kernel
theorem d_C_turn_95 : decode b_C_turn 95 = .ok (.iconst 1, 1) := by decide +kernel
theorem d_C_turn_96 : decode b_C_turn 96 = .ok (.isub, 1) := by decide +kernel
theorem d_C_turn_97 : decode b_C_turn 97 = .ok (.iconst 1, 1) := by decide +kernel
theorem d_C_turn_98 : decode b_C_turn 98 = .ok (.bastore, 1) := by decide +kernel
theorem d_C_turn_99 : decode b_C_turn 99 = .ok (.aload_n 0, 1) := by decide +kernel
theorem d_C_turn_100 : decode b_C_turn 100 = .ok (.getfield 30, 3) := by decide +kernel
theorem d_C_turn_103 : decode b_C_turn 103 = .ok (.aload_n 0, 1) := by decide +kernel
theorem d_C_turn_104 : decode b_C_turn 104 = .ok (.getfield 34, 3) := by decide +kernel
theorem d_C_turn_107 : decode b_C_turn 107 = .ok (.aload_n 0, 1) := by decide +kernel
theorem d_C_turn_108 : decode b_C_turn 108 = .ok (.getfield 134, 3) := by decide +kernel
theorem d_C_turn_111 : decode b_C_turn 111 = .ok (.iconst 1, 1) := by decide +kernel
theorem d_C_turn_112 : decode b_C_turn 112 = .ok (.isub, 1) := by decide +kernel
theorem d_C_turn_113 : decode b_C_turn 113 = .ok (.iaload, 1) := by decide +kernel
theorem d_C_turn_114 : decode b_C_turn 114 = .ok (.invokevirtual 116, 3) := by decide +kernel
theorem d_C_turn_117 : decode b_C_turn 117 = .ok (.return_, 1) := by decide +kernel
set_option maxHeartbeats 4000000 in
set_option maxRecDepth 100000 in
theorem c_C_turn (l : Launch) (D : va_G) (g : Nat → ClassId) (a : Nat → Nat) (P : Nat → Nat → Int32) (I : Nat → Int32) (F : Nat → Nat → Int32) (B0 B1 : BS) {n k : Nat} (hp : PWF P n k) {vl tr tc : Nat → Int32} {len : Nat} {best bb : Int32} {log : Nat → Int32} {ll : Nat} (hS : SC P n true (vl, tr, tc, len, best, bb, log, ll, false, false) I F B0) (hI : SI (vl, tr, tc, len, best, bb, log, ll, false, false)) (hn : I 5 = nI n) : Ct l D g y_C_turn b_C_turn 1 none 2 [.ref (a 0)] (CW a g P I F B0 B1) (fun r w => r = none ∧ ∃ I2 F2 B2, w = CW a g P I2 F2 B2 B1 ∧ SC P n true (tuA vl tr tc len best bb log ll) I2 F2 B2 ∧ FrI [12, 14, 17, 18] I I2 ∧ FrF [1, 3] F F2) := by
  refine Ct.of (lv := [(0, _)]) (by decide) rfl (Nat.le_of_ble_eq_true rfl) rfl ?_
  intro G K
  obtain ⟨g14, g15, g16, g17, g18, gF3, gR⟩ := id hS
  obtain ⟨gtc, gtr, gR, -⟩ := gR rfl rfl
  obtain ⟨gBI, gvl, gBL, ch, g12, gC⟩ := gR rfl
  obtain ⟨gB, gL⟩ := id hI
  dsimp only at g14 g15 g16 g17 g18 gF3 gtc gtr gBI gvl gBL g12 gC gB gL
  subst gtr gvl
  have J0 : ∀ (N : Nat) (len1 : Nat) (ch1 : Nat) (I1 : Nat → Int32), ch1 < N → (CHR (F 0) (F 1) (F 2) B0.1 B0.2.1 tc len1 ch1) → (I1 12 = nI ch1) → (ft B0.1 B0.2.1 tc len1 = ft B0.1 B0.2.1 tc len) → (len1 ≤ len) → (FrI [12] I I1) → G 0 [(0, .ref (a 0))] [] (CW a g P I1 F B0 B1) := by
    intro N
    induction N with
    | zero => intro len1 ch1 I1 hm; exact absurd hm (Nat.not_lt_zero _)
    | succ N ih0 =>
      intro len1 ch1 I1 hm0 hC h12 hft hl1 hIr
      have hle16 : len ≤ 16 := gBI.2.2.2.le
      have hchl := hC.le
      have J34 : ((ch1 = 0 ∧ ft B0.1 B0.2.1 tc len = none) ∨ (∃ c i, ch1 = c + 1 ∧ i < len ∧ tc i = 1 ∧ F 2 c = nI i ∧ F 0 c = B0.2.1 i ∧ CHR (F 0) (F 1) (F 2) B0.1 B0.2.1 tc i c ∧ ft B0.1 B0.2.1 tc len = some i)) → G 34 [(0, .ref (a 0))] [] (CW a g P I1 F B0 B1) := by
        intro  hE
        refine g_aload_n K 0 d_C_turn_34 rfl ?_
        refine gC_get K 12 fl_C_134 (by decide) rfl d_C_turn_35 ?_
        refine g_if_ne K (tgt := 69) d_C_turn_38 (by decide) (fun c38 => ?_) (fun c38 => ?_)
        · obtain ⟨c, i, rfl, e1, e2, e3, e4, e6, e7⟩ := hE.resolve_left (fun h => c38 (by rw [h12, h.1]; rfl))
          obtain ⟨v, v1, v2, v3, v4⟩ := gBI.2.2.2.2.2.1 i e1
          have ev := tvn_of v3 (by omega)
          refine g_aload_n K 0 d_C_turn_69 rfl ?_
          refine gC_get K 8 fl_C_30 (by decide) rfl d_C_turn_70 ?_
          refine g_aload_n K 0 d_C_turn_73 rfl ?_
          refine gC_get K 11 fl_C_41 (by decide) rfl d_C_turn_74 ?_
          refine g_aload_n K 0 d_C_turn_77 rfl ?_
          refine gC_get K 12 fl_C_134 (by decide) rfl d_C_turn_78 ?_
          refine g_iconst K (v := 1) d_C_turn_81 (by decide) ?_
          refine g_isub K d_C_turn_82 ?_
          refine g_iald K 12 (c) rfl (show _ = nI c from (congrArg (· - 1) h12).trans (nI_pred c)) (by omega) d_C_turn_83 ?_
          refine g_top K e3 ?_
          refine g_callB0 K (c_B_back l D g a (a 6) (a 7) (a 8) (a 9) (CF a I1) P B0 (FSn ((hIr 5 (by decide)).trans hn)) hp gBI (to := i) (by omega)) mf_B_back im_B_back se_B_back ml_C_140 (by decide) (Nat.le_of_ble_eq_true rfl) d_C_turn_84 (fun v B hq => ?_) rfl
          obtain ⟨rfl, b1, b2, b3, b4⟩ := hq
          refine g_rv ?_
          refine g_aload_n K 0 d_C_turn_87 rfl ?_
          refine gC_get K 10 fl_C_37 (by decide) rfl d_C_turn_88 ?_
          refine g_aload_n K 0 d_C_turn_91 rfl ?_
          refine gC_get K 12 fl_C_134 (by decide) rfl d_C_turn_92 ?_
          refine g_iconst K (v := 1) d_C_turn_95 (by decide) ?_
          refine g_isub K d_C_turn_96 ?_
          refine g_iconst K (v := 1) d_C_turn_97 (by decide) ?_
          refine gC_ast_turned K (c) true rfl (show _ = nI c from (congrArg (· - 1) h12).trans (nI_pred c)) (by omega) d_C_turn_98 ?_
          refine g_aload_n K 0 d_C_turn_99 rfl ?_
          refine gC_get K 8 fl_C_30 (by decide) rfl d_C_turn_100 ?_
          refine g_aload_n K 0 d_C_turn_103 rfl ?_
          refine gC_get K 9 fl_C_34 (by decide) rfl d_C_turn_104 ?_
          refine g_aload_n K 0 d_C_turn_107 rfl ?_
          refine gC_get K 12 fl_C_134 (by decide) rfl d_C_turn_108 ?_
          refine g_iconst K (v := 1) d_C_turn_111 (by decide) ?_
          refine g_isub K d_C_turn_112 ?_
          refine g_iald K 10 (c) rfl (show _ = nI c from (congrArg (· - 1) h12).trans (nI_pred c)) (by omega) d_C_turn_113 ?_
          refine g_top K (show _ = nI v from e4.trans v3) ?_
          refine g_callB0 K (c_B_set l D g a (a 6) (a 7) (a 8) (a 9) (CF a I1) P B (FSn ((hIr 5 (by decide)).trans hn)) hp b3 (lit := nI v) (by rw [vx_nI (by omega)]; exact v1) (by rw [vx_nI (by omega)]; exact v2) (by rw [vx_nI (by omega), b1, ← ev]; exact un_self gBI.2.2.2 e1)) mf_B_set im_B_set se_B_set ml_C_116 (by decide) (Nat.le_of_ble_eq_true rfl) d_C_turn_114 (fun v B hq => ?_) rfl
          rename_i Bk
          obtain ⟨rfl, d1, d2, d3, d4⟩ := hq
          refine g_rv ?_
          refine g_vret K d_C_turn_117 (⟨rfl, _, _, _, rfl, ?_, hIr.m (by decide), FrF.rf.u (by decide)⟩)
          rw [tuA_s e7]
          have hv : B.1 = upd (un B0.2.1 i len B0.1) (tvn B0.2.1 i) 1 := by rw [d1, sv_pos v1 v2, b1, ev]
          refine ⟨(hIr 14 (by decide)).trans g14, (hIr 15 (by decide)).trans g15, (hIr 16 (by decide)).trans g16, (hIr 17 (by decide)).trans g17, (hIr 18 (by decide)).trans g18, gF3, fun _ _ => ⟨gtc, ?_, fun _ => ⟨d3, hv, (gBL.of b4).of d4, c + 1, h12, e6.turned gBI.2.2.2 e1 e2 e3 e4⟩, fun e => by cases e⟩⟩
          show B.2.1 = B0.2.1
          rw [d2, b2, vx_nI (by omega), upd_id v3]
        · have e0 : ft B0.1 B0.2.1 tc len = none := by rcases hE with h | ⟨c, i, h, -⟩; exact h.2; exact absurd (h12.symm.trans c38) (by rw [h]; exact nI_ne0 (by omega) (by omega))
          refine g_aload_n K 0 d_C_turn_41 rfl ?_
          refine g_aload_n K 0 d_C_turn_42 rfl ?_
          refine gC_get K 15 fl_C_47 (by decide) rfl d_C_turn_43 ?_
          refine g_top K ((hIr 15 (by decide)).trans g15) ?_
          refine g_callW (q0 := 0) K (c_C_write l D g a P I1 F B0 B1 ((hIr 14 (by decide)).trans g14) gL best) mf_C_write im_C_write se_C_write ml_C_103 (by decide) rfl rfl (Nat.le_of_ble_eq_true rfl) d_C_turn_46 (fun v w1 hq => ?_) rfl
          obtain ⟨b, rfl, hq⟩ := hq
          refine g_ri ?_
          refine g_if_eq K (tgt := 68) d_C_turn_49 (by decide) (fun c49 => ?_) (fun c49 => ?_)
          · rcases hq with ⟨-, hl2, rfl⟩ | ⟨z, -⟩
            rotate_left
            · exact absurd (z.symm.trans (bZ_f c49)) (by decide)
            refine g_vret K d_C_turn_68 (⟨rfl, _, _, _, rfl, by rw [tuA_n e0, if_pos hl2]; exact ⟨(hIr 14 (by decide)).trans g14, (hIr 15 (by decide)).trans g15, (hIr 16 (by decide)).trans g16, (hIr 17 (by decide)).trans g17, rfl, gF3, fun _ e => by cases e⟩, (hIr.m (by decide)).u (by decide), FrF.rf⟩)
          · rcases hq with ⟨z, -⟩ | ⟨-, hl2, rfl⟩
            · exact absurd (z.symm.trans (bZ_t c49)) (by decide)
            refine g_aload_n K 0 d_C_turn_52 rfl ?_
            refine g_aload_n K 0 d_C_turn_53 rfl ?_
            refine gC_get K 16 fl_C_124 (by decide) rfl d_C_turn_54 ?_
            refine g_top K ((hIr 16 (by decide)).trans g16) ?_
            refine g_callW (q0 := 0) K (c_C_write l D g a P (upd I1 14 (nI (ll + 1))) (va_up F 3 (upd (F 3) ll best)) B0 B1 (ll := ll + 1) rfl (by omega) bb) mf_C_write im_C_write se_C_write ml_C_103 (by decide) rfl rfl (Nat.le_of_ble_eq_true rfl) d_C_turn_57 (fun v w1 hq => ?_) rfl
            obtain ⟨b, rfl, hq⟩ := hq
            refine g_ri ?_
            refine g_if_eq K (tgt := 68) d_C_turn_60 (by decide) (fun c60 => ?_) (fun c60 => ?_)
            · rcases hq with ⟨-, hl3, rfl⟩ | ⟨z, -⟩
              rotate_left
              · exact absurd (z.symm.trans (bZ_f c60)) (by decide)
              refine g_vret K d_C_turn_68 (⟨rfl, _, _, _, rfl, by rw [tuA_n e0, if_neg (by omega), if_pos hl3]; exact ⟨rfl, (hIr 15 (by decide)).trans g15, (hIr 16 (by decide)).trans g16, (hIr 17 (by decide)).trans g17, rfl, by show upd (F 3) ll best = _; rw [gF3], fun _ e => by cases e⟩, ((hIr.m (by decide)).u (by decide)).u (by decide), FrF.rf.u (by decide)⟩)
            · rcases hq with ⟨z, -⟩ | ⟨-, hl3, rfl⟩
              · exact absurd (z.symm.trans (bZ_t c60)) (by decide)
              refine g_aload_n K 0 d_C_turn_63 rfl ?_
              refine g_iconst K (v := 1) d_C_turn_64 (by decide) ?_
              refine gC_put_done K true rfl fl_C_90 d_C_turn_65 ?_
              refine g_vret K d_C_turn_68 (⟨rfl, _, _, _, rfl, by rw [tuA_n e0, if_neg (by omega), if_neg (by omega)]; exact ⟨rfl, (hIr 15 (by decide)).trans g15, (hIr 16 (by decide)).trans g16, rfl, (hIr 18 (by decide)).trans g18, by show upd (upd (F 3) ll best) (ll + 1) bb = _; rw [gF3], fun e => by cases e⟩, (((hIr.m (by decide)).u (by decide)).u (by decide)).u (by decide), (FrF.rf.u (by decide)).u (by decide)⟩)
      refine g_aload_n K 0 d_C_turn_0 rfl ?_
      refine gC_get K 12 fl_C_134 (by decide) rfl d_C_turn_1 ?_
      refine g_if_le K (tgt := 34) d_C_turn_4 (by decide) (fun c4 => ?_) (fun c4 => ?_)
      · have hz : ch1 = 0 := by rw [h12, i_le, i_0, nI_toInt (by omega)] at c4; omega
        refine g_lv K [0] rfl (J34 (Or.inl ⟨hz, by subst hz; rw [← hft]; exact hC.zero⟩))
      · obtain ⟨c, rfl⟩ : ∃ c, ch1 = c + 1 := ⟨ch1 - 1, by rw [h12, i_le, i_0, nI_toInt (by omega)] at c4; omega⟩
        obtain ⟨i, i1, i2, i3, i4, i5, i6, i7⟩ := hC.top
        refine g_aload_n K 0 d_C_turn_7 rfl ?_
        refine gC_get K 10 fl_C_37 (by decide) rfl d_C_turn_8 ?_
        refine g_aload_n K 0 d_C_turn_11 rfl ?_
        refine gC_get K 12 fl_C_134 (by decide) rfl d_C_turn_12 ?_
        refine g_iconst K (v := 1) d_C_turn_15 (by decide) ?_
        refine g_isub K d_C_turn_16 ?_
        refine g_zald K 11 (c) rfl (show _ = nI c from (congrArg (· - 1) h12).trans (nI_pred c)) (by omega) d_C_turn_17 ?_
        refine g_if_eq K (tgt := 34) d_C_turn_18 (by decide) (fun c18 => ?_) (fun c18 => ?_)
        · refine g_lv K [0] rfl (J34 (Or.inr ⟨c, i, rfl, by omega, i2, i3, i4, i6, by rw [← hft, i7, if_pos (i5.symm.trans c18)]⟩))
        · refine g_aload_n K 0 d_C_turn_21 rfl ?_
          refine g_dup K d_C_turn_22 rfl ?_
          refine gC_get K 12 fl_C_134 (by decide) rfl d_C_turn_23 ?_
          refine g_iconst K (v := 1) d_C_turn_26 (by decide) ?_
          refine g_isub K d_C_turn_27 ?_
          refine g_top K (show _ = nI c from (congrArg (· - 1) h12).trans (nI_pred c)) ?_
          refine gC_put_choices K fl_C_134 d_C_turn_28 ?_
          refine g_goto K (tgt := 0) d_C_turn_31 (by decide) ?_
          refine g_lv K [0] rfl (ih0 i c _ (by omega) i6 rfl (by rw [← hft, i7, if_neg (fun z => c18 (i5.trans z))]) (by omega) (hIr.u (by decide)))
  refine g_lv K [0] rfl (J0 _ len ch I (Nat.lt_succ_self _) gC g12 rfl (Nat.le_refl _) FrI.rf)
theorem d_C_step_0 : decode b_C_step 0 = .ok (.aload_n 0, 1) := by decide +kernel
theorem d_C_step_1 : decode b_C_step 1 = .ok (.getfield 30, 3) := by decide +kernel
theorem d_C_step_4 : decode b_C_step 4 = .ok (.invokevirtual 99, 3) := by decide +kernel
theorem d_C_step_7 : decode b_C_step 7 = .ok (.ifCond .eq 16, 3) := by decide +kernel
theorem d_C_step_10 : decode b_C_step 10 = .ok (.aload_n 0, 1) := by decide +kernel
theorem d_C_step_11 : decode b_C_step 11 = .ok (.iconst 0, 1) := by decide +kernel
theorem d_C_step_12 : decode b_C_step 12 = .ok (.invokevirtual 103, 3) := by decide +kernel
theorem d_C_step_15 : decode b_C_step 15 = .ok (.ifCond .eq 7, 3) := by decide +kernel
theorem d_C_step_18 : decode b_C_step 18 = .ok (.aload_n 0, 1) := by decide +kernel
theorem d_C_step_19 : decode b_C_step 19 = .ok (.invokevirtual 106, 3) := by decide +kernel
theorem d_C_step_22 : decode b_C_step 22 = .ok (.return_, 1) := by decide +kernel
theorem d_C_step_23 : decode b_C_step 23 = .ok (.aload_n 0, 1) := by decide +kernel
theorem d_C_step_24 : decode b_C_step 24 = .ok (.getfield 30, 3) := by decide +kernel
theorem d_C_step_27 : decode b_C_step 27 = .ok (.invokevirtual 109, 3) := by decide +kernel
theorem d_C_step_30 : decode b_C_step 30 = .ok (.istore_n 1, 1) := by decide +kernel
theorem d_C_step_31 : decode b_C_step 31 = .ok (.aload_n 0, 1) := by decide +kernel
theorem d_C_step_32 : decode b_C_step 32 = .ok (.getfield 30, 3) := by decide +kernel
theorem d_C_step_35 : decode b_C_step 35 = .ok (.invokevirtual 113, 3) := by decide +kernel
theorem d_C_step_38 : decode b_C_step 38 = .ok (.istore_n 2, 1) := by decide +kernel
theorem d_C_step_39 : decode b_C_step 39 = .ok (.iload_n 1, 1) := by decide +kernel
theorem d_C_step_40 : decode b_C_step 40 = .ok (.ifCond .eq 14, 3) := by decide +kernel
theorem d_C_step_43 : decode b_C_step 43 = .ok (.aload_n 0, 1) := by decide +kernel
theorem d_C_step_44 : decode b_C_step 44 = .ok (.getfield 30, 3) := by decide +kernel
theorem d_C_step_47 : decode b_C_step 47 = .ok (.iload_n 1, 1) := by decide +kernel
theorem d_C_step_48 : decode b_C_step 48 = .ok (.invokevirtual 116, 3) := by decide +kernel
theorem d_C_step_51 : decode b_C_step 51 = .ok (.goto 140, 3) := by decide +kernel
theorem d_C_step_54 : decode b_C_step 54 = .ok (.iload_n 2, 1) := by decide +kernel
theorem d_C_step_55 : decode b_C_step 55 = .ok (.ifCond .ne 73, 3) := by decide +kernel
theorem d_C_step_58 : decode b_C_step 58 = .ok (.aload_n 0, 1) := by decide +kernel
theorem d_C_step_59 : decode b_C_step 59 = .ok (.aload_n 0, 1) := by decide +kernel
theorem d_C_step_60 : decode b_C_step 60 = .ok (.getfield 30, 3) := by decide +kernel
theorem d_C_step_63 : decode b_C_step 63 = .ok (.getfield 120, 3) := by decide +kernel
theorem d_C_step_66 : decode b_C_step 66 = .ok (.l2i, 1) := by decide +kernel
theorem d_C_step_67 : decode b_C_step 67 = .ok (.putfield 47, 3) := by decide +kernel
theorem d_C_step_70 : decode b_C_step 70 = .ok (.aload_n 0, 1) := by decide +kernel
theorem d_C_step_71 : decode b_C_step 71 = .ok (.iconst 0, 1) := by decide +kernel
theorem d_C_step_72 : decode b_C_step 72 = .ok (.putfield 124, 3) := by decide +kernel
theorem d_C_step_75 : decode b_C_step 75 = .ok (.iconst 1, 1) := by decide +kernel
theorem d_C_step_76 : decode b_C_step 76 = .ok (.istore_n 3, 1) := by decide +kernel
theorem d_C_step_77 : decode b_C_step 77 = .ok (.iload_n 3, 1) := by decide +kernel
theorem d_C_step_78 : decode b_C_step 78 = .ok (.bipush 16, 2) := by decide +kernel
theorem d_C_step_80 : decode b_C_step 80 = .ok (.if_icmp .gt 31, 3) := by decide +kernel
theorem d_C_step_83 : decode b_C_step 83 = .ok (.aload_n 0, 1) := by decide +kernel
theorem d_C_step_84 : decode b_C_step 84 = .ok (.dup, 1) := by decide +kernel
theorem d_C_step_85 : decode b_C_step 85 = .ok (.getfield 124, 3) := by decide +kernel
theorem d_C_step_88 : decode b_C_step 88 = .ok (.aload_n 0, 1) := by decide +kernel
theorem d_C_step_89 : decode b_C_step 89 = .ok (.getfield 30, 3) := by decide +kernel
theorem d_C_step_92 : decode b_C_step 92 = .ok (.getfield 127, 3) := by decide +kernel
theorem d_C_step_95 : decode b_C_step 95 = .ok (.iload_n 3, 1) := by decide +kernel
theorem d_C_step_96 : decode b_C_step 96 = .ok (.iaload, 1) := by decide +kernel
theorem d_C_step_97 : decode b_C_step 97 = .ok (.iload_n 3, 1) := by decide +kernel
theorem d_C_step_98 : decode b_C_step 98 = .ok (.iconst 1, 1) := by decide +kernel
theorem d_C_step_99 : decode b_C_step 99 = .ok (.isub, 1) := by decide +kernel
theorem d_C_step_100 : decode b_C_step 100 = .ok (.ishl, 1) := by decide +kernel
theorem d_C_step_101 : decode b_C_step 101 = .ok (.ior, 1) := by decide +kernel
theorem d_C_step_102 : decode b_C_step 102 = .ok (.putfield 124, 3) := by decide +kernel
theorem d_C_step_105 : decode b_C_step 105 = .ok (.iinc 3 1, 3) := by decide +kernel
theorem d_C_step_108 : decode b_C_step 108 = .ok (.goto (-31), 3) := by decide +kernel
theorem d_C_step_111 : decode b_C_step 111 = .ok (.aload_n 0, 1) := by decide +kernel
theorem d_C_step_112 : decode b_C_step 112 = .ok (.getfield 30, 3) := by decide +kernel
theorem d_C_step_115 : decode b_C_step 115 = .ok (.aload_n 0, 1) := by decide +kernel
theorem d_C_step_116 : decode b_C_step 116 = .ok (.getfield 47, 3) := by decide +kernel
theorem d_C_step_119 : decode b_C_step 119 = .ok (.iconst 1, 1) := by decide +kernel
theorem d_C_step_120 : decode b_C_step 120 = .ok (.isub, 1) := by decide +kernel
theorem d_C_step_121 : decode b_C_step 121 = .ok (.i2l, 1) := by decide +kernel
theorem d_C_step_122 : decode b_C_step 122 = .ok (.invokevirtual 130, 3) := by decide +kernel
theorem d_C_step_125 : decode b_C_step 125 = .ok (.goto 66, 3) := by decide +kernel
theorem d_C_step_128 : decode b_C_step 128 = .ok (.aload_n 0, 1) := by decide +kernel
theorem d_C_step_129 : decode b_C_step 129 = .ok (.iload_n 2, 1) := by decide +kernel
theorem d_C_step_130 : decode b_C_step 130 = .ok (.invokevirtual 103, 3) := by decide +kernel
theorem d_C_step_133 : decode b_C_step 133 = .ok (.ifCond .eq 58, 3) := by decide +kernel
theorem d_C_step_136 : decode b_C_step 136 = .ok (.aload_n 0, 1) := by decide +kernel
theorem d_C_step_137 : decode b_C_step 137 = .ok (.getfield 34, 3) := by decide +kernel
theorem d_C_step_140 : decode b_C_step 140 = .ok (.aload_n 0, 1) := by decide +kernel
theorem d_C_step_141 : decode b_C_step 141 = .ok (.getfield 134, 3) := by decide +kernel
theorem d_C_step_144 : decode b_C_step 144 = .ok (.iload_n 2, 1) := by decide +kernel
theorem d_C_step_145 : decode b_C_step 145 = .ok (.iastore, 1) := by decide +kernel
theorem d_C_step_146 : decode b_C_step 146 = .ok (.aload_n 0, 1) := by decide +kernel
theorem d_C_step_147 : decode b_C_step 147 = .ok (.getfield 37, 3) := by decide +kernel
theorem d_C_step_150 : decode b_C_step 150 = .ok (.aload_n 0, 1) := by decide +kernel
theorem d_C_step_151 : decode b_C_step 151 = .ok (.getfield 134, 3) := by decide +kernel
theorem d_C_step_154 : decode b_C_step 154 = .ok (.iconst 0, 1) := by decide +kernel
theorem d_C_step_155 : decode b_C_step 155 = .ok (.bastore, 1) := by decide +kernel
theorem d_C_step_156 : decode b_C_step 156 = .ok (.aload_n 0, 1) := by decide +kernel
theorem d_C_step_157 : decode b_C_step 157 = .ok (.getfield 41, 3) := by decide +kernel
theorem d_C_step_160 : decode b_C_step 160 = .ok (.aload_n 0, 1) := by decide +kernel
theorem d_C_step_161 : decode b_C_step 161 = .ok (.getfield 134, 3) := by decide +kernel
theorem d_C_step_164 : decode b_C_step 164 = .ok (.aload_n 0, 1) := by decide +kernel
theorem d_C_step_165 : decode b_C_step 165 = .ok (.getfield 30, 3) := by decide +kernel
theorem d_C_step_168 : decode b_C_step 168 = .ok (.getfield 137, 3) := by decide +kernel
theorem d_C_step_171 : decode b_C_step 171 = .ok (.iastore, 1) := by decide +kernel
theorem d_C_step_172 : decode b_C_step 172 = .ok (.aload_n 0, 1) := by decide +kernel
theorem d_C_step_173 : decode b_C_step 173 = .ok (.dup, 1) := by decide +kernel
theorem d_C_step_174 : decode b_C_step 174 = .ok (.getfield 134, 3) := by decide +kernel
theorem d_C_step_177 : decode b_C_step 177 = .ok (.iconst 1, 1) := by decide +kernel
theorem d_C_step_178 : decode b_C_step 178 = .ok (.iadd, 1) := by decide +kernel
theorem d_C_step_179 : decode b_C_step 179 = .ok (.putfield 134, 3) := by decide +kernel
theorem d_C_step_182 : decode b_C_step 182 = .ok (.aload_n 0, 1) := by decide +kernel
theorem d_C_step_183 : decode b_C_step 183 = .ok (.getfield 30, 3) := by decide +kernel
theorem d_C_step_186 : decode b_C_step 186 = .ok (.iload_n 2, 1) := by decide +kernel
theorem d_C_step_187 : decode b_C_step 187 = .ok (.ineg, 1) := by decide +kernel
theorem d_C_step_188 : decode b_C_step 188 = .ok (.invokevirtual 116, 3) := by decide +kernel
theorem d_C_step_191 : decode b_C_step 191 = .ok (.return_, 1) := by decide +kernel
set_option maxHeartbeats 4000000 in
set_option maxRecDepth 100000 in
theorem c_C_step (l : Launch) (D : va_G) (g : Nat → ClassId) (a : Nat → Nat) (P : Nat → Nat → Int32) (I : Nat → Int32) (F : Nat → Nat → Int32) (B0 B1 : BS) {n k : Nat} (hp : PWF P n k) {vl tr tc : Nat → Int32} {len : Nat} {best bb : Int32} {log : Nat → Int32} {ll : Nat} (hS : SC P n true (vl, tr, tc, len, best, bb, log, ll, false, false) I F B0) (hI : SI (vl, tr, tc, len, best, bb, log, ll, false, false)) (hn : I 5 = nI n) : Ct l D g y_C_step b_C_step 4 none 3 [.ref (a 0)] (CW a g P I F B0 B1) (fun r w => r = none ∧ ∃ I2 F2 B2, w = CW a g P I2 F2 B2 B1 ∧ SC P n true (stepA P n vl tr tc len best bb log ll) I2 F2 B2 ∧ FrI [12, 14, 15, 16, 17, 18] I I2 ∧ FrF [0, 1, 2, 3] F F2) := by
  refine Ct.of (lv := [(0, _)]) (by decide) rfl (Nat.le_of_ble_eq_true rfl) rfl ?_
  intro G K
  obtain ⟨g14, g15, g16, g17, g18, gF3, gR⟩ := id hS
  obtain ⟨gtc, gtr, gR, -⟩ := gR rfl rfl
  obtain ⟨gBI, gvl, gBL, ch, g12, gC⟩ := gR rfl
  obtain ⟨gB, gL⟩ := id hI
  dsimp only at g14 g15 g16 g17 g18 gF3 gtc gtr gBI gvl gBL g12 gC gB gL
  subst gtr gvl
  have J77 : ∀ (N : Nat) (m : Nat) (I1 : Nat → Int32), 16 - m < N → (brk P n (limS best) B0.1 = false) → (frc P n (limS best) B0.1 = 0) → (fop B0.1 = 0) → (m ≤ 16) → (I1 16 = bo B0.1 m) → (I1 15 = Int32.ofInt (sp P B0.1)) → (FrI [15, 16] I I1) → G 77 [(0, .ref (a 0)), (3, .int (nI (m + 1)))] [] (CW a g P I1 F B0 B1) := by
    intro N
    induction N with
    | zero => intro m I1 hm; exact absurd hm (Nat.not_lt_zero _)
    | succ N ih77 =>
      intro m I1 hm77 hb0 hf0 hx0 hm h16 h15 hIr
      refine g_iload_n K 1 d_C_step_77 rfl ?_
      refine g_bipush K (v := 16) d_C_step_78 (by decide) ?_
      refine g_top K nI_16 ?_
      refine g_icmp_gt K (tgt := 111) d_C_step_80 (by decide) (fun c80 => ?_) (fun c80 => ?_)
      · have h80 : m = 16 := by have := (nI_ltI (by omega) (by omega)).mp c80; omega
        refine g_aload_n K 0 d_C_step_111 rfl ?_
        refine gC_get K 8 fl_C_30 (by decide) rfl d_C_step_112 ?_
        refine g_aload_n K 0 d_C_step_115 rfl ?_
        refine gC_get K 15 fl_C_47 (by decide) rfl d_C_step_116 ?_
        refine g_iconst K (v := 1) d_C_step_119 (by decide) ?_
        refine g_isub K d_C_step_120 ?_
        refine g_i2l K d_C_step_121 ?_
        refine g_callB0 K (c_B_limit l D g a (a 6) (a 7) (a 8) (a 9) (CF a I1) P B0 _) mf_B_limit im_B_limit se_B_limit ml_C_130 (by decide) (Nat.le_of_ble_eq_true rfl) d_C_step_122 (fun v B hq => ?_) rfl
        obtain ⟨rfl, rfl⟩ := hq
        refine g_rv ?_
        refine g_goto K (tgt := 191) d_C_step_125 (by decide) ?_
        refine g_vret K d_C_step_191 (⟨rfl, _, _, _, rfl, ?_, hIr.m (by decide), FrF.rf⟩)
        rw [stepA_o hb0 hf0 hx0]
        have hs := sp_bd hp B0.1
        have hl : limS (Int32.ofInt (sp P B0.1)) = some (sp P B0.1 - 1) := by unfold limS; rw [i_of (by omega) (by omega), if_pos hs.1]
        refine ⟨(hIr 14 (by decide)).trans g14, h15, by rw [h16, h80], (hIr 17 (by decide)).trans g17, (hIr 18 (by decide)).trans g18, gF3, fun _ _ => ⟨gtc, rfl, fun _ => ⟨⟨gBI.1, gBI.2.1, gBI.2.2.1, gBI.2.2.2⟩, rfl, ?_, ch, (hIr 12 (by decide)).trans g12, gC⟩, fun e => by cases e⟩⟩
        show BL _ (limS (Int32.ofInt (sp P B0.1)))
        rw [hl]
        refine ⟨rfl, fun L e => ?_⟩
        cases e
        refine ⟨?_, by omega, by omega⟩
        show (I1 15 - 1).toInt64 = _
        rw [h15, i64_m1 (by rw [i_of (by omega) (by omega)]; exact hs.1), i_of (by omega) (by omega)]
      · have h80 : m < 16 := by have := Nat.lt_of_not_le (fun h => c80 ((nI_ltI (by omega) (by omega)).mpr h)); omega
        refine g_aload_n K 0 d_C_step_83 rfl ?_
        refine g_dup K d_C_step_84 rfl ?_
        refine gC_get K 16 fl_C_124 (by decide) rfl d_C_step_85 ?_
        refine g_aload_n K 0 d_C_step_88 rfl ?_
        refine gC_get K 8 fl_C_30 (by decide) rfl d_C_step_89 ?_
        refine g_getN K 6 (ci := 0) (k := 1) i_B rfl rfl (by decide) fn_C_127 rfl d_C_step_92 ?_
        refine g_iload_n K 1 d_C_step_95 rfl ?_
        refine g_iald K 7 (m + 1) rfl rfl (by omega) d_C_step_96 ?_
        refine g_iload_n K 1 d_C_step_97 rfl ?_
        refine g_iconst K (v := 1) d_C_step_98 (by decide) ?_
        refine g_isub K d_C_step_99 ?_
        refine g_ishl K d_C_step_100 ?_
        refine g_ior K d_C_step_101 ?_
        refine gC_put_bestBits K fl_C_124 d_C_step_102 ?_
        refine g_iinc (v := nI (m + 1 + 1)) (lv' := [(3, _), (0, _)]) K 1 d_C_step_105 rfl (nI_1 (m + 1)) (by decide) rfl ?_
        refine g_goto K (tgt := 77) d_C_step_108 (by decide) ?_
        refine g_lv K [1, 0] rfl (ih77 (m + 1) _ (by omega) hb0 hf0 hx0 (by omega) (by rw [upd_s, h16]; rfl) h15 (hIr.u (by decide)))
  refine g_aload_n K 0 d_C_step_0 rfl ?_
  refine gC_get K 8 fl_C_30 (by decide) rfl d_C_step_1 ?_
  refine g_callB0 K (c_B_isBroken l D g a (a 6) (a 7) (a 8) (a 9) (CF a I) P B0 (FSn hn) hp gBI gBL) mf_B_isBroken im_B_isBroken se_B_isBroken ml_C_99 (by decide) (Nat.le_of_ble_eq_true rfl) d_C_step_4 (fun v B hq => ?_) rfl
  obtain ⟨rfl, eB⟩ := hq
  rw [eB]
  refine g_ri ?_
  refine g_if_eq K (tgt := 23) d_C_step_7 (by decide) (fun c7 => ?_) (fun c7 => ?_)
  · have hb0 := bZ_f c7
    refine g_aload_n K 0 d_C_step_23 rfl ?_
    refine gC_get K 8 fl_C_30 (by decide) rfl d_C_step_24 ?_
    refine g_callB0 K (c_B_forces l D g a (a 6) (a 7) (a 8) (a 9) (CF a I) P B0 (FSn hn) hp gBI gBL) mf_B_forces im_B_forces se_B_forces ml_C_109 (by decide) (Nat.le_of_ble_eq_true rfl) d_C_step_27 (fun v B hq => ?_) rfl
    obtain ⟨rfl, eB⟩ := hq
    rw [eB]
    refine g_ri ?_
    refine g_istore_n (lv' := [(1, _), (0, _)]) K d_C_step_30 (by decide) rfl ?_
    refine g_aload_n K 1 d_C_step_31 rfl ?_
    refine gC_get K 8 fl_C_30 (by decide) rfl d_C_step_32 ?_
    refine g_callB0 K (c_B_firstOpen l D g a (a 6) (a 7) (a 8) (a 9) (CF a I) P B0) mf_B_firstOpen im_B_firstOpen se_B_firstOpen ml_C_113 (by decide) (Nat.le_of_ble_eq_true rfl) d_C_step_35 (fun v B hq => ?_) rfl
    obtain ⟨rfl, eB⟩ := hq
    rw [eB]
    refine g_ri ?_
    refine g_istore_n (lv' := [(2, _), (1, _), (0, _)]) K d_C_step_38 (by decide) rfl ?_
    refine g_iload_n K 1 d_C_step_39 rfl ?_
    refine g_if_eq K (tgt := 54) d_C_step_40 (by decide) (fun c40 => ?_) (fun c40 => ?_)
    · refine g_iload_n K 0 d_C_step_54 rfl ?_
      refine g_if_ne K (tgt := 128) d_C_step_55 (by decide) (fun c55 => ?_) (fun c55 => ?_)
      · obtain ⟨v, v1, v2, v3, v4⟩ := (fop_cases B0.1).resolve_left (fun h => c55 h.1)
        have hlen : len < 16 := by have h3 := cn_open ⟨v1, v2⟩ v3; have h4 := gBI.2.2.2.2.1; omega
        have hch := gC.le
        refine g_aload_n K 2 d_C_step_128 rfl ?_
        refine g_iload_n K 0 d_C_step_129 rfl ?_
        refine g_callW (q0 := 0) K (c_C_write l D g a P I F B0 B1 g14 gL (fop B0.1)) mf_C_write im_C_write se_C_write ml_C_103 (by decide) rfl rfl (Nat.le_of_ble_eq_true rfl) d_C_step_130 (fun v w1 hq => ?_) rfl
        obtain ⟨b, rfl, hq⟩ := hq
        refine g_ri ?_
        refine g_if_eq K (tgt := 191) d_C_step_133 (by decide) (fun c133 => ?_) (fun c133 => ?_)
        · rcases hq with ⟨-, hll, rfl⟩ | ⟨z, -⟩
          rotate_left
          · exact absurd (z.symm.trans (bZ_f c133)) (by decide)
          refine g_vret K d_C_step_191 (⟨rfl, _, _, _, rfl, by rw [stepA_l hb0 c40 c55 hll]; exact ⟨g14, g15, g16, g17, rfl, gF3, fun _ e => by cases e⟩, FrI.rf.u (by decide), FrF.rf⟩)
        · rcases hq with ⟨z, -⟩ | ⟨-, hll, rfl⟩
          · exact absurd (z.symm.trans (bZ_t c133)) (by decide)
          refine g_aload_n K 2 d_C_step_136 rfl ?_
          refine gC_get K 9 fl_C_34 (by decide) rfl d_C_step_137 ?_
          refine g_aload_n K 2 d_C_step_140 rfl ?_
          refine gC_get K 12 fl_C_134 (by decide) rfl d_C_step_141 ?_
          refine g_iload_n K 0 d_C_step_144 rfl ?_
          refine gC_ast_chosen K (ch) g12 (by omega) d_C_step_145 ?_
          refine g_aload_n K 2 d_C_step_146 rfl ?_
          refine gC_get K 10 fl_C_37 (by decide) rfl d_C_step_147 ?_
          refine g_aload_n K 2 d_C_step_150 rfl ?_
          refine gC_get K 12 fl_C_134 (by decide) rfl d_C_step_151 ?_
          refine g_iconst K (v := 0) d_C_step_154 (by decide) ?_
          refine gC_ast_turned K (ch) false rfl g12 (by omega) d_C_step_155 ?_
          refine g_aload_n K 2 d_C_step_156 rfl ?_
          refine gC_get K 11 fl_C_41 (by decide) rfl d_C_step_157 ?_
          refine g_aload_n K 2 d_C_step_160 rfl ?_
          refine gC_get K 12 fl_C_134 (by decide) rfl d_C_step_161 ?_
          refine g_aload_n K 2 d_C_step_164 rfl ?_
          refine gC_get K 8 fl_C_30 (by decide) rfl d_C_step_165 ?_
          refine g_getN K 6 (ci := 0) (k := 3) i_B rfl rfl (by decide) fn_C_137 rfl d_C_step_168 ?_
          refine g_top K gBI.1 ?_
          refine gC_ast_marks K (ch) g12 (by omega) d_C_step_171 ?_
          refine g_aload_n K 2 d_C_step_172 rfl ?_
          refine g_dup K d_C_step_173 rfl ?_
          refine gC_get K 12 fl_C_134 (by decide) rfl d_C_step_174 ?_
          refine g_iconst K (v := 1) d_C_step_177 (by decide) ?_
          refine g_iadd K d_C_step_178 ?_
          refine g_top K (show _ = nI (ch + 1) from (congrArg (· + 1) g12).trans (nI_1 ch)) ?_
          refine gC_put_choices K fl_C_134 d_C_step_179 ?_
          refine g_aload_n K 2 d_C_step_182 rfl ?_
          refine gC_get K 8 fl_C_30 (by decide) rfl d_C_step_183 ?_
          refine g_iload_n K 0 d_C_step_186 rfl ?_
          refine g_ineg K d_C_step_187 ?_
          refine g_callB0 K (c_B_set l D g a (a 6) (a 7) (a 8) (a 9) (CF a (upd (upd I 14 (nI (ll + 1))) 12 (nI (ch + 1)))) P B0 (FSn (I := upd (upd I 14 (nI (ll + 1))) 12 (nI (ch + 1))) hn) hp gBI (lit := -fop B0.1) (by rw [v4, vx_neg (by omega)]; exact v1) (by rw [v4, vx_neg (by omega)]; exact v2) (by rw [v4, vx_neg (by omega)]; exact v3)) mf_B_set im_B_set se_B_set ml_C_116 (by decide) (Nat.le_of_ble_eq_true rfl) d_C_step_188 (fun v B hq => ?_) rfl
          obtain ⟨rfl, d1, d2, d3, d4⟩ := hq
          refine g_rv ?_
          refine g_vret K d_C_step_191 (⟨rfl, _, _, _, rfl, ?_, (FrI.rf.u (by decide)).u (by decide), (((FrF.rf.u (by decide)).u (by decide)).u (by decide)).u (by decide)⟩)
          rw [stepA_c hb0 c40 c55 (by omega), v4, vx_nI (by omega)]
          rw [v4] at d1 d2
          rw [vx_neg (by omega)] at d2
          rw [sv_neg v1 v2] at d1
          refine ⟨rfl, g15, g16, g17, g18, by show upd (F 3) ll (nI v) = _; rw [gF3], fun _ _ => ⟨fun i => by show upd tc len 1 i = 0 ∨ upd tc len 1 i = 1; by_cases e : i = len; rw [e, upd_s]; exact Or.inr rfl; rw [upd_n e]; exact gtc i, d2, fun _ => ⟨d3, d1, gBL.of d4, ch + 1, rfl, ?_⟩, fun e => by cases e⟩⟩
          have h9 := gC.pushC gBI.2.2.2 v1 v2 v3
          exact h9
      · refine g_aload_n K 2 d_C_step_58 rfl ?_
        refine g_aload_n K 2 d_C_step_59 rfl ?_
        refine gC_get K 8 fl_C_30 (by decide) rfl d_C_step_60 ?_
        refine g_getN K 6 (ci := 0) (k := 5) i_B rfl rfl (by decide) fn_C_120 rfl d_C_step_63 ?_
        refine g_topl K gBI.2.2.1 ?_
        refine g_l2i K d_C_step_66 ?_
        refine g_top K (show _ = Int32.ofInt (sp P B0.1) from Int64.toInt32_ofInt) ?_
        refine gC_put_best K fl_C_47 d_C_step_67 ?_
        refine g_aload_n K 2 d_C_step_70 rfl ?_
        refine g_iconst K (v := 0) d_C_step_71 (by decide) ?_
        refine gC_put_bestBits K fl_C_124 d_C_step_72 ?_
        refine g_iconst K (v := 1) d_C_step_75 (by decide) ?_
        refine g_top K (show (1 : Int32) = nI (0 + 1) by decide) ?_
        refine g_istore_n (lv' := [(3, _), (2, _), (1, _), (0, _)]) K d_C_step_76 (by decide) rfl ?_
        refine g_lv K [3, 0] rfl (J77 _ 0 _ (Nat.lt_succ_self _) hb0 c40 c55 (Nat.zero_le _) rfl rfl ((FrI.rf.u (by decide)).u (by decide)))
    · obtain ⟨q1, q2, q3⟩ := frc_open hp c40
      refine g_aload_n K 2 d_C_step_43 rfl ?_
      refine gC_get K 8 fl_C_30 (by decide) rfl d_C_step_44 ?_
      refine g_iload_n K 1 d_C_step_47 rfl ?_
      refine g_callB0 K (c_B_set l D g a (a 6) (a 7) (a 8) (a 9) (CF a I) P B0 (FSn hn) hp gBI (lit := frc P n (limS best) B0.1) q1 q2 q3) mf_B_set im_B_set se_B_set ml_C_116 (by decide) (Nat.le_of_ble_eq_true rfl) d_C_step_48 (fun v B hq => ?_) rfl
      obtain ⟨rfl, d1, d2, d3, d4⟩ := hq
      refine g_rv ?_
      refine g_goto K (tgt := 191) d_C_step_51 (by decide) ?_
      refine g_vret K d_C_step_191 (⟨rfl, _, _, _, rfl, ?_, FrI.rf, FrF.rf⟩)
      rw [stepA_f hb0 c40]
      exact ⟨g14, g15, g16, g17, g18, gF3, fun _ _ => ⟨fun i => by show upd tc len 0 i = 0 ∨ upd tc len 0 i = 1; by_cases e : i = len; rw [e, upd_s]; exact Or.inl rfl; rw [upd_n e]; exact gtc i, d2, fun _ => ⟨d3, d1, gBL.of d4, ch, g12, gC.push gBI.2.2.2 q1 q2 q3 rfl⟩, fun e => by cases e⟩⟩
  · have hb0 := bZ_t c7
    refine g_aload_n K 0 d_C_step_10 rfl ?_
    refine g_iconst K (v := 0) d_C_step_11 (by decide) ?_
    refine g_callW (q0 := 0) K (c_C_write l D g a P I F B0 B1 g14 gL 0) mf_C_write im_C_write se_C_write ml_C_103 (by decide) rfl rfl (Nat.le_of_ble_eq_true rfl) d_C_step_12 (fun v w1 hq => ?_) rfl
    obtain ⟨b, rfl, hq⟩ := hq
    refine g_ri ?_
    refine g_if_eq K (tgt := 22) d_C_step_15 (by decide) (fun c15 => ?_) (fun c15 => ?_)
    · rcases hq with ⟨-, hll, rfl⟩ | ⟨z, -⟩
      rotate_left
      · exact absurd (z.symm.trans (bZ_f c15)) (by decide)
      refine g_vret K d_C_step_22 (⟨rfl, _, _, _, rfl, by rw [stepA_b hb0, gbA_4 hll]; exact ⟨g14, g15, g16, g17, rfl, gF3, fun _ e => by cases e⟩, FrI.rf.u (by decide), FrF.rf⟩)
    · rcases hq with ⟨z, -⟩ | ⟨-, hll, rfl⟩
      · exact absurd (z.symm.trans (bZ_t c15)) (by decide)
      refine g_aload_n K 0 d_C_step_18 rfl ?_
      refine g_callW (q0 := 0) K (c_C_turn l D g a P (upd I 14 (nI (ll + 1))) (va_up F 3 (upd (F 3) ll 0)) B0 B1 hp (vl := B0.1) (tr := B0.2.1) (tc := tc) (len := len) (best := best) (bb := bb) (log := upd log ll 0) (ll := ll + 1) ⟨rfl, g15, g16, g17, g18, by show upd (F 3) ll 0 = _; rw [gF3], fun _ _ => ⟨gtc, rfl, fun _ => ⟨gBI, rfl, gBL, ch, g12, gC⟩, fun e => by cases e⟩⟩ ⟨gB, by show ll + 1 ≤ 400; omega⟩ hn) mf_C_turn im_C_turn se_C_turn ml_C_106 (by decide) rfl rfl (Nat.le_of_ble_eq_true rfl) d_C_step_19 (fun v w1 hq => ?_) rfl
      obtain ⟨rfl, I2, F2, B2, rfl, q1, q2, q3⟩ := hq
      refine g_rv ?_
      refine g_vret K d_C_step_22 (⟨rfl, I2, F2, B2, rfl, by rw [stepA_b hb0, gbA_t hll]; exact q1, (FrI.rf.u (by decide)).t (q2.m (by decide)), (FrF.rf.u (by decide)).t (q3.m (by decide))⟩)
theorem d_C_run_0 : decode b_C_run 0 = .ok (.iload_n 1, 1) := by decide +kernel
theorem d_C_run_1 : decode b_C_run 1 = .ok (.iconst 1, 1) := by decide +kernel
theorem d_C_run_2 : decode b_C_run 2 = .ok (.if_icmp .lt 10, 3) := by decide +kernel
theorem d_C_run_5 : decode b_C_run 5 = .ok (.iload_n 1, 1) := by decide +kernel
theorem d_C_run_6 : decode b_C_run 6 = .ok (.sipush 2000, 3) := by decide +kernel
theorem d_C_run_9 : decode b_C_run 9 = .ok (.if_icmp .le 5, 3) := by decide +kernel
theorem d_C_run_12 : decode b_C_run 12 = .ok (.iconst (-1), 1) := by decide +kernel
theorem d_C_run_13 : decode b_C_run 13 = .ok (.ireturn, 1) := by decide +kernel
theorem d_C_run_14 : decode b_C_run 14 = .ok (.aload_n 0, 1) := by decide +kernel
theorem d_C_run_15 : decode b_C_run 15 = .ok (.getfield 66, 3) := by decide +kernel
theorem d_C_run_18 : decode b_C_run 18 = .ok (.ifCond .ne 15, 3) := by decide +kernel
theorem d_C_run_21 : decode b_C_run 21 = .ok (.aload_n 0, 1) := by decide +kernel
theorem d_C_run_22 : decode b_C_run 22 = .ok (.iconst 1, 1) := by decide +kernel
theorem d_C_run_23 : decode b_C_run 23 = .ok (.putfield 66, 3) := by decide +kernel
theorem d_C_run_26 : decode b_C_run 26 = .ok (.aload_n 0, 1) := by decide +kernel
theorem d_C_run_27 : decode b_C_run 27 = .ok (.getfield 30, 3) := by decide +kernel
theorem d_C_run_30 : decode b_C_run 30 = .ok (.invokevirtual 87, 3) := by decide +kernel
theorem d_C_run_33 : decode b_C_run 33 = .ok (.iconst 0, 1) := by decide +kernel
theorem d_C_run_34 : decode b_C_run 34 = .ok (.istore_n 2, 1) := by decide +kernel
theorem d_C_run_35 : decode b_C_run 35 = .ok (.iload_n 2, 1) := by decide +kernel
theorem d_C_run_36 : decode b_C_run 36 = .ok (.iload_n 1, 1) := by decide +kernel
theorem d_C_run_37 : decode b_C_run 37 = .ok (.if_icmp .ge 37, 3) := by decide +kernel
theorem d_C_run_40 : decode b_C_run 40 = .ok (.aload_n 0, 1) := by decide +kernel
theorem d_C_run_41 : decode b_C_run 41 = .ok (.getfield 90, 3) := by decide +kernel
theorem d_C_run_44 : decode b_C_run 44 = .ok (.ifCond .ne 30, 3) := by decide +kernel
theorem d_C_run_47 : decode b_C_run 47 = .ok (.aload_n 0, 1) := by decide +kernel
theorem d_C_run_48 : decode b_C_run 48 = .ok (.getfield 84, 3) := by decide +kernel
theorem d_C_run_51 : decode b_C_run 51 = .ok (.ifCond .ne 23, 3) := by decide +kernel
theorem d_C_run_54 : decode b_C_run 54 = .ok (.aload_n 0, 1) := by decide +kernel
theorem d_C_run_55 : decode b_C_run 55 = .ok (.dup, 1) := by decide +kernel
theorem d_C_run_56 : decode b_C_run 56 = .ok (.getfield 93, 3) := by decide +kernel
theorem d_C_run_59 : decode b_C_run 59 = .ok (.iconst 1, 1) := by decide +kernel
theorem d_C_run_60 : decode b_C_run 60 = .ok (.iadd, 1) := by decide +kernel
theorem d_C_run_61 : decode b_C_run 61 = .ok (.putfield 93, 3) := by decide +kernel
theorem d_C_run_64 : decode b_C_run 64 = .ok (.aload_n 0, 1) := by decide +kernel
theorem d_C_run_65 : decode b_C_run 65 = .ok (.invokevirtual 96, 3) := by decide +kernel
theorem d_C_run_68 : decode b_C_run 68 = .ok (.iinc 2 1, 3) := by decide +kernel
theorem d_C_run_71 : decode b_C_run 71 = .ok (.goto (-36), 3) := by decide +kernel
theorem d_C_run_74 : decode b_C_run 74 = .ok (.aload_n 0, 1) := by decide +kernel
theorem d_C_run_75 : decode b_C_run 75 = .ok (.getfield 84, 3) := by decide +kernel
theorem d_C_run_78 : decode b_C_run 78 = .ok (.ifCond .eq 8, 3) := by decide +kernel
theorem d_C_run_81 : decode b_C_run 81 = .ok (.bipush (-2), 2) := by decide +kernel
theorem d_C_run_83 : decode b_C_run 83 = .ok (.goto 15, 3) := by decide +kernel
theorem d_C_run_86 : decode b_C_run 86 = .ok (.aload_n 0, 1) := by decide +kernel
theorem d_C_run_87 : decode b_C_run 87 = .ok (.getfield 90, 3) := by decide +kernel
theorem d_C_run_90 : decode b_C_run 90 = .ok (.ifCond .eq 7, 3) := by decide +kernel
theorem d_C_run_93 : decode b_C_run 93 = .ok (.iconst 1, 1) := by decide +kernel
theorem d_C_run_94 : decode b_C_run 94 = .ok (.goto 4, 3) := by decide +kernel
theorem d_C_run_97 : decode b_C_run 97 = .ok (.iconst 2, 1) := by decide +kernel
theorem d_C_run_98 : decode b_C_run 98 = .ok (.ireturn, 1) := by decide +kernel
set_option maxHeartbeats 4000000 in
set_option maxRecDepth 100000 in
theorem c_C_run (l : Launch) (D : va_G) (g : Nat → ClassId) (a : Nat → Nat) (P : Nat → Nat → Int32) (I : Nat → Int32) (F : Nat → Nat → Int32) (B0 B1 : BS) {n k : Nat} (hp : PWF P n k) {bg : Bool} (h7 : I 7 = bZ bg) (h5 : I 5 = nI n) {z : SA} (hS : SC P n bg z I F B0) (hI : SI z) (hbg : bg = false → z.2.2.2.2.2.2.2.2.1 = false ∧ z.2.2.2.2.2.2.2.2.2 = false) (f : Int32) : Ct l D g y_C_run b_C_run 3 (some .int) 4 [.ref (a 0), .int f] (CW a g P I F B0 B1) (fun r w => (¬ okF f ∧ r = some (.int (-1)) ∧ w = CW a g P I F B0 B1) ∨ (okF f ∧ ∃ I2 F2 B2, r = some (.int (ansR (runA P n f.toNatClampNeg z (I 19)).1)) ∧ w = CW a g P I2 F2 B2 B1 ∧ SC P n true (runA P n f.toNatClampNeg z (I 19)).1 I2 F2 B2 ∧ I2 19 = (runA P n f.toNatClampNeg z (I 19)).2 ∧ I2 7 = bZ true ∧ FrI [7, 12, 14, 15, 16, 17, 18, 19] I I2 ∧ FrF [0, 1, 2, 3] F F2)) := by
  refine Ct.of (lv := [(0, _), (1, _)]) (by decide) rfl (Nat.le_of_ble_eq_true rfl) rfl ?_
  intro G K
  have J74 : ∀ (I2 : Nat → Int32) (F2 : Nat → Nat → Int32) (B2 : BS) (z2 : SA) (cc : Int32), (okF f) → ((z2, cc) = runA P n f.toNatClampNeg z (I 19)) → (SC P n true z2 I2 F2 B2) → (SI z2) → (I2 19 = cc) → (FrI [7, 12, 14, 15, 16, 17, 18, 19] I I2) → (FrF [0, 1, 2, 3] F F2) → (I2 7 = bZ true) → G 74 [(0, .ref (a 0))] [] (CW a g P I2 F2 B2 B1) := by
    intro I2 F2 B2 z2 cc hok hr hS2 hI2 h20 hIr hFr h82
    refine g_aload_n K 0 d_C_run_74 rfl ?_
    refine gC_get K 18 fl_C_84 (by decide) rfl d_C_run_75 ?_
    refine g_if_eq K (tgt := 86) d_C_run_78 (by decide) (fun c78 => ?_) (fun c78 => ?_)
    · have e78 : z2.2.2.2.2.2.2.2.2.2 = false := bZ_f (hS2.2.2.2.2.1.symm.trans c78)
      refine g_aload_n K 0 d_C_run_86 rfl ?_
      refine gC_get K 17 fl_C_90 (by decide) rfl d_C_run_87 ?_
      refine g_if_eq K (tgt := 97) d_C_run_90 (by decide) (fun c90 => ?_) (fun c90 => ?_)
      · have e90 : z2.2.2.2.2.2.2.2.2.1 = false := bZ_f (hS2.2.2.2.1.symm.trans c90)
        refine g_iconst K (v := 2) d_C_run_97 (by decide) ?_
        refine g_iret K d_C_run_98 (Or.inr ⟨hok, _, F2, B2, ?_, rfl, ?_, ?_, h82, hIr, hFr⟩)
        · first
          | (rw [← hr]; show _ = some (Value.int (cond _ _ _)); rw [e78]; rfl)
          | (rw [← hr]; show _ = some (Value.int (cond _ _ _)); rw [e78]; show _ = some (Value.int (cond _ _ _)); rw [e90]; rfl)
        · rw [← hr]; exact hS2
        · rw [← hr]; exact h20
      · have e90 : z2.2.2.2.2.2.2.2.2.1 = true := bZ_t (fun h => c90 (hS2.2.2.2.1.trans h))
        refine g_iconst K (v := 1) d_C_run_93 (by decide) ?_
        refine g_goto K (tgt := 98) d_C_run_94 (by decide) ?_
        refine g_iret K d_C_run_98 (Or.inr ⟨hok, _, F2, B2, ?_, rfl, ?_, ?_, h82, hIr, hFr⟩)
        · first
          | (rw [← hr]; show _ = some (Value.int (cond _ _ _)); rw [e78]; rfl)
          | (rw [← hr]; show _ = some (Value.int (cond _ _ _)); rw [e78]; show _ = some (Value.int (cond _ _ _)); rw [e90]; rfl)
        · rw [← hr]; exact hS2
        · rw [← hr]; exact h20
    · have e78 : z2.2.2.2.2.2.2.2.2.2 = true := bZ_t (fun h => c78 (hS2.2.2.2.2.1.trans h))
      refine g_bipush K (v := -2) d_C_run_81 (by decide) ?_
      refine g_goto K (tgt := 98) d_C_run_83 (by decide) ?_
      refine g_iret K d_C_run_98 (Or.inr ⟨hok, _, F2, B2, ?_, rfl, ?_, ?_, h82, hIr, hFr⟩)
      · first
        | (rw [← hr]; show _ = some (Value.int (cond _ _ _)); rw [e78]; rfl)
        | (rw [← hr]; show _ = some (Value.int (cond _ _ _)); rw [e78]; show _ = some (Value.int (cond _ _ _)); rw [e90]; rfl)
      · rw [← hr]; exact hS2
      · rw [← hr]; exact h20
  have J35 : ∀ (N : Nat) (j : Nat) (I2 : Nat → Int32) (F2 : Nat → Nat → Int32) (B2 : BS) (z2 : SA) (cc : Int32), f.toNatClampNeg - j < N → (okF f) → (f = nI f.toNatClampNeg) → (j ≤ 2000) → (runA P n (f.toNatClampNeg - j) z2 cc = runA P n f.toNatClampNeg z (I 19)) → (SC P n true z2 I2 F2 B2) → (SI z2) → (I2 19 = cc) → (FrI [7, 12, 14, 15, 16, 17, 18, 19] I I2) → (FrF [0, 1, 2, 3] F F2) → (I2 7 = bZ true) → G 35 [(0, .ref (a 0)), (1, .int f), (2, .int (nI j))] [] (CW a g P I2 F2 B2 B1) := by
    intro N
    induction N with
    | zero => intro j I2 F2 B2 z2 cc hm; exact absurd hm (Nat.not_lt_zero _)
    | succ N ih35 =>
      intro j I2 F2 B2 z2 cc hm35 hok hf2 hj hr hS2 hI2 h20 hIr hFr h82
      have hf1 := nat_i (i := f) (by have := hok.1; omega)
      have hf3 : f.toNatClampNeg ≤ 2000 := by have := hok.2; omega
      refine g_iload_n K 2 d_C_run_35 rfl ?_
      refine g_iload_n K 1 d_C_run_36 rfl ?_
      refine g_top K hf2 ?_
      refine g_icmp_ge K (tgt := 74) d_C_run_37 (by decide) (fun c37 => ?_) (fun c37 => ?_)
      · have h37 := (nI_leI (by omega) (by omega)).mp c37
        refine g_lv K [0] rfl (J74 I2 F2 B2 z2 cc hok (by rw [← hr, Nat.sub_eq_zero_of_le h37]; rfl) hS2 hI2 h20 hIr hFr h82)
      · have h37 : j < f.toNatClampNeg := Nat.lt_of_not_le (fun h => c37 ((nI_leI (by omega) (by omega)).mpr h))
        refine g_aload_n K 0 d_C_run_40 rfl ?_
        refine gC_get K 17 fl_C_90 (by decide) rfl d_C_run_41 ?_
        refine g_if_ne K (tgt := 74) d_C_run_44 (by decide) (fun c44 => ?_) (fun c44 => ?_)
        · have e44 : z2.2.2.2.2.2.2.2.2.1 = true := bZ_t (fun h => c44 (hS2.2.2.2.1.trans h))
          refine g_lv K [0] rfl (J74 I2 F2 B2 z2 cc hok (by rw [← hr, sub_s h37]; exact (if_pos (Or.inl e44)).symm) hS2 hI2 h20 hIr hFr h82)
        · refine g_aload_n K 0 d_C_run_47 rfl ?_
          refine gC_get K 18 fl_C_84 (by decide) rfl d_C_run_48 ?_
          refine g_if_ne K (tgt := 74) d_C_run_51 (by decide) (fun c51 => ?_) (fun c51 => ?_)
          · have e51 : z2.2.2.2.2.2.2.2.2.2 = true := bZ_t (fun h => c51 (hS2.2.2.2.2.1.trans h))
            refine g_lv K [0] rfl (J74 I2 F2 B2 z2 cc hok (by rw [← hr, sub_s h37]; exact (if_pos (Or.inr e51)).symm) hS2 hI2 h20 hIr hFr h82)
          · obtain ⟨vl, tr, tc, len, best, bb, log, ll, dn2, ls2⟩ := z2
            obtain rfl : dn2 = false := bZ_f (hS2.2.2.2.1.symm.trans c44)
            obtain rfl : ls2 = false := bZ_f (hS2.2.2.2.2.1.symm.trans c51)
            have hn2 : I2 5 = nI n := (hIr 5 (by decide)).trans h5
            refine g_aload_n K 0 d_C_run_54 rfl ?_
            refine g_dup K d_C_run_55 rfl ?_
            refine gC_get K 19 fl_C_93 (by decide) rfl d_C_run_56 ?_
            refine g_iconst K (v := 1) d_C_run_59 (by decide) ?_
            refine g_iadd K d_C_run_60 ?_
            refine gC_put_stepCount K fl_C_93 d_C_run_61 ?_
            refine g_aload_n K 0 d_C_run_64 rfl ?_
            refine g_callW (q0 := 0) K (c_C_step l D g a P (upd I2 19 (I2 19 + 1)) F2 B2 B1 hp (vl := vl) (tr := tr) (tc := tc) (len := len) (best := best) (bb := bb) (log := log) (ll := ll) hS2 hI2 hn2) mf_C_step im_C_step se_C_step ml_C_96 (by decide) rfl rfl (Nat.le_of_ble_eq_true rfl) d_C_run_65 (fun v w1 hq => ?_) rfl
            obtain ⟨rfl, I3, F3, B3, rfl, hS3, hI3, hF3⟩ := hq
            refine g_rv ?_
            refine g_iinc (v := nI (j + 1)) (lv' := [(2, _), (0, _), (1, _)]) K 2 d_C_run_68 rfl (nI_1 j) (by decide) rfl ?_
            refine g_goto K (tgt := 35) d_C_run_71 (by decide) ?_
            refine g_lv K [1, 2, 0] rfl (ih35 (j + 1) I3 F3 B3 (stepA P n vl tr tc len best bb log ll) (cc + 1) (by omega) hok hf2 (by omega) (by rw [← hr, sub_s h37]; exact (if_neg (by decide : ¬ (false = true ∨ false = true))).symm) hS3 (hI2.step hp) ((hI3 19 (by decide)).trans (congrArg (· + 1) h20)) ((hIr.u (by decide)).t (hI3.m (by decide))) (hFr.t hF3) ((hI3 7 (by decide)).trans h82))
  have J33 : ∀ (I1 : Nat → Int32) (B2 : BS), (okF f) → (FrI [7] I I1) → (I1 7 = bZ true) → (SC P n true z I1 F B2) → G 33 [(0, .ref (a 0)), (1, .int f)] [] (CW a g P I1 F B2 B1) := by
    intro I1 B2 hok hI1 h81 hS1
    have hf1 := nat_i (i := f) (by have := hok.1; omega)
    have hf2 : f = nI f.toNatClampNeg := nI_nat (by have := hok.1; omega)
    refine g_iconst K (v := 0) d_C_run_33 (by decide) ?_
    refine g_top K nI_0' ?_
    refine g_istore_n (lv' := [(2, _), (0, _), (1, _)]) K d_C_run_34 (by decide) rfl ?_
    refine g_lv K [1, 2, 0] rfl (J35 _ 0 I1 F B2 z (I 19) (Nat.lt_succ_self _) hok hf2 (Nat.zero_le _) rfl hS1 hI (hI1 19 (by decide)) (hI1.m (by decide)) FrF.rf h81)
  have J12 : (¬ okF f) → G 12 [(0, .ref (a 0)), (1, .int f)] [] (CW a g P I F B0 B1) := by
    intro  hok
    refine g_iconst K (v := -1) d_C_run_12 (by decide) ?_
    refine g_iret K d_C_run_13 (Or.inl ⟨hok, rfl, rfl⟩)
  refine g_iload_n K 1 d_C_run_0 rfl ?_
  refine g_iconst K (v := 1) d_C_run_1 (by decide) ?_
  refine g_icmp_lt K (tgt := 12) d_C_run_2 (by decide) (fun c2 => ?_) (fun c2 => ?_)
  · have hok : ¬ okF f := by rw [i_lt, i_1] at c2; exact fun h => by have := h.1; omega
    refine g_lv K [0, 1] rfl (J12 hok)
  · have e2 : 1 ≤ f.toInt := by rw [i_lt, i_1] at c2; omega
    refine g_iload_n K 1 d_C_run_5 rfl ?_
    refine g_sipush K (v := 2000) d_C_run_6 (by decide) ?_
    refine g_icmp_le K (tgt := 14) d_C_run_9 (by decide) (fun c9 => ?_) (fun c9 => ?_)
    · have hok : okF f := ⟨e2, by rw [i_le, k_2000] at c9; exact c9⟩
      refine g_aload_n K 0 d_C_run_14 rfl ?_
      refine gC_get K 7 fl_C_66 (by decide) rfl d_C_run_15 ?_
      refine g_if_ne K (tgt := 33) d_C_run_18 (by decide) (fun c18 => ?_) (fun c18 => ?_)
      · refine g_lv K [0, 1] rfl (J33 I B0 hok FrI.rf (by rw [h7, bZ_t (fun h => c18 (h7.trans h))]) (by have e : bg = true := bZ_t (fun h => c18 (h7.trans h)); rw [e] at hS; exact hS))
      · refine g_aload_n K 0 d_C_run_21 rfl ?_
        refine g_iconst K (v := 1) d_C_run_22 (by decide) ?_
        refine gC_put_begun K true rfl fl_C_66 d_C_run_23 ?_
        refine g_aload_n K 0 d_C_run_26 rfl ?_
        refine gC_get K 8 fl_C_30 (by decide) rfl d_C_run_27 ?_
        refine g_callB0 K (c_B_begin l D g a (a 6) (a 7) (a 8) (a 9) (CF a (upd I 7 (bZ true))) P B0 (FSn (I := upd I 7 (bZ true)) h5) hp) mf_B_begin im_B_begin se_B_begin ml_C_87 (by decide) (Nat.le_of_ble_eq_true rfl) d_C_run_30 (fun v B hq => ?_) rfl
        obtain ⟨rfl, b1, b2, b3, b4⟩ := hq
        refine g_rv ?_
        refine g_lv K [0, 1] rfl (J33 _ B hok (FrI.rf.u (by decide)) rfl ?_)
        obtain rfl : bg = false := bZ_f (h7.symm.trans c18)
        obtain ⟨q1, q2⟩ := hbg rfl
        obtain ⟨w1, w2, -, w4⟩ := hS.2.2.2.2.2.2 q1 q2
        obtain ⟨w5, w6, w7, w8⟩ := w4 rfl
        refine ⟨hS.1, hS.2.1, hS.2.2.1, hS.2.2.2.1, hS.2.2.2.2.1, hS.2.2.2.2.2.1, fun _ _ => ⟨w1, b2.trans w2, fun _ => ⟨by rw [w6]; exact b3, b1.trans w5.symm, by rw [w8]; exact b4, 0, w7, by rw [w6]; rfl⟩, fun e => by cases e⟩⟩
    · have hok : ¬ okF f := fun h => c9 (by rw [i_le, k_2000]; exact h.2)
      refine g_lv K [0, 1] rfl (J12 hok)
end
section
/-! ===== the check, abstractly: a node is an assignment, or dead ===== -/
abbrev ND : Type := Option (Nat → Int32)
def stA (P : Nat → Nat → Int32) (n : Nat) (lim : Option Int) : Nat → (Nat → Int32) → ND
  | 0, _ => none
  | f + 1, a => if brk P n lim a = true then none else if frc P n lim a = 0 then some a else stA P n lim f (sv a (frc P n lim a))
/-- all that is forced -/
def stl (P : Nat → Nat → Int32) (n : Nat) (lim : Option Int) (a : Nat → Int32) : ND := stA P n lim (17 - cn a).toNat a
theorem sv_x (lit : Int32) : (if 0 < lit.toInt then (1 : Int32) else 0) = 0 ∨ (if 0 < lit.toInt then (1 : Int32) else 0) = 1 := by split; exact Or.inr rfl; exact Or.inl rfl
theorem cn_sv {vl : Nat → Int32} {lit : Int32} (h1 : 1 ≤ vx lit) (h2 : vx lit ≤ 16) (ho : vl (vx lit) = -1) : cn (sv vl lit) = cn vl + 1 := cn_set ⟨h1, h2⟩ ho (by rcases sv_x lit with h | h <;> rw [h] <;> decide)
theorem stl_b {P : Nat → Nat → Int32} {n : Nat} {lim : Option Int} {a : Nat → Int32} (h : brk P n lim a = true) : stl P n lim a = none := by
  have hc := cn_bd a
  unfold stl
  rw [show (17 - cn a).toNat = (16 - cn a).toNat + 1 by omega]
  exact if_pos h
theorem stl_s {P : Nat → Nat → Int32} {n : Nat} {lim : Option Int} {a : Nat → Int32} (h : brk P n lim a = false) (h2 : frc P n lim a = 0) : stl P n lim a = some a := by
  have hc := cn_bd a
  unfold stl
  rw [show (17 - cn a).toNat = (16 - cn a).toNat + 1 by omega]
  show (if brk P n lim a = true then none else if frc P n lim a = 0 then some a else _) = _
  rw [if_neg (by rw [h]; decide), if_pos h2]
theorem stl_f {P : Nat → Nat → Int32} {n k : Nat} (hp : PWF P n k) {lim : Option Int} {a : Nat → Int32} (h : brk P n lim a = false) (h2 : ¬ frc P n lim a = 0) : stl P n lim a = stl P n lim (sv a (frc P n lim a)) := by
  obtain ⟨q1, q2, q3⟩ := frc_open hp h2
  have hc := cn_bd a
  have hc2 := cn_sv q1 q2 q3
  unfold stl
  rw [show (17 - cn a).toNat = (17 - cn (sv a (frc P n lim a))).toNat + 1 by omega]
  show (if brk P n lim a = true then none else if frc P n lim a = 0 then some a else _) = _
  rw [if_neg (by rw [h]; decide), if_neg h2]
def limC (c : Int32) : Option Int := if c = -1 then none else some (c.toInt - 1)
def chO (y : ND) (v : Nat) : ND := y.bind (fun a => if a v = 0 then none else some (upd a v 1))
def chZ (y : ND) (v : Nat) : ND := y.bind (fun a => if a v = 1 then none else some (upd a v 0))
/-- a word of the tree: the answer (2: more), the next place, the nodes that wait -/
def wordA (P : Nat → Nat → Int32) (n : Nat) (log : Nat → Int32) (ll at' : Nat) (st : List ND) : Int32 × Nat × List ND :=
  if ll ≤ at' + 2 then (0, at', st)
  else match st with
    | [] => (0, at', [])
    | x :: r =>
      if log at' = 0 then
        if (x.bind (stl P n (limC (log (ll - 2))))).isNone = true then
          if r = [] then (if at' + 1 = ll - 2 then 1 else 0, at' + 1, []) else (2, at' + 1, r)
        else (0, at' + 1, r)
      else if 1 ≤ (log at').toInt ∧ (log at').toInt ≤ 16 then
        (2, at' + 1, chZ (x.bind (stl P n (limC (log (ll - 2))))) (vx (log at')) :: chO (x.bind (stl P n (limC (log (ll - 2))))) (vx (log at')) :: r)
      else (0, at' + 1, r)
theorem wordA_0 {P : Nat → Nat → Int32} {n : Nat} {log : Nat → Int32} {ll at' : Nat} {st : List ND} (h : ll ≤ at' + 2) : wordA P n log ll at' st = (0, at', st) := if_pos h
theorem wordA_z {P : Nat → Nat → Int32} {n : Nat} {log : Nat → Int32} {ll at' : Nat} {x : ND} {r : List ND} (h : at' + 2 < ll) (hw : log at' = 0) : wordA P n log ll at' (x :: r) = if (x.bind (stl P n (limC (log (ll - 2))))).isNone = true then (if r = [] then (if at' + 1 = ll - 2 then 1 else 0, at' + 1, []) else (2, at' + 1, r)) else (0, at' + 1, r) := by
  unfold wordA
  rw [if_neg (by omega)]
  exact if_pos hw
theorem wordA_v {P : Nat → Nat → Int32} {n : Nat} {log : Nat → Int32} {ll at' : Nat} {x : ND} {r : List ND} (h : at' + 2 < ll) (hw : 1 ≤ (log at').toInt ∧ (log at').toInt ≤ 16) : wordA P n log ll at' (x :: r) = (2, at' + 1, chZ (x.bind (stl P n (limC (log (ll - 2))))) (vx (log at')) :: chO (x.bind (stl P n (limC (log (ll - 2))))) (vx (log at')) :: r) := by
  unfold wordA
  rw [if_neg (by omega)]
  show (if log at' = 0 then _ else if _ then _ else _) = _
  rw [if_neg (fun e => by rw [e] at hw; exact absurd hw.1 (by decide)), if_pos hw]
theorem wordA_n {P : Nat → Nat → Int32} {n : Nat} {log : Nat → Int32} {ll at' : Nat} {x : ND} {r : List ND} (h : at' + 2 < ll) (h0 : ¬ log at' = 0) (hw : ¬ (1 ≤ (log at').toInt ∧ (log at').toInt ≤ 16)) : wordA P n log ll at' (x :: r) = (0, at' + 1, r) := by
  unfold wordA
  rw [if_neg (by omega)]
  show (if log at' = 0 then _ else if _ then _ else _) = _
  rw [if_neg h0, if_neg hw]
def chkA (P : Nat → Nat → Int32) (n : Nat) (log : Nat → Int32) (ll : Nat) : Nat → Int32 × Nat × List ND → Int32 × Nat × List ND
  | 0, q => q
  | f + 1, q => if q.1 = 2 then chkA P n log ll f (wordA P n log ll q.2.1 q.2.2) else q
/-- an assignment out of bits -/
def ab (b : Int32) (v : Nat) : Int32 := if 1 ≤ v ∧ v ≤ 16 then bZ (bt b (v - 1)) else -1
def hld (P : Nat → Nat → Int32) (n : Nat) (c b : Int32) : Bool := decide (c = -1) || (!brk P n none (ab b) && decide (Int32.ofInt (sp P (ab b)) = c))
def lookA (P : Nat → Nat → Int32) (n : Nat) (log : Nat → Int32) (ll : Nat) : Int32 × Nat × List ND :=
  if ll < 2 then (0, 0, []) else if hld P n (log (ll - 2)) (log (ll - 1)) = true then (2, 0, [some (fun _ => -1)]) else (0, 0, [])
theorem ab_vi (b : Int32) : VI (ab b) := by
  refine ⟨fun v => ?_, fun v hv => if_neg (by omega)⟩
  unfold ab
  split
  · cases bt b (v - 1)
    · exact Or.inr (Or.inl rfl)
    · exact Or.inr (Or.inr rfl)
  · exact Or.inl rfl
theorem ab_mb (b : Int32) : MB2 65535 (b &&& 65535) (ab b) := by
  intro i hi
  rw [b_and, b_65535]
  unfold ab
  by_cases h : i < 16
  · rw [if_pos (by omega), decide_eq_true h, Nat.add_sub_cancel]
    cases bt b i <;> decide
  · rw [if_neg (by omega), decide_eq_false h, Bool.and_false]
    decide
theorem mb_open : MB2 0 0 (fun _ => -1) := fun i _ => by rw [b_0]; exact ⟨rfl, rfl⟩
/-- the model's nodes that wait -/
def RS (c3 c4 c5 : Nat → Int32) : List ND → Prop
  | [] => True
  | x :: r => c5 r.length = bZ x.isNone ∧ (∀ a, x = some a → MB2 (c3 r.length) (c4 r.length) a ∧ VI a) ∧ RS c3 c4 c5 r
theorem RS.congr {c3 c4 c5 d3 d4 d5 : Nat → Int32} : ∀ {st : List ND}, RS c3 c4 c5 st → (∀ j, j < st.length → d3 j = c3 j ∧ d4 j = c4 j ∧ d5 j = c5 j) → RS d3 d4 d5 st
  | [], _, _ => trivial
  | x :: r, h, hj => by
    obtain ⟨e3, e4, e5⟩ := hj r.length (by simp)
    refine ⟨e5.trans h.1, fun a ha => by rw [e3, e4]; exact h.2.1 a ha, h.2.2.congr (fun j hl => hj j (by simp; omega))⟩
/-- the trail gone back: the same whether or not more was set above -/
theorem un_congr {tr tr' : Nat → Int32} {pos : Nat} : ∀ {k : Nat} {vl : Nat → Int32}, (∀ i, i < k → tr' i = tr i) → un tr' pos k vl = un tr pos k vl
  | 0, _, _ => rfl
  | k + 1, vl, h => by
    show (if k + 1 ≤ pos then vl else un tr' pos k (upd vl (tvn tr' k) (-1))) = (if k + 1 ≤ pos then vl else un tr pos k (upd vl (tvn tr k) (-1)))
    rw [show tvn tr' k = tvn tr k by unfold tvn; rw [h k (by omega)], un_congr (fun i hi => h i (by omega))]
theorem un_set {vl tr : Nat → Int32} {len v L : Nat} {x : Int32} (hv : v < 2 ^ 31) (ho : vl v = -1) (hL : L ≤ len) : un (upd tr len (nI v)) L (len + 1) (upd vl v x) = un tr L len vl := by
  rw [un_s (by omega), tvn_of (v := v) upd_s hv, upd_u, upd_id ho]
  exact un_congr (fun i hi => upd_n (by omega))
theorem un_un {tr : Nat → Int32} {L to : Nat} (h : L ≤ to) : ∀ {len : Nat} {vl : Nat → Int32}, to ≤ len → un tr L to (un tr to len vl) = un tr L len vl
  | 0, vl, h2 => by
    have e : to = 0 := by omega
    subst e
    rfl
  | len + 1, vl, h2 => by
    by_cases e : to = len + 1
    · subst e
      rw [un_le (Nat.le_refl _)]
    · rw [un_s (by omega : to < len + 1), un_un h (by omega), un_s (by omega : L < len + 1)]
/-- the class's trees that wait: g gives the assignment that was when the trail had a length -/
def RW (c4 c5 c6 : Nat → Int32) (g : Nat → Nat → Int32) : List ND → Nat → Nat → Prop
  | rest, 0, _ => rest = []
  | rest, w + 1, B => ∃ L, L ≤ B ∧ c5 w = nI L ∧ ((c4 w < 0 ∧ RW c4 c5 c6 g rest w L) ∨ (∃ v, 1 ≤ v ∧ v ≤ 16 ∧ c4 w = nI v ∧ ∃ d : Bool, c6 w = bZ d ∧ ∃ rest', rest = chO (cond d none (some (g L))) v :: rest' ∧ RW c4 c5 c6 g rest' w L))
theorem RW.congr {c4 c5 c6 d4 d5 d6 : Nat → Int32} {g g' : Nat → Nat → Int32} : ∀ {w : Nat} {rest : List ND} {B B' : Nat}, RW c4 c5 c6 g rest w B → B ≤ B' → (∀ j, j < w → d4 j = c4 j ∧ d5 j = c5 j ∧ d6 j = c6 j) → (∀ L, L ≤ B → g' L = g L) → RW d4 d5 d6 g' rest w B'
  | 0, rest, B, B', h, _, _, _ => h
  | w + 1, rest, B, B', h, hB, hj, hg => by
    obtain ⟨L, l1, l2, h⟩ := h
    obtain ⟨e4, e5, e6⟩ := hj w (by omega)
    refine ⟨L, by omega, e5.trans l2, ?_⟩
    rcases h with ⟨h1, h⟩ | ⟨v, v1, v2, v3, d, d1, rest', e, h⟩
    · exact Or.inl ⟨by rw [e4]; exact h1, h.congr (Nat.le_refl L) (fun j hl => hj j (by omega)) (fun L' hl => hg L' (by omega))⟩
    · refine Or.inr ⟨v, v1, v2, e4.trans v3, d, e6.trans d1, rest', ?_, h.congr (Nat.le_refl L) (fun j hl => hj j (by omega)) (fun L' hl => hg L' (by omega))⟩
      rw [hg L l1]
      exact e
theorem chO_some {a : Nat → Int32} {v : Nat} (h : ¬ a v = 0) : chO (some a) v = some (upd a v 1) := if_neg h
theorem chO_none {a : Nat → Int32} {v : Nat} (h : a v = 0) : chO (some a) v = none := if_pos h
theorem chZ_some {a : Nat → Int32} {v : Nat} (h : ¬ a v = 1) : chZ (some a) v = some (upd a v 0) := if_neg h
theorem chZ_none {a : Nat → Int32} {v : Nat} (h : a v = 1) : chZ (some a) v = none := if_pos h
theorem VI.sv {vl : Nat → Int32} (h : VI vl) {lit : Int32} (h1 : 1 ≤ vx lit) (h2 : vx lit ≤ 16) : VI (sv vl lit) := h.upd h1 h2 (Or.inr (sv_x lit))
theorem limC_bd {c : Int32} (h : c = -1 ∨ 0 ≤ c.toInt ∧ c.toInt ≤ 524272) {L : Int} (e : limC c = some L) : -1 ≤ L ∧ L ≤ 1073741824 := by
  unfold limC at e
  split at e
  · cases e
  · rename_i h0
    cases e
    rcases h with h | h
    · exact absurd h h0
    · omega
theorem limC_O {c : Int32} (h : c = -1 ∨ 0 ≤ c.toInt ∧ c.toInt ≤ 524272) : limO (decide (¬ c = -1)) (c - 1) = limC c := by
  unfold limC limO
  by_cases h0 : c = -1
  · rw [if_pos h0, decide_eq_false (fun z => z h0)]; rfl
  · rw [if_neg h0, decide_eq_true h0]
    have := i_bd c
    have hc := h.resolve_left h0
    show some (c - 1).toInt = _
    rw [i_sub (by rw [i_1]; omega) (by rw [i_1]; omega), i_1]
theorem hld_c {P : Nat → Nat → Int32} {n k : Nat} (hp : PWF P n k) {c b : Int32} (h : hld P n c b = true) : c = -1 ∨ 0 ≤ c.toInt ∧ c.toInt ≤ 524272 := by
  unfold hld at h
  rcases (Bool.or_eq_true _ _ ▸ h : _ ∨ _) with h1 | h1
  · exact Or.inl (of_decide_eq_true h1)
  · have h2 := of_decide_eq_true (Bool.and_eq_true _ _ ▸ h1 : _ ∧ _).2
    have hs := sp_bd hp (ab b)
    rw [← h2, i_of (by omega) (by omega)]
    exact Or.inr hs
end
section
def RM3 (at' : Nat) (st : List ND) (I : Nat → Int32) (F : Nat → Nat → Int32) : Prop := I 25 = nI at' ∧ I 26 = nI st.length ∧ RS (F 3) (F 4) (F 5) st ∧ 1 ≤ st.length ∧ st.length ≤ at' + 1 ∧ at' ≤ 400
theorem lookA_2 {P : Nat → Nat → Int32} {n : Nat} {log : Nat → Int32} {ll : Nat} (h : (lookA P n log ll).1 = 2) : 2 ≤ ll ∧ hld P n (log (ll - 2)) (log (ll - 1)) = true := by
  unfold lookA at h
  split at h
  · exact absurd h (by decide)
  · rename_i h1
    split at h
    · rename_i h2
      exact ⟨by omega, h2⟩
    · exact absurd h (by decide)
theorem isN_t {y : ND} (h : ¬ bZ y.isNone = 0) : y = none := by
  cases y with
  | none => rfl
  | some a => exact absurd rfl h
theorem isN_f {y : ND} (h : bZ y.isNone = 0) : ∃ a, y = some a := by
  cases y with
  | none => exact absurd h (by decide)
  | some a => exact ⟨a, rfl⟩
def msN (x : ND) : Nat := match x with
  | none => 0
  | some b => (17 - cn b).toNat
theorem RS.push {c3 c4 c5 : Nat → Int32} {r : List ND} (h : RS c3 c4 c5 r) {y : ND} {s o : Int32} (hm : ∀ a, y = some a → MB2 s o a ∧ VI a) : RS (upd c3 r.length s) (upd c4 r.length o) (upd c5 r.length (bZ y.isNone)) (y :: r) := by
  refine ⟨upd_s, fun a ha => by rw [upd_s, upd_s]; exact hm a ha, h.congr (fun j hj => ⟨upd_n (by omega), upd_n (by omega), upd_n (by omega)⟩)⟩
set_option maxHeartbeats 4000000 in
set_option maxRecDepth 100000 in
theorem c_M_isSetR (l : Launch) (D : va_G) (g : Nat → ClassId) (a : Nat → Nat) (P : Nat → Nat → Int32) (I : Nat → Int32) (F : Nat → Nat → Int32) {v : Nat} (h1 : 1 ≤ v) (h2 : v ≤ 16) : Ct l D g y_M_isSet b_M_isSet 2 (some .boolean) 0 [.ref (a 0), .int (nI v)] (MW a g P I F) (fun r w => r = some (.int (bZ (bt (I 11) (v - 1)))) ∧ w = MW a g P I F) := by
  refine Ct.of (lv := [(0, _), (1, _)]) (by decide) rfl (Nat.le_of_ble_eq_true rfl) rfl ?_
  intro G K
  refine g_aload_n K 0 d_M_isSet_0 rfl ?_
  refine gM_get K 11 fl_M_69 (by decide) rfl d_M_isSet_1 ?_
  refine g_iload_n K 1 d_M_isSet_4 rfl ?_
  refine g_iconst K (v := 1) d_M_isSet_5 (by decide) ?_
  refine g_isub K d_M_isSet_6 ?_
  refine g_ishr K d_M_isSet_7 ?_
  refine g_iconst K (v := 1) d_M_isSet_8 (by decide) ?_
  refine g_iand K d_M_isSet_9 ?_
  refine g_top K (bit_is _ h1 (by omega)) ?_
  refine g_iconst K (v := 1) d_M_isSet_10 (by decide) ?_
  refine g_icmp_ne K (tgt := 18) d_M_isSet_11 (by decide) (fun c11 => ?_) (fun c11 => ?_)
  · refine g_iconst K (v := 0) d_M_isSet_18 (by decide) ?_
    refine g_zret K rfl d_M_isSet_19 (?_)
    first | exact ⟨by rw [c11], rfl⟩ | exact ⟨by rw [bZ_n1 c11], rfl⟩
  · refine g_iconst K (v := 1) d_M_isSet_14 (by decide) ?_
    refine g_goto K (tgt := 19) d_M_isSet_15 (by decide) ?_
    refine g_zret K rfl d_M_isSet_19 (?_)
    first | exact ⟨by rw [c11], rfl⟩ | exact ⟨by rw [bZ_n1 c11], rfl⟩
set_option maxHeartbeats 4000000 in
set_option maxRecDepth 100000 in
theorem c_M_isOneR (l : Launch) (D : va_G) (g : Nat → ClassId) (a : Nat → Nat) (P : Nat → Nat → Int32) (I : Nat → Int32) (F : Nat → Nat → Int32) {v : Nat} (h1 : 1 ≤ v) (h2 : v ≤ 16) : Ct l D g y_M_isOne b_M_isOne 2 (some .boolean) 0 [.ref (a 0), .int (nI v)] (MW a g P I F) (fun r w => r = some (.int (bZ (bt (I 12) (v - 1)))) ∧ w = MW a g P I F) := by
  refine Ct.of (lv := [(0, _), (1, _)]) (by decide) rfl (Nat.le_of_ble_eq_true rfl) rfl ?_
  intro G K
  refine g_aload_n K 0 d_M_isOne_0 rfl ?_
  refine gM_get K 12 fl_M_72 (by decide) rfl d_M_isOne_1 ?_
  refine g_iload_n K 1 d_M_isOne_4 rfl ?_
  refine g_iconst K (v := 1) d_M_isOne_5 (by decide) ?_
  refine g_isub K d_M_isOne_6 ?_
  refine g_ishr K d_M_isOne_7 ?_
  refine g_iconst K (v := 1) d_M_isOne_8 (by decide) ?_
  refine g_iand K d_M_isOne_9 ?_
  refine g_top K (bit_is _ h1 (by omega)) ?_
  refine g_iconst K (v := 1) d_M_isOne_10 (by decide) ?_
  refine g_icmp_ne K (tgt := 18) d_M_isOne_11 (by decide) (fun c11 => ?_) (fun c11 => ?_)
  · refine g_iconst K (v := 0) d_M_isOne_18 (by decide) ?_
    refine g_zret K rfl d_M_isOne_19 (?_)
    first | exact ⟨by rw [c11], rfl⟩ | exact ⟨by rw [bZ_n1 c11], rfl⟩
  · refine g_iconst K (v := 1) d_M_isOne_14 (by decide) ?_
    refine g_goto K (tgt := 19) d_M_isOne_15 (by decide) ?_
    refine g_zret K rfl d_M_isOne_19 (?_)
    first | exact ⟨by rw [c11], rfl⟩ | exact ⟨by rw [bZ_n1 c11], rfl⟩
theorem d_M_hold_0 : decode b_M_hold 0 = .ok (.aload_n 0, 1) := by decide +kernel
theorem d_M_hold_1 : decode b_M_hold 1 = .ok (.getfield 42, 3) := by decide +kernel
theorem d_M_hold_4 : decode b_M_hold 4 = .ok (.aload_n 0, 1) := by decide +kernel
theorem d_M_hold_5 : decode b_M_hold 5 = .ok (.getfield 151, 3) := by decide +kernel
theorem d_M_hold_8 : decode b_M_hold 8 = .ok (.iload_n 1, 1) := by decide +kernel
theorem d_M_hold_9 : decode b_M_hold 9 = .ok (.iastore, 1) := by decide +kernel
theorem d_M_hold_10 : decode b_M_hold 10 = .ok (.aload_n 0, 1) := by decide +kernel
theorem d_M_hold_11 : decode b_M_hold 11 = .ok (.getfield 45, 3) := by decide +kernel
theorem d_M_hold_14 : decode b_M_hold 14 = .ok (.aload_n 0, 1) := by decide +kernel
theorem d_M_hold_15 : decode b_M_hold 15 = .ok (.getfield 151, 3) := by decide +kernel
theorem d_M_hold_18 : decode b_M_hold 18 = .ok (.iload_n 2, 1) := by decide +kernel
theorem d_M_hold_19 : decode b_M_hold 19 = .ok (.iastore, 1) := by decide +kernel
theorem d_M_hold_20 : decode b_M_hold 20 = .ok (.aload_n 0, 1) := by decide +kernel
theorem d_M_hold_21 : decode b_M_hold 21 = .ok (.getfield 48, 3) := by decide +kernel
theorem d_M_hold_24 : decode b_M_hold 24 = .ok (.aload_n 0, 1) := by decide +kernel
theorem d_M_hold_25 : decode b_M_hold 25 = .ok (.getfield 151, 3) := by decide +kernel
theorem d_M_hold_28 : decode b_M_hold 28 = .ok (.iload_n 3, 1) := by decide +kernel
theorem d_M_hold_29 : decode b_M_hold 29 = .ok (.bastore, 1) := by decide +kernel
theorem d_M_hold_30 : decode b_M_hold 30 = .ok (.aload_n 0, 1) := by decide +kernel
theorem d_M_hold_31 : decode b_M_hold 31 = .ok (.dup, 1) := by decide +kernel
theorem d_M_hold_32 : decode b_M_hold 32 = .ok (.getfield 151, 3) := by decide +kernel
theorem d_M_hold_35 : decode b_M_hold 35 = .ok (.iconst 1, 1) := by decide +kernel
theorem d_M_hold_36 : decode b_M_hold 36 = .ok (.iadd, 1) := by decide +kernel
theorem d_M_hold_37 : decode b_M_hold 37 = .ok (.putfield 151, 3) := by decide +kernel
theorem d_M_hold_40 : decode b_M_hold 40 = .ok (.return_, 1) := by decide +kernel
set_option maxHeartbeats 4000000 in
set_option maxRecDepth 100000 in
theorem c_M_hold (l : Launch) (D : va_G) (g : Nat → ClassId) (a : Nat → Nat) (P : Nat → Nat → Int32) (I : Nat → Int32) (F : Nat → Nat → Int32) (s o : Int32) (d : Bool) {q : Nat} (h26 : I 26 = nI q) (hq : q < 402) : Ct l D g y_M_hold b_M_hold 4 none 0 [.ref (a 0), .int s, .int o, .int (bZ d)] (MW a g P I F) (fun r w => r = none ∧ w = MW a g P (upd I 26 (nI (q + 1))) (va_up (va_up (va_up F 3 (upd (F 3) q s)) 4 (upd (F 4) q o)) 5 (upd (F 5) q (bZ d)))) := by
  refine Ct.of (lv := [(0, _), (1, _), (2, _), (3, _)]) (by decide) rfl (Nat.le_of_ble_eq_true rfl) rfl ?_
  intro G K
  refine g_aload_n K 0 d_M_hold_0 rfl ?_
  refine gM_get K 27 fl_M_42 (by decide) rfl d_M_hold_1 ?_
  refine g_aload_n K 0 d_M_hold_4 rfl ?_
  refine gM_get K 26 fl_M_151 (by decide) rfl d_M_hold_5 ?_
  refine g_iload_n K 1 d_M_hold_8 rfl ?_
  refine gM_ast_waitSet K (q) h26 hq d_M_hold_9 ?_
  refine g_aload_n K 0 d_M_hold_10 rfl ?_
  refine gM_get K 28 fl_M_45 (by decide) rfl d_M_hold_11 ?_
  refine g_aload_n K 0 d_M_hold_14 rfl ?_
  refine gM_get K 26 fl_M_151 (by decide) rfl d_M_hold_15 ?_
  refine g_iload_n K 2 d_M_hold_18 rfl ?_
  refine gM_ast_waitOnes K (q) h26 hq d_M_hold_19 ?_
  refine g_aload_n K 0 d_M_hold_20 rfl ?_
  refine gM_get K 29 fl_M_48 (by decide) rfl d_M_hold_21 ?_
  refine g_aload_n K 0 d_M_hold_24 rfl ?_
  refine gM_get K 26 fl_M_151 (by decide) rfl d_M_hold_25 ?_
  refine g_iload_n K 3 d_M_hold_28 rfl ?_
  refine gM_ast_waitDead K (q) d rfl h26 hq d_M_hold_29 ?_
  refine g_aload_n K 0 d_M_hold_30 rfl ?_
  refine g_dup K d_M_hold_31 rfl ?_
  refine gM_get K 26 fl_M_151 (by decide) rfl d_M_hold_32 ?_
  refine g_iconst K (v := 1) d_M_hold_35 (by decide) ?_
  refine g_iadd K d_M_hold_36 ?_
  refine g_top K (show _ = nI (q + 1) from (congrArg (· + 1) h26).trans (nI_1 q)) ?_
  refine gM_put_waiting K fl_M_151 d_M_hold_37 ?_
  refine g_vret K d_M_hold_40 (⟨rfl, rfl⟩)
theorem d_M_look_0 : decode b_M_look 0 = .ok (.aload_n 0, 1) := by decide +kernel
theorem d_M_look_1 : decode b_M_look 1 = .ok (.iconst 1, 1) := by decide +kernel
theorem d_M_look_2 : decode b_M_look 2 = .ok (.putfield 145, 3) := by decide +kernel
theorem d_M_look_5 : decode b_M_look 5 = .ok (.aload_n 0, 1) := by decide +kernel
theorem d_M_look_6 : decode b_M_look 6 = .ok (.iconst 0, 1) := by decide +kernel
theorem d_M_look_7 : decode b_M_look 7 = .ok (.putfield 148, 3) := by decide +kernel
theorem d_M_look_10 : decode b_M_look 10 = .ok (.aload_n 0, 1) := by decide +kernel
theorem d_M_look_11 : decode b_M_look 11 = .ok (.iconst 1, 1) := by decide +kernel
theorem d_M_look_12 : decode b_M_look 12 = .ok (.putfield 151, 3) := by decide +kernel
theorem d_M_look_15 : decode b_M_look 15 = .ok (.aload_n 0, 1) := by decide +kernel
theorem d_M_look_16 : decode b_M_look 16 = .ok (.getfield 42, 3) := by decide +kernel
theorem d_M_look_19 : decode b_M_look 19 = .ok (.iconst 0, 1) := by decide +kernel
theorem d_M_look_20 : decode b_M_look 20 = .ok (.iconst 0, 1) := by decide +kernel
theorem d_M_look_21 : decode b_M_look 21 = .ok (.iastore, 1) := by decide +kernel
theorem d_M_look_22 : decode b_M_look 22 = .ok (.aload_n 0, 1) := by decide +kernel
theorem d_M_look_23 : decode b_M_look 23 = .ok (.getfield 45, 3) := by decide +kernel
theorem d_M_look_26 : decode b_M_look 26 = .ok (.iconst 0, 1) := by decide +kernel
theorem d_M_look_27 : decode b_M_look 27 = .ok (.iconst 0, 1) := by decide +kernel
theorem d_M_look_28 : decode b_M_look 28 = .ok (.iastore, 1) := by decide +kernel
theorem d_M_look_29 : decode b_M_look 29 = .ok (.aload_n 0, 1) := by decide +kernel
theorem d_M_look_30 : decode b_M_look 30 = .ok (.getfield 48, 3) := by decide +kernel
theorem d_M_look_33 : decode b_M_look 33 = .ok (.iconst 0, 1) := by decide +kernel
theorem d_M_look_34 : decode b_M_look 34 = .ok (.iconst 0, 1) := by decide +kernel
theorem d_M_look_35 : decode b_M_look 35 = .ok (.bastore, 1) := by decide +kernel
theorem d_M_look_36 : decode b_M_look 36 = .ok (.aload_n 0, 1) := by decide +kernel
theorem d_M_look_37 : decode b_M_look 37 = .ok (.getfield 93, 3) := by decide +kernel
theorem d_M_look_40 : decode b_M_look 40 = .ok (.iconst 2, 1) := by decide +kernel
theorem d_M_look_41 : decode b_M_look 41 = .ok (.if_icmp .ge 9, 3) := by decide +kernel
theorem d_M_look_44 : decode b_M_look 44 = .ok (.aload_n 0, 1) := by decide +kernel
theorem d_M_look_45 : decode b_M_look 45 = .ok (.iconst 0, 1) := by decide +kernel
theorem d_M_look_46 : decode b_M_look 46 = .ok (.putfield 39, 3) := by decide +kernel
theorem d_M_look_49 : decode b_M_look 49 = .ok (.return_, 1) := by decide +kernel
theorem d_M_look_50 : decode b_M_look 50 = .ok (.aload_n 0, 1) := by decide +kernel
theorem d_M_look_51 : decode b_M_look 51 = .ok (.getfield 36, 3) := by decide +kernel
theorem d_M_look_54 : decode b_M_look 54 = .ok (.aload_n 0, 1) := by decide +kernel
theorem d_M_look_55 : decode b_M_look 55 = .ok (.getfield 93, 3) := by decide +kernel
theorem d_M_look_58 : decode b_M_look 58 = .ok (.iconst 2, 1) := by decide +kernel
theorem d_M_look_59 : decode b_M_look 59 = .ok (.isub, 1) := by decide +kernel
theorem d_M_look_60 : decode b_M_look 60 = .ok (.iaload, 1) := by decide +kernel
theorem d_M_look_61 : decode b_M_look 61 = .ok (.istore_n 1, 1) := by decide +kernel
theorem d_M_look_62 : decode b_M_look 62 = .ok (.aload_n 0, 1) := by decide +kernel
theorem d_M_look_63 : decode b_M_look 63 = .ok (.ldc 154, 2) := by decide +kernel
theorem d_M_look_65 : decode b_M_look 65 = .ok (.putfield 69, 3) := by decide +kernel
theorem d_M_look_68 : decode b_M_look 68 = .ok (.aload_n 0, 1) := by decide +kernel
theorem d_M_look_69 : decode b_M_look 69 = .ok (.aload_n 0, 1) := by decide +kernel
theorem d_M_look_70 : decode b_M_look 70 = .ok (.getfield 36, 3) := by decide +kernel
theorem d_M_look_73 : decode b_M_look 73 = .ok (.aload_n 0, 1) := by decide +kernel
theorem d_M_look_74 : decode b_M_look 74 = .ok (.getfield 93, 3) := by decide +kernel
theorem d_M_look_77 : decode b_M_look 77 = .ok (.iconst 1, 1) := by decide +kernel
theorem d_M_look_78 : decode b_M_look 78 = .ok (.isub, 1) := by decide +kernel
theorem d_M_look_79 : decode b_M_look 79 = .ok (.iaload, 1) := by decide +kernel
theorem d_M_look_80 : decode b_M_look 80 = .ok (.ldc 154, 2) := by decide +kernel
theorem d_M_look_82 : decode b_M_look 82 = .ok (.iand, 1) := by decide +kernel
theorem d_M_look_83 : decode b_M_look 83 = .ok (.putfield 72, 3) := by decide +kernel
theorem d_M_look_86 : decode b_M_look 86 = .ok (.iload_n 1, 1) := by decide +kernel
theorem d_M_look_87 : decode b_M_look 87 = .ok (.iconst (-1), 1) := by decide +kernel
theorem d_M_look_88 : decode b_M_look 88 = .ok (.if_icmp .eq 25, 3) := by decide +kernel
theorem d_M_look_91 : decode b_M_look 91 = .ok (.aload_n 0, 1) := by decide +kernel
theorem d_M_look_92 : decode b_M_look 92 = .ok (.iconst 0, 1) := by decide +kernel
theorem d_M_look_93 : decode b_M_look 93 = .ok (.iconst 0, 1) := by decide +kernel
theorem d_M_look_94 : decode b_M_look 94 = .ok (.invokevirtual 122, 3) := by decide +kernel
theorem d_M_look_97 : decode b_M_look 97 = .ok (.ifCond .ne 11, 3) := by decide +kernel
theorem d_M_look_100 : decode b_M_look 100 = .ok (.aload_n 0, 1) := by decide +kernel
theorem d_M_look_101 : decode b_M_look 101 = .ok (.invokevirtual 85, 3) := by decide +kernel
theorem d_M_look_104 : decode b_M_look 104 = .ok (.iload_n 1, 1) := by decide +kernel
theorem d_M_look_105 : decode b_M_look 105 = .ok (.if_icmp .eq 8, 3) := by decide +kernel
theorem d_M_look_108 : decode b_M_look 108 = .ok (.aload_n 0, 1) := by decide +kernel
theorem d_M_look_109 : decode b_M_look 109 = .ok (.iconst 0, 1) := by decide +kernel
theorem d_M_look_110 : decode b_M_look 110 = .ok (.putfield 39, 3) := by decide +kernel
theorem d_M_look_113 : decode b_M_look 113 = .ok (.return_, 1) := by decide +kernel
set_option maxHeartbeats 4000000 in
set_option maxRecDepth 100000 in
theorem c_M_look (l : Launch) (D : va_G) (g : Nat → ClassId) (a : Nat → Nat) (P : Nat → Nat → Int32) (I : Nat → Int32) (F : Nat → Nat → Int32) {n k : Nat} (hp : PWF P n k) (h6 : I 6 = nI n) {ll : Nat} (h22 : I 22 = nI ll) (hl4 : ll ≤ 400) (h23 : I 23 = 2) : Ct l D g y_M_look b_M_look 2 none 4 [.ref (a 0)] (MW a g P I F) (fun r w => r = none ∧ ∃ I2 F2, w = MW a g P I2 F2 ∧ I2 24 = bZ true ∧ I2 23 = (lookA P n (F 2) ll).1 ∧ ((lookA P n (F 2) ll).1 = 2 → RM3 (lookA P n (F 2) ll).2.1 (lookA P n (F 2) ll).2.2 I2 F2) ∧ FrI [11, 12, 23, 24, 25, 26] I I2 ∧ FrF [3, 4, 5] F F2) := by
  refine Ct.of (lv := [(0, _)]) (by decide) rfl (Nat.le_of_ble_eq_true rfl) rfl ?_
  intro G K
  have J108 : ∀ (I1 : Nat → Int32), (2 ≤ ll) → (hld P n (F 2 (ll - 2)) (F 2 (ll - 1)) = false) → (FrI [11, 12, 24, 25, 26] I I1) → (I1 24 = bZ true) → G 108 [(0, .ref (a 0))] [] (MW a g P I1 (va_up (va_up (va_up F 3 (upd (F 3) 0 0)) 4 (upd (F 4) 0 0)) 5 (upd (F 5) 0 (bZ false)))) := by
    intro I1 hl2 hN hIr h241
    refine g_aload_n K 0 d_M_look_108 rfl ?_
    refine g_iconst K (v := 0) d_M_look_109 (by decide) ?_
    refine gM_put_answer K fl_M_39 d_M_look_110 ?_
    refine g_vret K d_M_look_113 (?_)
    have eL : lookA P n (F 2) ll = (0, 0, []) := by unfold lookA; rw [if_neg (by omega), if_neg (by rw [hN]; decide)]
    exact ⟨rfl, _, _, rfl, h241, by rw [eL]; rfl, fun e => by rw [eL] at e; exact absurd e (by decide), (hIr.m (by decide)).u (by decide), ((FrF.rf.u (by decide)).u (by decide)).u (by decide)⟩
  refine g_aload_n K 0 d_M_look_0 rfl ?_
  refine g_iconst K (v := 1) d_M_look_1 (by decide) ?_
  refine gM_put_looked K true rfl fl_M_145 d_M_look_2 ?_
  refine g_aload_n K 0 d_M_look_5 rfl ?_
  refine g_iconst K (v := 0) d_M_look_6 (by decide) ?_
  refine gM_put_place K fl_M_148 d_M_look_7 ?_
  refine g_aload_n K 0 d_M_look_10 rfl ?_
  refine g_iconst K (v := 1) d_M_look_11 (by decide) ?_
  refine gM_put_waiting K fl_M_151 d_M_look_12 ?_
  refine g_aload_n K 0 d_M_look_15 rfl ?_
  refine gM_get K 27 fl_M_42 (by decide) rfl d_M_look_16 ?_
  refine g_iconst K (v := 0) d_M_look_19 (by decide) ?_
  refine g_iconst K (v := 0) d_M_look_20 (by decide) ?_
  refine gM_ast_waitSet K (0) nI_0' (by decide) d_M_look_21 ?_
  refine g_aload_n K 0 d_M_look_22 rfl ?_
  refine gM_get K 28 fl_M_45 (by decide) rfl d_M_look_23 ?_
  refine g_iconst K (v := 0) d_M_look_26 (by decide) ?_
  refine g_iconst K (v := 0) d_M_look_27 (by decide) ?_
  refine gM_ast_waitOnes K (0) nI_0' (by decide) d_M_look_28 ?_
  refine g_aload_n K 0 d_M_look_29 rfl ?_
  refine gM_get K 29 fl_M_48 (by decide) rfl d_M_look_30 ?_
  refine g_iconst K (v := 0) d_M_look_33 (by decide) ?_
  refine g_iconst K (v := 0) d_M_look_34 (by decide) ?_
  refine gM_ast_waitDead K (0) false rfl nI_0' (by decide) d_M_look_35 ?_
  refine g_aload_n K 0 d_M_look_36 rfl ?_
  refine gM_get K 22 fl_M_93 (by decide) rfl d_M_look_37 ?_
  refine g_iconst K (v := 2) d_M_look_40 (by decide) ?_
  refine g_icmp_ge K (tgt := 50) d_M_look_41 (by decide) (fun c41 => ?_) (fun c41 => ?_)
  · have hl2 : 2 ≤ ll := by have c : (2 : Int32) ≤ nI ll := h22 ▸ c41; rw [i_le, i_2, nI_toInt (by omega)] at c; omega
    refine g_aload_n K 0 d_M_look_50 rfl ?_
    refine gM_get K 21 fl_M_36 (by decide) rfl d_M_look_51 ?_
    refine g_aload_n K 0 d_M_look_54 rfl ?_
    refine gM_get K 22 fl_M_93 (by decide) rfl d_M_look_55 ?_
    refine g_iconst K (v := 2) d_M_look_58 (by decide) ?_
    refine g_isub K d_M_look_59 ?_
    refine g_iald K 8 (ll - 2) rfl (show _ = nI (ll - 2) from (congrArg (· - 2) h22).trans (pk_sub (b := 2) hl2)) (by omega) d_M_look_60 ?_
    refine g_istore_n (lv' := [(1, _), (0, _)]) K d_M_look_61 (by decide) rfl ?_
    refine g_aload_n K 1 d_M_look_62 rfl ?_
    refine g_ldc K co_M_154 d_M_look_63 ?_
    refine gM_put_set K fl_M_69 d_M_look_65 ?_
    refine g_aload_n K 1 d_M_look_68 rfl ?_
    refine g_aload_n K 1 d_M_look_69 rfl ?_
    refine gM_get K 21 fl_M_36 (by decide) rfl d_M_look_70 ?_
    refine g_aload_n K 1 d_M_look_73 rfl ?_
    refine gM_get K 22 fl_M_93 (by decide) rfl d_M_look_74 ?_
    refine g_iconst K (v := 1) d_M_look_77 (by decide) ?_
    refine g_isub K d_M_look_78 ?_
    refine g_iald K 8 (ll - 1) rfl (show _ = nI (ll - 1) from (congrArg (· - 1) h22).trans (nI_sub1 (by omega))) (by omega) d_M_look_79 ?_
    refine g_ldc K co_M_154 d_M_look_80 ?_
    refine g_iand K d_M_look_82 ?_
    refine gM_put_ones K fl_M_72 d_M_look_83 ?_
    refine g_iload_n K 0 d_M_look_86 rfl ?_
    refine g_iconst K (v := -1) d_M_look_87 (by decide) ?_
    refine g_icmp_eq K (tgt := 113) d_M_look_88 (by decide) (fun c88 => ?_) (fun c88 => ?_)
    · have c88 : F 2 (ll - 2) = -1 := c88
      refine g_vret K d_M_look_113 (?_)
      have hY : hld P n (F 2 (ll - 2)) (F 2 (ll - 1)) = true := by unfold hld; rw [decide_eq_true c88]; rfl
      have eL : lookA P n (F 2) ll = (2, 0, [some (fun _ => -1)]) := by unfold lookA; rw [if_neg (by omega), if_pos hY]
      refine ⟨rfl, _, _, rfl, rfl, by rw [eL]; exact h23, fun _ => by rw [eL]; exact ⟨rfl, rfl, ⟨rfl, fun a ha => by cases ha; exact ⟨mb_open, VI.none⟩, trivial⟩, by decide, by decide, by decide⟩, ((((FrI.rf.u (by decide)).u (by decide)).u (by decide)).u (by decide)).u (by decide), ((FrF.rf.u (by decide)).u (by decide)).u (by decide)⟩
    · have c88 : ¬ F 2 (ll - 2) = -1 := c88
      refine g_aload_n K 1 d_M_look_91 rfl ?_
      refine g_iconst K (v := 0) d_M_look_92 (by decide) ?_
      refine g_iconst K (v := 0) d_M_look_93 (by decide) ?_
      refine g_callW (q0 := 0) K (c_M_isBroken l D g a P (upd (upd (upd (upd (upd I 24 (bZ true)) 25 0) 26 1) 11 65535) 12 (F 2 (ll - 1) &&& 65535)) (va_up (va_up (va_up F 3 (upd (F 3) 0 0)) 4 (upd (F 4) 0 0)) 5 (upd (F 5) 0 (bZ false))) hp (ab_vi (F 2 (ll - 1))) (ab_mb (F 2 (ll - 1))) (lb := false) (L := 0) (fun e => by cases e) h6) mf_M_isBroken im_M_isBroken se_M_isBroken ml_M_122 (by decide) rfl rfl (Nat.le_of_ble_eq_true rfl) d_M_look_94 (fun v w1 hq => ?_) rfl
      obtain ⟨rfl, rfl⟩ := hq
      refine g_ri ?_
      refine g_if_ne K (tgt := 108) d_M_look_97 (by decide) (fun c97 => ?_) (fun c97 => ?_)
      · have e97 := bZ_t c97
        refine g_lv K [1] rfl (J108 _ hl2 (by unfold hld; rw [decide_eq_false c88, show brk P n none (ab (F 2 (ll - 1))) = true from e97]; rfl) (((((FrI.rf.u (by decide)).u (by decide)).u (by decide)).u (by decide)).u (by decide)) rfl)
      · have e97 := bZ_f c97
        refine g_aload_n K 1 d_M_look_100 rfl ?_
        refine g_callW (q0 := 0) K (c_M_cost l D g a P (upd (upd (upd (upd (upd I 24 (bZ true)) 25 0) 26 1) 11 65535) 12 (F 2 (ll - 1) &&& 65535)) (va_up (va_up (va_up F 3 (upd (F 3) 0 0)) 4 (upd (F 4) 0 0)) 5 (upd (F 5) 0 (bZ false))) hp (ab_vi (F 2 (ll - 1))) (ab_mb (F 2 (ll - 1)))) mf_M_cost im_M_cost se_M_cost ml_M_85 (by decide) rfl rfl (Nat.le_of_ble_eq_true rfl) d_M_look_101 (fun v w1 hq => ?_) rfl
        obtain ⟨rfl, rfl⟩ := hq
        refine g_ri ?_
        refine g_iload_n K 0 d_M_look_104 rfl ?_
        refine g_icmp_eq K (tgt := 113) d_M_look_105 (by decide) (fun c105 => ?_) (fun c105 => ?_)
        · have c105 : Int32.ofInt (sp P (ab (F 2 (ll - 1)))) = F 2 (ll - 2) := c105
          refine g_vret K d_M_look_113 (?_)
          have hY : hld P n (F 2 (ll - 2)) (F 2 (ll - 1)) = true := by unfold hld; rw [show brk P n none (ab (F 2 (ll - 1))) = false from e97, decide_eq_true c105, Bool.not_false, Bool.true_and, Bool.or_true]
          have eL : lookA P n (F 2) ll = (2, 0, [some (fun _ => -1)]) := by unfold lookA; rw [if_neg (by omega), if_pos hY]
          refine ⟨rfl, _, _, rfl, rfl, by rw [eL]; exact h23, fun _ => by rw [eL]; exact ⟨rfl, rfl, ⟨rfl, fun a ha => by cases ha; exact ⟨mb_open, VI.none⟩, trivial⟩, by decide, by decide, by decide⟩, ((((FrI.rf.u (by decide)).u (by decide)).u (by decide)).u (by decide)).u (by decide), ((FrF.rf.u (by decide)).u (by decide)).u (by decide)⟩
        · have c105 : ¬ Int32.ofInt (sp P (ab (F 2 (ll - 1)))) = F 2 (ll - 2) := c105
          refine g_lv K [1] rfl (J108 _ hl2 (by unfold hld; rw [decide_eq_false c88, decide_eq_false c105, Bool.and_false]; rfl) (((((FrI.rf.u (by decide)).u (by decide)).u (by decide)).u (by decide)).u (by decide)) rfl)
  · have hl2 : ll < 2 := by have c : ¬ (2 : Int32) ≤ nI ll := h22 ▸ c41; rw [i_le, i_2, nI_toInt (by omega)] at c; omega
    refine g_aload_n K 0 d_M_look_44 rfl ?_
    refine g_iconst K (v := 0) d_M_look_45 (by decide) ?_
    refine gM_put_answer K fl_M_39 d_M_look_46 ?_
    refine g_vret K d_M_look_49 (⟨rfl, _, _, rfl, rfl, by rw [show lookA P n (F 2) ll = (0, 0, []) from if_pos hl2]; rfl, fun e => by rw [show lookA P n (F 2) ll = (0, 0, []) from if_pos hl2] at e; exact absurd e (by decide), (((FrI.rf.u (by decide)).u (by decide)).u (by decide)).u (by decide), ((FrF.rf.u (by decide)).u (by decide)).u (by decide)⟩)
theorem d_M_word_0 : decode b_M_word 0 = .ok (.aload_n 0, 1) := by decide +kernel
theorem d_M_word_1 : decode b_M_word 1 = .ok (.getfield 148, 3) := by decide +kernel
theorem d_M_word_4 : decode b_M_word 4 = .ok (.aload_n 0, 1) := by decide +kernel
theorem d_M_word_5 : decode b_M_word 5 = .ok (.getfield 93, 3) := by decide +kernel
theorem d_M_word_8 : decode b_M_word 8 = .ok (.iconst 2, 1) := by decide +kernel
theorem d_M_word_9 : decode b_M_word 9 = .ok (.isub, 1) := by decide +kernel
theorem d_M_word_10 : decode b_M_word 10 = .ok (.if_icmp .lt 9, 3) := by decide +kernel
theorem d_M_word_13 : decode b_M_word 13 = .ok (.aload_n 0, 1) := by decide +kernel
theorem d_M_word_14 : decode b_M_word 14 = .ok (.iconst 0, 1) := by decide +kernel
theorem d_M_word_15 : decode b_M_word 15 = .ok (.putfield 39, 3) := by decide +kernel
theorem d_M_word_18 : decode b_M_word 18 = .ok (.return_, 1) := by decide +kernel
theorem d_M_word_19 : decode b_M_word 19 = .ok (.aload_n 0, 1) := by decide +kernel
theorem d_M_word_20 : decode b_M_word 20 = .ok (.getfield 36, 3) := by decide +kernel
theorem d_M_word_23 : decode b_M_word 23 = .ok (.aload_n 0, 1) := by decide +kernel
theorem d_M_word_24 : decode b_M_word 24 = .ok (.getfield 148, 3) := by decide +kernel
theorem d_M_word_27 : decode b_M_word 27 = .ok (.iaload, 1) := by decide +kernel
theorem d_M_word_28 : decode b_M_word 28 = .ok (.istore_n 1, 1) := by decide +kernel
theorem d_M_word_29 : decode b_M_word 29 = .ok (.aload_n 0, 1) := by decide +kernel
theorem d_M_word_30 : decode b_M_word 30 = .ok (.dup, 1) := by decide +kernel
theorem d_M_word_31 : decode b_M_word 31 = .ok (.getfield 148, 3) := by decide +kernel
theorem d_M_word_34 : decode b_M_word 34 = .ok (.iconst 1, 1) := by decide +kernel
theorem d_M_word_35 : decode b_M_word 35 = .ok (.iadd, 1) := by decide +kernel
theorem d_M_word_36 : decode b_M_word 36 = .ok (.putfield 148, 3) := by decide +kernel
theorem d_M_word_39 : decode b_M_word 39 = .ok (.aload_n 0, 1) := by decide +kernel
theorem d_M_word_40 : decode b_M_word 40 = .ok (.dup, 1) := by decide +kernel
theorem d_M_word_41 : decode b_M_word 41 = .ok (.getfield 151, 3) := by decide +kernel
theorem d_M_word_44 : decode b_M_word 44 = .ok (.iconst 1, 1) := by decide +kernel
theorem d_M_word_45 : decode b_M_word 45 = .ok (.isub, 1) := by decide +kernel
theorem d_M_word_46 : decode b_M_word 46 = .ok (.putfield 151, 3) := by decide +kernel
theorem d_M_word_49 : decode b_M_word 49 = .ok (.aload_n 0, 1) := by decide +kernel
theorem d_M_word_50 : decode b_M_word 50 = .ok (.aload_n 0, 1) := by decide +kernel
theorem d_M_word_51 : decode b_M_word 51 = .ok (.getfield 42, 3) := by decide +kernel
theorem d_M_word_54 : decode b_M_word 54 = .ok (.aload_n 0, 1) := by decide +kernel
theorem d_M_word_55 : decode b_M_word 55 = .ok (.getfield 151, 3) := by decide +kernel
theorem d_M_word_58 : decode b_M_word 58 = .ok (.iaload, 1) := by decide +kernel
theorem d_M_word_59 : decode b_M_word 59 = .ok (.putfield 69, 3) := by decide +kernel
theorem d_M_word_62 : decode b_M_word 62 = .ok (.aload_n 0, 1) := by decide +kernel
theorem d_M_word_63 : decode b_M_word 63 = .ok (.aload_n 0, 1) := by decide +kernel
theorem d_M_word_64 : decode b_M_word 64 = .ok (.getfield 45, 3) := by decide +kernel
theorem d_M_word_67 : decode b_M_word 67 = .ok (.aload_n 0, 1) := by decide +kernel
theorem d_M_word_68 : decode b_M_word 68 = .ok (.getfield 151, 3) := by decide +kernel
theorem d_M_word_71 : decode b_M_word 71 = .ok (.iaload, 1) := by decide +kernel
theorem d_M_word_72 : decode b_M_word 72 = .ok (.putfield 72, 3) := by decide +kernel
theorem d_M_word_75 : decode b_M_word 75 = .ok (.aload_n 0, 1) := by decide +kernel
theorem d_M_word_76 : decode b_M_word 76 = .ok (.getfield 48, 3) := by decide +kernel
theorem d_M_word_79 : decode b_M_word 79 = .ok (.aload_n 0, 1) := by decide +kernel
theorem d_M_word_80 : decode b_M_word 80 = .ok (.getfield 151, 3) := by decide +kernel
theorem d_M_word_83 : decode b_M_word 83 = .ok (.baload, 1) := by decide +kernel
theorem d_M_word_84 : decode b_M_word 84 = .ok (.istore_n 2, 1) := by decide +kernel
theorem d_M_word_85 : decode b_M_word 85 = .ok (.aload_n 0, 1) := by decide +kernel
theorem d_M_word_86 : decode b_M_word 86 = .ok (.getfield 36, 3) := by decide +kernel
theorem d_M_word_89 : decode b_M_word 89 = .ok (.aload_n 0, 1) := by decide +kernel
theorem d_M_word_90 : decode b_M_word 90 = .ok (.getfield 93, 3) := by decide +kernel
theorem d_M_word_93 : decode b_M_word 93 = .ok (.iconst 2, 1) := by decide +kernel
theorem d_M_word_94 : decode b_M_word 94 = .ok (.isub, 1) := by decide +kernel
theorem d_M_word_95 : decode b_M_word 95 = .ok (.iaload, 1) := by decide +kernel
theorem d_M_word_96 : decode b_M_word 96 = .ok (.istore_n 3, 1) := by decide +kernel
theorem d_M_word_97 : decode b_M_word 97 = .ok (.iload_n 3, 1) := by decide +kernel
theorem d_M_word_98 : decode b_M_word 98 = .ok (.iconst (-1), 1) := by decide +kernel
theorem d_M_word_99 : decode b_M_word 99 = .ok (.if_icmp .eq 7, 3) := by decide +kernel
theorem d_M_word_102 : decode b_M_word 102 = .ok (.iconst 1, 1) := by decide +kernel
theorem d_M_word_103 : decode b_M_word 103 = .ok (.goto 4, 3) := by decide +kernel
theorem d_M_word_106 : decode b_M_word 106 = .ok (.iconst 0, 1) := by decide +kernel
theorem d_M_word_107 : decode b_M_word 107 = .ok (.istore 4, 2) := by decide +kernel
theorem d_M_word_109 : decode b_M_word 109 = .ok (.iload_n 2, 1) := by decide +kernel
theorem d_M_word_110 : decode b_M_word 110 = .ok (.ifCond .ne 68, 3) := by decide +kernel
theorem d_M_word_113 : decode b_M_word 113 = .ok (.aload_n 0, 1) := by decide +kernel
theorem d_M_word_114 : decode b_M_word 114 = .ok (.iload 4, 2) := by decide +kernel
theorem d_M_word_116 : decode b_M_word 116 = .ok (.iload_n 3, 1) := by decide +kernel
theorem d_M_word_117 : decode b_M_word 117 = .ok (.iconst 1, 1) := by decide +kernel
theorem d_M_word_118 : decode b_M_word 118 = .ok (.isub, 1) := by decide +kernel
theorem d_M_word_119 : decode b_M_word 119 = .ok (.invokevirtual 122, 3) := by decide +kernel
theorem d_M_word_122 : decode b_M_word 122 = .ok (.ifCond .ne 56, 3) := by decide +kernel
theorem d_M_word_125 : decode b_M_word 125 = .ok (.aload_n 0, 1) := by decide +kernel
theorem d_M_word_126 : decode b_M_word 126 = .ok (.iload 4, 2) := by decide +kernel
theorem d_M_word_128 : decode b_M_word 128 = .ok (.iload_n 3, 1) := by decide +kernel
theorem d_M_word_129 : decode b_M_word 129 = .ok (.iconst 1, 1) := by decide +kernel
theorem d_M_word_130 : decode b_M_word 130 = .ok (.isub, 1) := by decide +kernel
theorem d_M_word_131 : decode b_M_word 131 = .ok (.invokevirtual 129, 3) := by decide +kernel
theorem d_M_word_134 : decode b_M_word 134 = .ok (.ifCond .eq 44, 3) := by decide +kernel
theorem d_M_word_137 : decode b_M_word 137 = .ok (.aload_n 0, 1) := by decide +kernel
theorem d_M_word_138 : decode b_M_word 138 = .ok (.iload 4, 2) := by decide +kernel
theorem d_M_word_140 : decode b_M_word 140 = .ok (.iload_n 3, 1) := by decide +kernel
theorem d_M_word_141 : decode b_M_word 141 = .ok (.iconst 1, 1) := by decide +kernel
theorem d_M_word_142 : decode b_M_word 142 = .ok (.isub, 1) := by decide +kernel
theorem d_M_word_143 : decode b_M_word 143 = .ok (.invokevirtual 129, 3) := by decide +kernel
theorem d_M_word_146 : decode b_M_word 146 = .ok (.istore 5, 2) := by decide +kernel
theorem d_M_word_148 : decode b_M_word 148 = .ok (.aload_n 0, 1) := by decide +kernel
theorem d_M_word_149 : decode b_M_word 149 = .ok (.iload 5, 2) := by decide +kernel
theorem d_M_word_151 : decode b_M_word 151 = .ok (.ifCond .ge 9, 3) := by decide +kernel
theorem d_M_word_154 : decode b_M_word 154 = .ok (.iload 5, 2) := by decide +kernel
theorem d_M_word_156 : decode b_M_word 156 = .ok (.ineg, 1) := by decide +kernel
theorem d_M_word_157 : decode b_M_word 157 = .ok (.goto 5, 3) := by decide +kernel
theorem d_M_word_160 : decode b_M_word 160 = .ok (.iload 5, 2) := by decide +kernel
theorem d_M_word_162 : decode b_M_word 162 = .ok (.iload 5, 2) := by decide +kernel
theorem d_M_word_164 : decode b_M_word 164 = .ok (.ifCond .le 7, 3) := by decide +kernel
theorem d_M_word_167 : decode b_M_word 167 = .ok (.iconst 1, 1) := by decide +kernel
theorem d_M_word_168 : decode b_M_word 168 = .ok (.goto 4, 3) := by decide +kernel
theorem d_M_word_171 : decode b_M_word 171 = .ok (.iconst 0, 1) := by decide +kernel
theorem d_M_word_172 : decode b_M_word 172 = .ok (.invokevirtual 99, 3) := by decide +kernel
theorem d_M_word_175 : decode b_M_word 175 = .ok (.goto (-66), 3) := by decide +kernel
theorem d_M_word_178 : decode b_M_word 178 = .ok (.iload_n 2, 1) := by decide +kernel
theorem d_M_word_179 : decode b_M_word 179 = .ok (.ifCond .ne 15, 3) := by decide +kernel
theorem d_M_word_182 : decode b_M_word 182 = .ok (.aload_n 0, 1) := by decide +kernel
theorem d_M_word_183 : decode b_M_word 183 = .ok (.iload 4, 2) := by decide +kernel
theorem d_M_word_185 : decode b_M_word 185 = .ok (.iload_n 3, 1) := by decide +kernel
theorem d_M_word_186 : decode b_M_word 186 = .ok (.iconst 1, 1) := by decide +kernel
theorem d_M_word_187 : decode b_M_word 187 = .ok (.isub, 1) := by decide +kernel
theorem d_M_word_188 : decode b_M_word 188 = .ok (.invokevirtual 122, 3) := by decide +kernel
theorem d_M_word_191 : decode b_M_word 191 = .ok (.ifCond .eq 7, 3) := by decide +kernel
theorem d_M_word_194 : decode b_M_word 194 = .ok (.iconst 1, 1) := by decide +kernel
theorem d_M_word_195 : decode b_M_word 195 = .ok (.goto 4, 3) := by decide +kernel
theorem d_M_word_198 : decode b_M_word 198 = .ok (.iconst 0, 1) := by decide +kernel
theorem d_M_word_199 : decode b_M_word 199 = .ok (.istore_n 2, 1) := by decide +kernel
theorem d_M_word_200 : decode b_M_word 200 = .ok (.iload_n 1, 1) := by decide +kernel
theorem d_M_word_201 : decode b_M_word 201 = .ok (.ifCond .ne 22, 3) := by decide +kernel
theorem d_M_word_204 : decode b_M_word 204 = .ok (.aload_n 0, 1) := by decide +kernel
theorem d_M_word_205 : decode b_M_word 205 = .ok (.iload_n 2, 1) := by decide +kernel
theorem d_M_word_206 : decode b_M_word 206 = .ok (.ifCond .eq 10, 3) := by decide +kernel
theorem d_M_word_209 : decode b_M_word 209 = .ok (.aload_n 0, 1) := by decide +kernel
theorem d_M_word_210 : decode b_M_word 210 = .ok (.getfield 39, 3) := by decide +kernel
theorem d_M_word_213 : decode b_M_word 213 = .ok (.goto 4, 3) := by decide +kernel
theorem d_M_word_216 : decode b_M_word 216 = .ok (.iconst 0, 1) := by decide +kernel
theorem d_M_word_217 : decode b_M_word 217 = .ok (.putfield 39, 3) := by decide +kernel
theorem d_M_word_220 : decode b_M_word 220 = .ok (.goto 118, 3) := by decide +kernel
theorem d_M_word_223 : decode b_M_word 223 = .ok (.iload_n 1, 1) := by decide +kernel
theorem d_M_word_224 : decode b_M_word 224 = .ok (.iconst 1, 1) := by decide +kernel
theorem d_M_word_225 : decode b_M_word 225 = .ok (.bipush 16, 2) := by decide +kernel
theorem d_M_word_227 : decode b_M_word 227 = .ok (.invokestatic 58, 3) := by decide +kernel
theorem d_M_word_230 : decode b_M_word 230 = .ok (.ifCond .eq 103, 3) := by decide +kernel
theorem d_M_word_233 : decode b_M_word 233 = .ok (.aload_n 0, 1) := by decide +kernel
theorem d_M_word_234 : decode b_M_word 234 = .ok (.iload_n 1, 1) := by decide +kernel
theorem d_M_word_235 : decode b_M_word 235 = .ok (.invokevirtual 75, 3) := by decide +kernel
theorem d_M_word_238 : decode b_M_word 238 = .ok (.istore 5, 2) := by decide +kernel
theorem d_M_word_240 : decode b_M_word 240 = .ok (.aload_n 0, 1) := by decide +kernel
theorem d_M_word_241 : decode b_M_word 241 = .ok (.iload_n 1, 1) := by decide +kernel
theorem d_M_word_242 : decode b_M_word 242 = .ok (.invokevirtual 79, 3) := by decide +kernel
theorem d_M_word_245 : decode b_M_word 245 = .ok (.istore 6, 2) := by decide +kernel
theorem d_M_word_247 : decode b_M_word 247 = .ok (.iconst 1, 1) := by decide +kernel
theorem d_M_word_248 : decode b_M_word 248 = .ok (.iload_n 1, 1) := by decide +kernel
theorem d_M_word_249 : decode b_M_word 249 = .ok (.iconst 1, 1) := by decide +kernel
theorem d_M_word_250 : decode b_M_word 250 = .ok (.isub, 1) := by decide +kernel
theorem d_M_word_251 : decode b_M_word 251 = .ok (.ishl, 1) := by decide +kernel
theorem d_M_word_252 : decode b_M_word 252 = .ok (.istore 7, 2) := by decide +kernel
theorem d_M_word_254 : decode b_M_word 254 = .ok (.aload_n 0, 1) := by decide +kernel
theorem d_M_word_255 : decode b_M_word 255 = .ok (.aload_n 0, 1) := by decide +kernel
theorem d_M_word_256 : decode b_M_word 256 = .ok (.getfield 69, 3) := by decide +kernel
theorem d_M_word_259 : decode b_M_word 259 = .ok (.iload 7, 2) := by decide +kernel
theorem d_M_word_261 : decode b_M_word 261 = .ok (.ior, 1) := by decide +kernel
theorem d_M_word_262 : decode b_M_word 262 = .ok (.aload_n 0, 1) := by decide +kernel
theorem d_M_word_263 : decode b_M_word 263 = .ok (.getfield 72, 3) := by decide +kernel
theorem d_M_word_266 : decode b_M_word 266 = .ok (.iload 7, 2) := by decide +kernel
theorem d_M_word_268 : decode b_M_word 268 = .ok (.ior, 1) := by decide +kernel
theorem d_M_word_269 : decode b_M_word 269 = .ok (.iload_n 2, 1) := by decide +kernel
theorem d_M_word_270 : decode b_M_word 270 = .ok (.ifCond .ne 13, 3) := by decide +kernel
theorem d_M_word_273 : decode b_M_word 273 = .ok (.iload 5, 2) := by decide +kernel
theorem d_M_word_275 : decode b_M_word 275 = .ok (.ifCond .eq 12, 3) := by decide +kernel
theorem d_M_word_278 : decode b_M_word 278 = .ok (.iload 6, 2) := by decide +kernel
theorem d_M_word_280 : decode b_M_word 280 = .ok (.ifCond .ne 7, 3) := by decide +kernel
theorem d_M_word_283 : decode b_M_word 283 = .ok (.iconst 1, 1) := by decide +kernel
theorem d_M_word_284 : decode b_M_word 284 = .ok (.goto 4, 3) := by decide +kernel
theorem d_M_word_287 : decode b_M_word 287 = .ok (.iconst 0, 1) := by decide +kernel
theorem d_M_word_288 : decode b_M_word 288 = .ok (.invokevirtual 155, 3) := by decide +kernel
theorem d_M_word_291 : decode b_M_word 291 = .ok (.aload_n 0, 1) := by decide +kernel
theorem d_M_word_292 : decode b_M_word 292 = .ok (.aload_n 0, 1) := by decide +kernel
theorem d_M_word_293 : decode b_M_word 293 = .ok (.getfield 69, 3) := by decide +kernel
theorem d_M_word_296 : decode b_M_word 296 = .ok (.iload 7, 2) := by decide +kernel
theorem d_M_word_298 : decode b_M_word 298 = .ok (.ior, 1) := by decide +kernel
theorem d_M_word_299 : decode b_M_word 299 = .ok (.aload_n 0, 1) := by decide +kernel
theorem d_M_word_300 : decode b_M_word 300 = .ok (.getfield 72, 3) := by decide +kernel
theorem d_M_word_303 : decode b_M_word 303 = .ok (.iload 7, 2) := by decide +kernel
theorem d_M_word_305 : decode b_M_word 305 = .ok (.iconst (-1), 1) := by decide +kernel
theorem d_M_word_306 : decode b_M_word 306 = .ok (.ixor, 1) := by decide +kernel
theorem d_M_word_307 : decode b_M_word 307 = .ok (.iand, 1) := by decide +kernel
theorem d_M_word_308 : decode b_M_word 308 = .ok (.iload_n 2, 1) := by decide +kernel
theorem d_M_word_309 : decode b_M_word 309 = .ok (.ifCond .ne 13, 3) := by decide +kernel
theorem d_M_word_312 : decode b_M_word 312 = .ok (.iload 5, 2) := by decide +kernel
theorem d_M_word_314 : decode b_M_word 314 = .ok (.ifCond .eq 12, 3) := by decide +kernel
theorem d_M_word_317 : decode b_M_word 317 = .ok (.iload 6, 2) := by decide +kernel
theorem d_M_word_319 : decode b_M_word 319 = .ok (.ifCond .eq 7, 3) := by decide +kernel
theorem d_M_word_322 : decode b_M_word 322 = .ok (.iconst 1, 1) := by decide +kernel
theorem d_M_word_323 : decode b_M_word 323 = .ok (.goto 4, 3) := by decide +kernel
theorem d_M_word_326 : decode b_M_word 326 = .ok (.iconst 0, 1) := by decide +kernel
theorem d_M_word_327 : decode b_M_word 327 = .ok (.invokevirtual 155, 3) := by decide +kernel
theorem d_M_word_330 : decode b_M_word 330 = .ok (.goto 8, 3) := by decide +kernel
theorem d_M_word_333 : decode b_M_word 333 = .ok (.aload_n 0, 1) := by decide +kernel
theorem d_M_word_334 : decode b_M_word 334 = .ok (.iconst 0, 1) := by decide +kernel
theorem d_M_word_335 : decode b_M_word 335 = .ok (.putfield 39, 3) := by decide +kernel
theorem d_M_word_338 : decode b_M_word 338 = .ok (.aload_n 0, 1) := by decide +kernel
theorem d_M_word_339 : decode b_M_word 339 = .ok (.getfield 39, 3) := by decide +kernel
theorem d_M_word_342 : decode b_M_word 342 = .ok (.iconst 2, 1) := by decide +kernel
theorem d_M_word_343 : decode b_M_word 343 = .ok (.if_icmp .ne 32, 3) := by decide +kernel
theorem d_M_word_346 : decode b_M_word 346 = .ok (.aload_n 0, 1) := by decide +kernel
theorem d_M_word_347 : decode b_M_word 347 = .ok (.getfield 151, 3) := by decide +kernel
theorem d_M_word_350 : decode b_M_word 350 = .ok (.ifCond .ne 25, 3) := by decide +kernel
theorem d_M_word_353 : decode b_M_word 353 = .ok (.aload_n 0, 1) := by decide +kernel
theorem d_M_word_354 : decode b_M_word 354 = .ok (.aload_n 0, 1) := by decide +kernel
theorem d_M_word_355 : decode b_M_word 355 = .ok (.getfield 148, 3) := by decide +kernel
theorem d_M_word_358 : decode b_M_word 358 = .ok (.aload_n 0, 1) := by decide +kernel
theorem d_M_word_359 : decode b_M_word 359 = .ok (.getfield 93, 3) := by decide +kernel
theorem d_M_word_362 : decode b_M_word 362 = .ok (.iconst 2, 1) := by decide +kernel
theorem d_M_word_363 : decode b_M_word 363 = .ok (.isub, 1) := by decide +kernel
theorem d_M_word_364 : decode b_M_word 364 = .ok (.if_icmp .ne 7, 3) := by decide +kernel
theorem d_M_word_367 : decode b_M_word 367 = .ok (.iconst 1, 1) := by decide +kernel
theorem d_M_word_368 : decode b_M_word 368 = .ok (.goto 4, 3) := by decide +kernel
theorem d_M_word_371 : decode b_M_word 371 = .ok (.iconst 0, 1) := by decide +kernel
theorem d_M_word_372 : decode b_M_word 372 = .ok (.putfield 39, 3) := by decide +kernel
theorem d_M_word_375 : decode b_M_word 375 = .ok (.return_, 1) := by decide +kernel
set_option maxHeartbeats 4000000 in
set_option maxRecDepth 100000 in
theorem c_M_word (l : Launch) (D : va_G) (g : Nat → ClassId) (a : Nat → Nat) (P : Nat → Nat → Int32) (I : Nat → Int32) (F : Nat → Nat → Int32) {n k : Nat} (hp : PWF P n k) (h6 : I 6 = nI n) {ll : Nat} (h22 : I 22 = nI ll) (hl4 : ll ≤ 400) (hl2 : 2 ≤ ll) {at' : Nat} {st : List ND} (hK : RM3 at' st I F) (h23 : I 23 = 2) (hcl : F 2 (ll - 2) = -1 ∨ 0 ≤ (F 2 (ll - 2)).toInt ∧ (F 2 (ll - 2)).toInt ≤ 524272) : Ct l D g y_M_word b_M_word 8 none 4 [.ref (a 0)] (MW a g P I F) (fun r w => r = none ∧ ∃ I2 F2, w = MW a g P I2 F2 ∧ I2 23 = (wordA P n (F 2) ll at' st).1 ∧ ((wordA P n (F 2) ll at' st).1 = 2 → RM3 (wordA P n (F 2) ll at' st).2.1 (wordA P n (F 2) ll at' st).2.2 I2 F2) ∧ FrI [11, 12, 23, 25, 26] I I2 ∧ FrF [3, 4, 5] F F2) := by
  refine Ct.of (lv := [(0, _)]) (by decide) rfl (Nat.le_of_ble_eq_true rfl) rfl ?_
  intro G K
  obtain ⟨x, r, rfl⟩ : ∃ x r, st = x :: r := by
    cases st with
    | nil => exact absurd hK.2.2.2.1 (by simp)
    | cons x r => exact ⟨x, r, rfl⟩
  have hK3 : r.length + 1 ≤ at' + 1 := hK.2.2.2.2.1
  have hK4 : at' ≤ 400 := hK.2.2.2.2.2
  have hL : decide (¬ F 2 (ll - 2) = -1) = true → -1 ≤ (F 2 (ll - 2) - 1).toInt ∧ (F 2 (ll - 2) - 1).toInt ≤ 1073741824 := fun e => limC_bd hcl (L := (F 2 (ll - 2) - 1).toInt) (by rw [← limC_O hcl, e]; rfl)
  have J338 : ∀ (I2 : Nat → Int32) (F2 : Nat → Nat → Int32), (at' + 2 < ll) → ((I2 23 = 0 ∧ (wordA P n (F 2) ll at' (x :: r)).1 = 0) ∨ (I2 23 = 2 ∧ ¬ I2 26 = 0 ∧ (wordA P n (F 2) ll at' (x :: r)).1 = 2 ∧ RM3 (wordA P n (F 2) ll at' (x :: r)).2.1 (wordA P n (F 2) ll at' (x :: r)).2.2 I2 F2) ∨ (I2 23 = 2 ∧ I2 26 = 0 ∧ (wordA P n (F 2) ll at' (x :: r)).1 = (if at' + 1 = ll - 2 then 1 else 0))) → (FrI [11, 12, 23, 25, 26] I I2) → (FrF [3, 4, 5] F F2) → (I2 25 = nI (at' + 1)) → G 338 [(0, .ref (a 0))] [] (MW a g P I2 F2) := by
    intro I2 F2 hlt hZ hIr2 hFr2 h252
    refine g_aload_n K 0 d_M_word_338 rfl ?_
    refine gM_get K 23 fl_M_39 (by decide) rfl d_M_word_339 ?_
    refine g_iconst K (v := 2) d_M_word_342 (by decide) ?_
    refine g_icmp_ne K (tgt := 375) d_M_word_343 (by decide) (fun c343 => ?_) (fun c343 => ?_)
    · have hz : (wordA P n (F 2) ll at' (x :: r)).1 = 0 := by rcases hZ with h | h | h; exact h.2; exact absurd h.1 c343; exact absurd h.1 c343
      have hz0 : I2 23 = 0 := by rcases hZ with h | h | h; exact h.1; exact absurd h.1 c343; exact absurd h.1 c343
      refine g_vret K d_M_word_375 (⟨rfl, I2, F2, rfl, by rw [hz0, hz], fun e => by rw [hz] at e; exact absurd e (by decide), hIr2, hFr2⟩)
    · refine g_aload_n K 0 d_M_word_346 rfl ?_
      refine gM_get K 26 fl_M_151 (by decide) rfl d_M_word_347 ?_
      refine g_if_ne K (tgt := 375) d_M_word_350 (by decide) (fun c350 => ?_) (fun c350 => ?_)
      · have hz := ((hZ.resolve_left (fun h => absurd (h.1.symm.trans c343) (by decide))).resolve_right (fun h => c350 h.2.1))
        refine g_vret K d_M_word_375 (⟨rfl, I2, F2, rfl, hz.1.trans hz.2.2.1.symm, fun _ => hz.2.2.2, hIr2, hFr2⟩)
      · have hz := ((hZ.resolve_left (fun h => absurd (h.1.symm.trans c343) (by decide))).resolve_left (fun h => h.2.1 c350)).2.2
        refine g_aload_n K 0 d_M_word_353 rfl ?_
        refine g_aload_n K 0 d_M_word_354 rfl ?_
        refine gM_get K 25 fl_M_148 (by decide) rfl d_M_word_355 ?_
        refine g_aload_n K 0 d_M_word_358 rfl ?_
        refine gM_get K 22 fl_M_93 (by decide) rfl d_M_word_359 ?_
        refine g_iconst K (v := 2) d_M_word_362 (by decide) ?_
        refine g_isub K d_M_word_363 ?_
        refine g_top K (show _ = nI (ll - 2) from (congrArg (· - 2) ((hIr2 22 (by decide)).trans h22)).trans (pk_sub (b := 2) hl2)) ?_
        refine g_icmp_ne K (tgt := 371) d_M_word_364 (by decide) (fun c364 => ?_) (fun c364 => ?_)
        · refine g_iconst K (v := 0) d_M_word_371 (by decide) ?_
          refine gM_put_answer K fl_M_39 d_M_word_372 ?_
          refine g_vret K d_M_word_375 (⟨rfl, _, F2, rfl, ?_, fun e => ?_, hIr2.u (by decide), hFr2⟩)
          · rw [hz]
            first | (rw [if_pos (nI_inj (by omega) (by omega) (h252.symm.trans c364))]; rfl) | (rw [if_neg (fun z => c364 (by rw [h252, z]))]; rfl)
          · rw [hz] at e
            split at e <;> exact absurd e (by decide)
        · refine g_iconst K (v := 1) d_M_word_367 (by decide) ?_
          refine g_goto K (tgt := 372) d_M_word_368 (by decide) ?_
          refine gM_put_answer K fl_M_39 d_M_word_372 ?_
          refine g_vret K d_M_word_375 (⟨rfl, _, F2, rfl, ?_, fun e => ?_, hIr2.u (by decide), hFr2⟩)
          · rw [hz]
            first | (rw [if_pos (nI_inj (by omega) (by omega) (h252.symm.trans c364))]; rfl) | (rw [if_neg (fun z => c364 (by rw [h252, z]))]; rfl)
          · rw [hz] at e
            split at e <;> exact absurd e (by decide)
  have J254 : ∀ (v : Nat) (I1 : Nat → Int32), (at' + 2 < ll) → (1 ≤ v) → (v ≤ 16) → (F 2 at' = nI v) → (∀ b, (x.bind (stl P n (limC (F 2 (ll - 2))))) = some b → MB2 (I1 11) (I1 12) b ∧ VI b) → (FrI [11, 12] (upd (upd (upd (upd I 25 (nI (at' + 1))) 26 (nI r.length)) 11 (F 3 r.length)) 12 (F 4 r.length)) I1) → G 254 [(0, .ref (a 0)), (2, .int (bZ (x.bind (stl P n (limC (F 2 (ll - 2))))).isNone)), (5, .int (bZ (bt (I1 11) (v - 1)))), (6, .int (bZ (bt (I1 12) (v - 1)))), (7, .int ((1 : Int32) <<< ((nI v - 1) &&& 31)))] [] (MW a g P I1 F) := by
    intro v I1 hlt hv1 hv2 hw hR hIr
    have hq26 : I1 26 = nI r.length := (hIr 26 (by decide)).trans rfl
    have J327 : G 327 [(0, .ref (a 0)), (2, .int (bZ (x.bind (stl P n (limC (F 2 (ll - 2))))).isNone)), (5, .int (bZ (bt (I1 11) (v - 1)))), (6, .int (bZ (bt (I1 12) (v - 1)))), (7, .int ((1 : Int32) <<< ((nI v - 1) &&& 31)))] (.int (bZ (chZ (x.bind (stl P n (limC (F 2 (ll - 2))))) v).isNone) :: [.int (I1 12 &&& (((1 : Int32) <<< ((nI v - 1) &&& 31)) ^^^ (-1))), .int (I1 11 ||| ((1 : Int32) <<< ((nI v - 1) &&& 31))), .ref (a 0)]) (MW a g P (upd I1 26 (nI (r.length + 1))) (va_up (va_up (va_up F 3 (upd (F 3) r.length (I1 11 ||| ((1 : Int32) <<< ((nI v - 1) &&& 31))))) 4 (upd (F 4) r.length (I1 12 ||| ((1 : Int32) <<< ((nI v - 1) &&& 31))))) 5 (upd (F 5) r.length (bZ (chO (x.bind (stl P n (limC (F 2 (ll - 2))))) v).isNone)))) := by
      refine g_callW (q0 := 0) K (c_M_hold l D g a P (upd I1 26 (nI (r.length + 1))) (va_up (va_up (va_up F 3 (upd (F 3) r.length (I1 11 ||| ((1 : Int32) <<< ((nI v - 1) &&& 31))))) 4 (upd (F 4) r.length (I1 12 ||| ((1 : Int32) <<< ((nI v - 1) &&& 31))))) 5 (upd (F 5) r.length (bZ (chO (x.bind (stl P n (limC (F 2 (ll - 2))))) v).isNone))) _ _ _ (q := r.length + 1) rfl (by omega)) mf_M_hold im_M_hold se_M_hold ml_M_155 (by decide) rfl rfl (Nat.le_of_ble_eq_true rfl) d_M_word_327 (fun v w1 hq => ?_) rfl
      obtain ⟨rfl, rfl⟩ := hq
      refine g_rv ?_
      refine g_goto K (tgt := 338) d_M_word_330 (by decide) ?_
      refine g_lv K [0] rfl (J338 _ _ hlt (Or.inr (Or.inl ⟨?_, ?_, ?_, ?_⟩)) ?_ ?_ ?_)
      · exact (hIr 23 (by decide)).trans h23
      · show ¬ nI (r.length + 1 + 1) = 0
        exact nI_ne0 (by omega) (by omega)
      · rw [wordA_v hlt (by rw [hw, nI_toInt (by omega)]; omega)]
      · rw [wordA_v hlt (by rw [hw, nI_toInt (by omega)]; omega), hw, vx_nI (by omega)]
        refine ⟨(hIr 25 (by decide)).trans rfl, rfl, ?_, by simp, by simp; omega, by show at' + 1 ≤ 400; omega⟩
        have hp1 : RS _ _ _ (chO (x.bind (stl P n (limC (F 2 (ll - 2))))) v :: r) := hK.2.2.1.2.2.push (y := chO (x.bind (stl P n (limC (F 2 (ll - 2))))) v) (s := I1 11 ||| ((1 : Int32) <<< ((nI v - 1) &&& 31))) (o := I1 12 ||| ((1 : Int32) <<< ((nI v - 1) &&& 31))) (fun a ha => ?_)
        · exact hp1.push (y := chZ (x.bind (stl P n (limC (F 2 (ll - 2))))) v) (s := I1 11 ||| ((1 : Int32) <<< ((nI v - 1) &&& 31))) (o := I1 12 &&& (((1 : Int32) <<< ((nI v - 1) &&& 31)) ^^^ (-1))) (fun a ha => by
            cases hY : (x.bind (stl P n (limC (F 2 (ll - 2))))) with
            | none => rw [hY] at ha; cases ha
            | some b =>
              rw [hY] at ha
              obtain ⟨hb1, hb2⟩ := hR b hY
              by_cases e : b v = 1
              · rw [chZ_none e] at ha; cases ha
              · rw [chZ_some e] at ha; cases ha; exact ⟨mb_zero hb1 hv1 (by omega), hb2.upd hv1 hv2 (Or.inr (Or.inl rfl))⟩)
        · cases hY : (x.bind (stl P n (limC (F 2 (ll - 2))))) with
          | none => rw [hY] at ha; cases ha
          | some b =>
            rw [hY] at ha
            obtain ⟨hb1, hb2⟩ := hR b hY
            by_cases e : b v = 0
            · rw [chO_none e] at ha; cases ha
            · rw [chO_some e] at ha; cases ha; exact ⟨mb_one hb1 hv1 (by omega), hb2.upd hv1 hv2 (Or.inr (Or.inr rfl))⟩
      · exact ((((((FrI.rf.u (by decide)).u (by decide)).u (by decide)).u (by decide)).t (hIr.m (by decide))).u (by decide)).u (by decide)
      · exact (((((FrF.rf.u (by decide)).u (by decide)).u (by decide)).u (by decide)).u (by decide)).u (by decide)
      · exact (hIr 25 (by decide)).trans rfl
    have J326 : ((chZ (x.bind (stl P n (limC (F 2 (ll - 2))))) v).isNone = false) → G 326 [(0, .ref (a 0)), (2, .int (bZ (x.bind (stl P n (limC (F 2 (ll - 2))))).isNone)), (5, .int (bZ (bt (I1 11) (v - 1)))), (6, .int (bZ (bt (I1 12) (v - 1)))), (7, .int ((1 : Int32) <<< ((nI v - 1) &&& 31)))] [.int (I1 12 &&& (((1 : Int32) <<< ((nI v - 1) &&& 31)) ^^^ (-1))), .int (I1 11 ||| ((1 : Int32) <<< ((nI v - 1) &&& 31))), .ref (a 0)] (MW a g P (upd I1 26 (nI (r.length + 1))) (va_up (va_up (va_up F 3 (upd (F 3) r.length (I1 11 ||| ((1 : Int32) <<< ((nI v - 1) &&& 31))))) 4 (upd (F 4) r.length (I1 12 ||| ((1 : Int32) <<< ((nI v - 1) &&& 31))))) 5 (upd (F 5) r.length (bZ (chO (x.bind (stl P n (limC (F 2 (ll - 2))))) v).isNone)))) := by
      intro  hT
      refine g_iconst K (v := 0) d_M_word_326 (by decide) ?_
      refine g_top K (show (0 : Int32) = bZ (chZ (x.bind (stl P n (limC (F 2 (ll - 2))))) v).isNone by rw [hT]; rfl) ?_
      refine g_lv K [0, 1, 2, 3, 4] rfl (J327 )
    have J322 : ((chZ (x.bind (stl P n (limC (F 2 (ll - 2))))) v).isNone = true) → G 322 [(0, .ref (a 0)), (2, .int (bZ (x.bind (stl P n (limC (F 2 (ll - 2))))).isNone)), (5, .int (bZ (bt (I1 11) (v - 1)))), (6, .int (bZ (bt (I1 12) (v - 1)))), (7, .int ((1 : Int32) <<< ((nI v - 1) &&& 31)))] [.int (I1 12 &&& (((1 : Int32) <<< ((nI v - 1) &&& 31)) ^^^ (-1))), .int (I1 11 ||| ((1 : Int32) <<< ((nI v - 1) &&& 31))), .ref (a 0)] (MW a g P (upd I1 26 (nI (r.length + 1))) (va_up (va_up (va_up F 3 (upd (F 3) r.length (I1 11 ||| ((1 : Int32) <<< ((nI v - 1) &&& 31))))) 4 (upd (F 4) r.length (I1 12 ||| ((1 : Int32) <<< ((nI v - 1) &&& 31))))) 5 (upd (F 5) r.length (bZ (chO (x.bind (stl P n (limC (F 2 (ll - 2))))) v).isNone)))) := by
      intro  hT
      refine g_iconst K (v := 1) d_M_word_322 (by decide) ?_
      refine g_goto K (tgt := 327) d_M_word_323 (by decide) ?_
      refine g_top K (show (1 : Int32) = bZ (chZ (x.bind (stl P n (limC (F 2 (ll - 2))))) v).isNone by rw [hT]; rfl) ?_
      refine g_lv K [0, 1, 2, 3, 4] rfl (J327 )
    have J288 : G 288 [(0, .ref (a 0)), (2, .int (bZ (x.bind (stl P n (limC (F 2 (ll - 2))))).isNone)), (5, .int (bZ (bt (I1 11) (v - 1)))), (6, .int (bZ (bt (I1 12) (v - 1)))), (7, .int ((1 : Int32) <<< ((nI v - 1) &&& 31)))] (.int (bZ (chO (x.bind (stl P n (limC (F 2 (ll - 2))))) v).isNone) :: [.int (I1 12 ||| ((1 : Int32) <<< ((nI v - 1) &&& 31))), .int (I1 11 ||| ((1 : Int32) <<< ((nI v - 1) &&& 31))), .ref (a 0)]) (MW a g P I1 F) := by
      refine g_callW (q0 := 0) K (c_M_hold l D g a P I1 F _ _ _ hq26 (by omega)) mf_M_hold im_M_hold se_M_hold ml_M_155 (by decide) rfl rfl (Nat.le_of_ble_eq_true rfl) d_M_word_288 (fun v w1 hq => ?_) rfl
      obtain ⟨rfl, rfl⟩ := hq
      refine g_rv ?_
      refine g_aload_n K 0 d_M_word_291 rfl ?_
      refine g_aload_n K 0 d_M_word_292 rfl ?_
      refine gM_get K 11 fl_M_69 (by decide) rfl d_M_word_293 ?_
      refine g_iload K 4 d_M_word_296 rfl ?_
      refine g_ior K d_M_word_298 ?_
      refine g_aload_n K 0 d_M_word_299 rfl ?_
      refine gM_get K 12 fl_M_72 (by decide) rfl d_M_word_300 ?_
      refine g_iload K 4 d_M_word_303 rfl ?_
      refine g_iconst K (v := -1) d_M_word_305 (by decide) ?_
      refine g_ixor K d_M_word_306 ?_
      refine g_iand K d_M_word_307 ?_
      refine g_iload_n K 1 d_M_word_308 rfl ?_
      refine g_if_ne K (tgt := 322) d_M_word_309 (by decide) (fun c309 => ?_) (fun c309 => ?_)
      · refine g_lv K [0, 1, 2, 3, 4] rfl (J322 (by rw [isN_t c309]; rfl))
      · obtain ⟨b, hY⟩ := isN_f c309
        obtain ⟨hb1, hb2⟩ := hR b hY
        refine g_iload K 2 d_M_word_312 rfl ?_
        refine g_if_eq K (tgt := 326) d_M_word_314 (by decide) (fun c314 => ?_) (fun c314 => ?_)
        · have e314 : b v = -1 := Decidable.of_not_not (of_decide_eq_false ((mb_set hb1 hv1 (by omega)).symm.trans (bZ_f c314)))
          refine g_lv K [0, 1, 2, 3, 4] rfl (J326 (by rw [hY, chZ_some (by rw [e314]; decide)]; rfl))
        · refine g_iload K 3 d_M_word_317 rfl ?_
          refine g_if_eq K (tgt := 326) d_M_word_319 (by decide) (fun c319 => ?_) (fun c319 => ?_)
          · have e319 : ¬ b v = 1 := of_decide_eq_false ((mb_is hb1 hv1 (by omega)).symm.trans (bZ_f c319))
            refine g_lv K [0, 1, 2, 3, 4] rfl (J326 (by rw [hY, chZ_some e319]; rfl))
          · have e319 : b v = 1 := of_decide_eq_true ((mb_is hb1 hv1 (by omega)).symm.trans (bZ_t c319))
            refine g_lv K [0, 1, 2, 3, 4] rfl (J322 (by rw [hY, chZ_none e319]; rfl))
    have J287 : ((chO (x.bind (stl P n (limC (F 2 (ll - 2))))) v).isNone = false) → G 287 [(0, .ref (a 0)), (2, .int (bZ (x.bind (stl P n (limC (F 2 (ll - 2))))).isNone)), (5, .int (bZ (bt (I1 11) (v - 1)))), (6, .int (bZ (bt (I1 12) (v - 1)))), (7, .int ((1 : Int32) <<< ((nI v - 1) &&& 31)))] [.int (I1 12 ||| ((1 : Int32) <<< ((nI v - 1) &&& 31))), .int (I1 11 ||| ((1 : Int32) <<< ((nI v - 1) &&& 31))), .ref (a 0)] (MW a g P I1 F) := by
      intro  hT
      refine g_iconst K (v := 0) d_M_word_287 (by decide) ?_
      refine g_top K (show (0 : Int32) = bZ (chO (x.bind (stl P n (limC (F 2 (ll - 2))))) v).isNone by rw [hT]; rfl) ?_
      refine g_lv K [0, 1, 2, 3, 4] rfl (J288 )
    have J283 : ((chO (x.bind (stl P n (limC (F 2 (ll - 2))))) v).isNone = true) → G 283 [(0, .ref (a 0)), (2, .int (bZ (x.bind (stl P n (limC (F 2 (ll - 2))))).isNone)), (5, .int (bZ (bt (I1 11) (v - 1)))), (6, .int (bZ (bt (I1 12) (v - 1)))), (7, .int ((1 : Int32) <<< ((nI v - 1) &&& 31)))] [.int (I1 12 ||| ((1 : Int32) <<< ((nI v - 1) &&& 31))), .int (I1 11 ||| ((1 : Int32) <<< ((nI v - 1) &&& 31))), .ref (a 0)] (MW a g P I1 F) := by
      intro  hT
      refine g_iconst K (v := 1) d_M_word_283 (by decide) ?_
      refine g_goto K (tgt := 288) d_M_word_284 (by decide) ?_
      refine g_top K (show (1 : Int32) = bZ (chO (x.bind (stl P n (limC (F 2 (ll - 2))))) v).isNone by rw [hT]; rfl) ?_
      refine g_lv K [0, 1, 2, 3, 4] rfl (J288 )
    refine g_aload_n K 0 d_M_word_254 rfl ?_
    refine g_aload_n K 0 d_M_word_255 rfl ?_
    refine gM_get K 11 fl_M_69 (by decide) rfl d_M_word_256 ?_
    refine g_iload K 4 d_M_word_259 rfl ?_
    refine g_ior K d_M_word_261 ?_
    refine g_aload_n K 0 d_M_word_262 rfl ?_
    refine gM_get K 12 fl_M_72 (by decide) rfl d_M_word_263 ?_
    refine g_iload K 4 d_M_word_266 rfl ?_
    refine g_ior K d_M_word_268 ?_
    refine g_iload_n K 1 d_M_word_269 rfl ?_
    refine g_if_ne K (tgt := 283) d_M_word_270 (by decide) (fun c270 => ?_) (fun c270 => ?_)
    · refine g_lv K [0, 1, 2, 3, 4] rfl (J283 (by rw [isN_t c270]; rfl))
    · obtain ⟨b, hY⟩ := isN_f c270
      obtain ⟨hb1, hb2⟩ := hR b hY
      refine g_iload K 2 d_M_word_273 rfl ?_
      refine g_if_eq K (tgt := 287) d_M_word_275 (by decide) (fun c275 => ?_) (fun c275 => ?_)
      · have e275 : b v = -1 := Decidable.of_not_not (of_decide_eq_false ((mb_set hb1 hv1 (by omega)).symm.trans (bZ_f c275)))
        refine g_lv K [0, 1, 2, 3, 4] rfl (J287 (by rw [hY, chO_some (by rw [e275]; decide)]; rfl))
      · have e275 : ¬ b v = -1 := of_decide_eq_true ((mb_set hb1 hv1 (by omega)).symm.trans (bZ_t c275))
        refine g_iload K 3 d_M_word_278 rfl ?_
        refine g_if_ne K (tgt := 287) d_M_word_280 (by decide) (fun c280 => ?_) (fun c280 => ?_)
        · have e280 : b v = 1 := of_decide_eq_true ((mb_is hb1 hv1 (by omega)).symm.trans (bZ_t c280))
          refine g_lv K [0, 1, 2, 3, 4] rfl (J287 (by rw [hY, chO_some (by rw [e280]; decide)]; rfl))
        · have e280 : b v = 0 := ((hb2.1 v).resolve_left e275).resolve_right (of_decide_eq_false ((mb_is hb1 hv1 (by omega)).symm.trans (bZ_f c280)))
          refine g_lv K [0, 1, 2, 3, 4] rfl (J283 (by rw [hY, chO_none e280]; rfl))
  have J199 : ∀ (I1 : Nat → Int32), (at' + 2 < ll) → (∀ b, (x.bind (stl P n (limC (F 2 (ll - 2))))) = some b → MB2 (I1 11) (I1 12) b ∧ VI b) → (FrI [11, 12] (upd (upd (upd (upd I 25 (nI (at' + 1))) 26 (nI r.length)) 11 (F 3 r.length)) 12 (F 4 r.length)) I1) → G 199 [(0, .ref (a 0)), (1, .int (F 2 at'))] [.int (bZ (x.bind (stl P n (limC (F 2 (ll - 2))))).isNone)] (MW a g P I1 F) := by
    intro I1 hlt hR hIr
    have J217 : ∀ (av : Int32), (F 2 at' = 0) → ((av = 2 ∧ (x.bind (stl P n (limC (F 2 (ll - 2))))).isNone = true) ∨ (av = 0 ∧ (x.bind (stl P n (limC (F 2 (ll - 2))))).isNone = false)) → G 217 [(0, .ref (a 0))] [.int av, .ref (a 0)] (MW a g P I1 F) := by
      intro av hw0 hav
      refine gM_put_answer K fl_M_39 d_M_word_217 ?_
      refine g_goto K (tgt := 338) d_M_word_220 (by decide) ?_
      refine g_lv K [0] rfl (J338 _ F hlt ?_ ((((((FrI.rf.u (by decide)).u (by decide)).u (by decide)).u (by decide)).t (hIr.m (by decide))).u (by decide)) FrF.rf ((hIr 25 (by decide)).trans rfl))
      rw [wordA_z hlt hw0]
      rcases hav with ⟨rfl, e⟩ | ⟨rfl, e⟩
      · rw [if_pos e]
        have h26 : I1 26 = nI r.length := (hIr 26 (by decide)).trans rfl
        by_cases er : r = []
        · rw [if_pos er]
          refine Or.inr (Or.inr ⟨rfl, ?_, rfl⟩)
          show I1 26 = 0
          rw [h26, er]; rfl
        · rw [if_neg er]
          have hr1 : 1 ≤ r.length := by cases r with | nil => exact absurd rfl er | cons q t => simp
          refine Or.inr (Or.inl ⟨rfl, ?_, rfl, (hIr 25 (by decide)).trans rfl, h26, hK.2.2.1.2.2, hr1, by show r.length ≤ at' + 1 + 1; omega, by show at' + 1 ≤ 400; omega⟩)
          show ¬ I1 26 = 0
          rw [h26]; exact nI_ne0 (by omega) (by omega)
      · rw [if_neg (by rw [e]; decide)]
        exact Or.inl ⟨rfl, rfl⟩
    refine g_istore_n (lv' := [(2, _), (0, _), (1, _)]) K d_M_word_199 (by decide) rfl ?_
    refine g_iload_n K 2 d_M_word_200 rfl ?_
    refine g_if_ne K (tgt := 223) d_M_word_201 (by decide) (fun c201 => ?_) (fun c201 => ?_)
    · refine g_iload_n K 2 d_M_word_223 rfl ?_
      refine g_iconst K (v := 1) d_M_word_224 (by decide) ?_
      refine g_bipush K (v := 16) d_M_word_225 (by decide) ?_
      refine g_callS K (c_M_isIn l D g (F 2 at') 1 16) mf_M_isIn is_M_isIn ml_M_58 (by decide) (Nat.le_of_ble_eq_true rfl) d_M_word_227 (fun v hq => ?_) rfl
      obtain ⟨rfl, -⟩ := hq
      refine g_ri ?_
      refine g_if_eq K (tgt := 333) d_M_word_230 (by decide) (fun c230 => ?_) (fun c230 => ?_)
      · have e230 := of_decide_eq_false ((in_i 1 16 i_1 k_16 (F 2 at')).symm.trans (bZ_f c230))
        refine g_aload_n K 1 d_M_word_333 rfl ?_
        refine g_iconst K (v := 0) d_M_word_334 (by decide) ?_
        refine gM_put_answer K fl_M_39 d_M_word_335 ?_
        refine g_lv K [1] rfl (J338 _ F hlt (Or.inl ⟨rfl, by rw [wordA_n hlt c201 e230]⟩) ?_ FrF.rf ?_)
        · exact (((((FrI.rf.u (by decide)).u (by decide)).u (by decide)).u (by decide)).t (hIr.m (by decide))).u (by decide)
        · exact (hIr 25 (by decide)).trans rfl
      · have e230 := of_decide_eq_true ((in_i 1 16 i_1 k_16 (F 2 at')).symm.trans (bZ_t c230))
        obtain ⟨hw, hv1, hv2⟩ := vx_of e230
        refine g_aload_n K 1 d_M_word_233 rfl ?_
        refine g_iload_n K 2 d_M_word_234 rfl ?_
        refine g_top K hw ?_
        refine g_callW (q0 := 0) K (c_M_isSetR l D g a P I1 F hv1 hv2) mf_M_isSet im_M_isSet se_M_isSet ml_M_75 (by decide) rfl rfl (Nat.le_of_ble_eq_true rfl) d_M_word_235 (fun v w1 hq => ?_) rfl
        obtain ⟨rfl, rfl⟩ := hq
        refine g_ri ?_
        refine g_istore (lv' := [(5, _), (2, _), (0, _), (1, _)]) K d_M_word_238 (by decide) rfl ?_
        refine g_aload_n K 2 d_M_word_240 rfl ?_
        refine g_iload_n K 3 d_M_word_241 rfl ?_
        refine g_top K hw ?_
        refine g_callW (q0 := 0) K (c_M_isOneR l D g a P I1 F hv1 hv2) mf_M_isOne im_M_isOne se_M_isOne ml_M_79 (by decide) rfl rfl (Nat.le_of_ble_eq_true rfl) d_M_word_242 (fun v w1 hq => ?_) rfl
        obtain ⟨rfl, rfl⟩ := hq
        refine g_ri ?_
        refine g_istore (lv' := [(6, _), (5, _), (2, _), (0, _), (1, _)]) K d_M_word_245 (by decide) rfl ?_
        refine g_iconst K (v := 1) d_M_word_247 (by decide) ?_
        refine g_iload_n K 4 d_M_word_248 rfl ?_
        refine g_top K hw ?_
        refine g_iconst K (v := 1) d_M_word_249 (by decide) ?_
        refine g_isub K d_M_word_250 ?_
        refine g_ishl K d_M_word_251 ?_
        refine g_istore (lv' := [(7, _), (6, _), (5, _), (2, _), (0, _), (1, _)]) K d_M_word_252 (by decide) rfl ?_
        refine g_lv K [4, 3, 2, 1, 0] rfl (J254 (vx (F 2 at')) I1 hlt hv1 hv2 hw hR hIr)
    · refine g_aload_n K 1 d_M_word_204 rfl ?_
      refine g_iload_n K 0 d_M_word_205 rfl ?_
      refine g_if_eq K (tgt := 216) d_M_word_206 (by decide) (fun c206 => ?_) (fun c206 => ?_)
      · have e206 := bZ_f c206
        refine g_iconst K (v := 0) d_M_word_216 (by decide) ?_
        refine g_lv K [1] rfl (J217 _ c201 (Or.inr ⟨rfl, e206⟩))
      · have e206 := bZ_t c206
        refine g_aload_n K 1 d_M_word_209 rfl ?_
        refine gM_get K 23 fl_M_39 (by decide) rfl d_M_word_210 ?_
        refine g_goto K (tgt := 217) d_M_word_213 (by decide) ?_
        refine g_lv K [1] rfl (J217 _ c201 (Or.inl ⟨(hIr 23 (by decide)).trans h23, e206⟩))
  have J194 : ∀ (I1 : Nat → Int32), (at' + 2 < ll) → ((x.bind (stl P n (limC (F 2 (ll - 2))))) = none) → (FrI [11, 12] (upd (upd (upd (upd I 25 (nI (at' + 1))) 26 (nI r.length)) 11 (F 3 r.length)) 12 (F 4 r.length)) I1) → G 194 [(0, .ref (a 0)), (1, .int (F 2 at'))] [] (MW a g P I1 F) := by
    intro I1 hlt hY hIr
    refine g_iconst K (v := 1) d_M_word_194 (by decide) ?_
    refine g_goto K (tgt := 199) d_M_word_195 (by decide) ?_
    rw [hY] at J199
    refine g_lv K [0, 1] rfl (J199 I1 hlt (fun b e => by cases e) hIr)
  have J178 : ∀ (xa : ND) (I1 : Nat → Int32), (at' + 2 < ll) → ((xa = none ∧ (x.bind (stl P n (limC (F 2 (ll - 2))))) = none) ∨ (∃ b, xa = some b ∧ ((brk P n (limC (F 2 (ll - 2))) b = true ∧ (x.bind (stl P n (limC (F 2 (ll - 2))))) = none) ∨ (brk P n (limC (F 2 (ll - 2))) b = false ∧ (x.bind (stl P n (limC (F 2 (ll - 2))))) = some b)))) → (∀ b, xa = some b → MB2 (I1 11) (I1 12) b ∧ VI b) → (FrI [11, 12] (upd (upd (upd (upd I 25 (nI (at' + 1))) 26 (nI r.length)) 11 (F 3 r.length)) 12 (F 4 r.length)) I1) → G 178 [(0, .ref (a 0)), (1, .int (F 2 at')), (2, .int (bZ xa.isNone)), (3, .int (F 2 (ll - 2))), (4, .int (bZ (decide (¬ F 2 (ll - 2) = -1))))] [] (MW a g P I1 F) := by
    intro xa I1 hlt hE hR hIr
    have hn1 : I1 6 = nI n := (hIr 6 (by decide)).trans h6
    refine g_iload_n K 2 d_M_word_178 rfl ?_
    refine g_if_ne K (tgt := 194) d_M_word_179 (by decide) (fun c179 => ?_) (fun c179 => ?_)
    · have ex := isN_t c179
      have hY : (x.bind (stl P n (limC (F 2 (ll - 2))))) = none := by rcases hE with h | ⟨b, h, -⟩; exact h.2; rw [ex] at h; cases h
      refine g_lv K [0, 1] rfl (J194 I1 hlt hY hIr)
    · obtain ⟨b, rfl⟩ := isN_f c179
      obtain ⟨hb1, hb2⟩ := hR b rfl
      have hE2 : (brk P n (limC (F 2 (ll - 2))) b = true ∧ (x.bind (stl P n (limC (F 2 (ll - 2))))) = none) ∨ (brk P n (limC (F 2 (ll - 2))) b = false ∧ (x.bind (stl P n (limC (F 2 (ll - 2))))) = some b) := by rcases hE with h | ⟨b2, h, h2⟩; exact absurd h.1 (by simp); cases h; exact h2
      refine g_aload_n K 0 d_M_word_182 rfl ?_
      refine g_iload K 4 d_M_word_183 rfl ?_
      refine g_iload_n K 3 d_M_word_185 rfl ?_
      refine g_iconst K (v := 1) d_M_word_186 (by decide) ?_
      refine g_isub K d_M_word_187 ?_
      refine g_callW (q0 := 0) K (c_M_isBroken l D g a P I1 F hp hb2 hb1 (lb := decide (¬ F 2 (ll - 2) = -1)) (L := F 2 (ll - 2) - 1) hL hn1) mf_M_isBroken im_M_isBroken se_M_isBroken ml_M_122 (by decide) rfl rfl (Nat.le_of_ble_eq_true rfl) d_M_word_188 (fun v w1 hq => ?_) rfl
      obtain ⟨rfl, rfl⟩ := hq
      rw [limC_O hcl]
      refine g_ri ?_
      refine g_if_eq K (tgt := 198) d_M_word_191 (by decide) (fun c191 => ?_) (fun c191 => ?_)
      · have hY : (x.bind (stl P n (limC (F 2 (ll - 2))))) = some b := (hE2.resolve_left (fun h => by rw [bZ_f c191] at h; exact absurd h.1 (by decide))).2
        refine g_iconst K (v := 0) d_M_word_198 (by decide) ?_
        refine g_top K (show (0 : Int32) = bZ (x.bind (stl P n (limC (F 2 (ll - 2))))).isNone by rw [hY]; rfl) ?_
        refine g_lv K [0, 1] rfl (J199 I1 hlt (fun b2 e => by rw [hY] at e; cases e; exact ⟨hb1, hb2⟩) hIr)
      · have hY : (x.bind (stl P n (limC (F 2 (ll - 2))))) = none := (hE2.resolve_right (fun h => by rw [bZ_t c191] at h; exact absurd h.1 (by decide))).2
        refine g_lv K [0, 1] rfl (J194 I1 hlt hY hIr)
  have J109 : ∀ (N : Nat) (xa : ND) (I1 : Nat → Int32), msN xa < N → (at' + 2 < ll) → (xa.bind (stl P n (limC (F 2 (ll - 2)))) = (x.bind (stl P n (limC (F 2 (ll - 2)))))) → (∀ b, xa = some b → MB2 (I1 11) (I1 12) b ∧ VI b) → (FrI [11, 12] (upd (upd (upd (upd I 25 (nI (at' + 1))) 26 (nI r.length)) 11 (F 3 r.length)) 12 (F 4 r.length)) I1) → G 109 [(0, .ref (a 0)), (1, .int (F 2 at')), (2, .int (bZ xa.isNone)), (3, .int (F 2 (ll - 2))), (4, .int (bZ (decide (¬ F 2 (ll - 2) = -1))))] [] (MW a g P I1 F) := by
    intro N
    induction N with
    | zero => intro xa I1 hm; exact absurd hm (Nat.not_lt_zero _)
    | succ N ih109 =>
      intro xa I1 hm109 hlt hx hR hIr
      have hn1 : I1 6 = nI n := (hIr 6 (by decide)).trans h6
      have J113 : ∀ (b : Nat → Int32), (xa = some b) → G 113 [(0, .ref (a 0)), (1, .int (F 2 at')), (2, .int (bZ xa.isNone)), (3, .int (F 2 (ll - 2))), (4, .int (bZ (decide (¬ F 2 (ll - 2) = -1))))] [] (MW a g P I1 F) := by
        intro b hxb
        subst hxb
        obtain ⟨hb1, hb2⟩ := hR b rfl
        have J172 : (brk P n (limC (F 2 (ll - 2))) b = false) → (¬ (frc P n (limC (F 2 (ll - 2))) b) = 0) → G 172 [(0, .ref (a 0)), (1, .int (F 2 at')), (2, .int (bZ (some b).isNone)), (3, .int (F 2 (ll - 2))), (4, .int (bZ (decide (¬ F 2 (ll - 2) = -1)))), (5, .int (frc P n (limC (F 2 (ll - 2))) b))] [.int (bZ (decide (0 < (frc P n (limC (F 2 (ll - 2))) b).toInt))), .int (nI (vx (frc P n (limC (F 2 (ll - 2))) b))), .ref (a 0)] (MW a g P I1 F) := by
          intro  e1 c134
          obtain ⟨q1, q2, q3⟩ := frc_open hp c134
          refine g_callW (q0 := 0) K (c_M_put l D g a P I1 F hb1 q1 q2 (decide (0 < (frc P n (limC (F 2 (ll - 2))) b).toInt))) mf_M_put im_M_put se_M_put ml_M_99 (by decide) rfl rfl (Nat.le_of_ble_eq_true rfl) d_M_word_172 (fun v w1 hq => ?_) rfl
          obtain ⟨rfl, s3, o3, rfl, hb3⟩ := hq
          have hx9 : bZ (decide (0 < (frc P n (limC (F 2 (ll - 2))) b).toInt)) = if 0 < (frc P n (limC (F 2 (ll - 2))) b).toInt then 1 else 0 := by by_cases z : 0 < (frc P n (limC (F 2 (ll - 2))) b).toInt; rw [decide_eq_true z, if_pos z]; rfl; rw [decide_eq_false z, if_neg z]; rfl
          rw [hx9] at hb3
          refine g_rv ?_
          refine g_goto K (tgt := 109) d_M_word_175 (by decide) ?_
          refine g_lv K [0, 1, 2, 3, 4] rfl (ih109 (some (sv b (frc P n (limC (F 2 (ll - 2))) b))) _ ?_ hlt (by rw [← hx]; exact (stl_f hp e1 c134).symm) (fun b2 e => by cases e; exact ⟨hb3, hb2.sv q1 q2⟩) ((hIr.u (by decide)).u (by decide)))
          have z1 := cn_sv q1 q2 q3
          have z2 := cn_bd (sv b (frc P n (limC (F 2 (ll - 2))) b))
          show (17 - cn (sv b (frc P n (limC (F 2 (ll - 2))) b))).toNat < N
          have hm : (17 - cn b).toNat < N + 1 := hm109
          omega
        have J162 : (brk P n (limC (F 2 (ll - 2))) b = false) → (¬ (frc P n (limC (F 2 (ll - 2))) b) = 0) → G 162 [(0, .ref (a 0)), (1, .int (F 2 at')), (2, .int (bZ (some b).isNone)), (3, .int (F 2 (ll - 2))), (4, .int (bZ (decide (¬ F 2 (ll - 2) = -1)))), (5, .int (frc P n (limC (F 2 (ll - 2))) b))] [.int (nI (vx (frc P n (limC (F 2 (ll - 2))) b))), .ref (a 0)] (MW a g P I1 F) := by
          intro  e1 c134
          refine g_iload K 5 d_M_word_162 rfl ?_
          refine g_if_le K (tgt := 171) d_M_word_164 (by decide) (fun c164 => ?_) (fun c164 => ?_)
          · refine g_iconst K (v := 0) d_M_word_171 (by decide) ?_
            refine g_top K (show (0 : Int32) = bZ (decide (0 < (frc P n (limC (F 2 (ll - 2))) b).toInt)) from ?_) ?_
            · rw [decide_eq_false (by rw [i_le, i_0] at c164; omega)]; rfl
            refine g_lv K [0, 1, 2, 3, 4, 5] rfl (J172 e1 c134)
          · refine g_iconst K (v := 1) d_M_word_167 (by decide) ?_
            refine g_goto K (tgt := 172) d_M_word_168 (by decide) ?_
            refine g_top K (show (1 : Int32) = bZ (decide (0 < (frc P n (limC (F 2 (ll - 2))) b).toInt)) from ?_) ?_
            · rw [decide_eq_true (by rw [i_le, i_0] at c164; omega)]; rfl
            refine g_lv K [0, 1, 2, 3, 4, 5] rfl (J172 e1 c134)
        refine g_aload_n K 0 d_M_word_113 rfl ?_
        refine g_iload K 4 d_M_word_114 rfl ?_
        refine g_iload_n K 3 d_M_word_116 rfl ?_
        refine g_iconst K (v := 1) d_M_word_117 (by decide) ?_
        refine g_isub K d_M_word_118 ?_
        refine g_callW (q0 := 0) K (c_M_isBroken l D g a P I1 F hp hb2 hb1 (lb := decide (¬ F 2 (ll - 2) = -1)) (L := F 2 (ll - 2) - 1) hL hn1) mf_M_isBroken im_M_isBroken se_M_isBroken ml_M_122 (by decide) rfl rfl (Nat.le_of_ble_eq_true rfl) d_M_word_119 (fun v w1 hq => ?_) rfl
        obtain ⟨rfl, rfl⟩ := hq
        rw [limC_O hcl]
        refine g_ri ?_
        refine g_if_ne K (tgt := 178) d_M_word_122 (by decide) (fun c122 => ?_) (fun c122 => ?_)
        · have e1 := bZ_t c122
          refine g_lv K [0, 1, 2, 3, 4] rfl (J178 (some b) I1 hlt (Or.inr ⟨b, rfl, Or.inl ⟨e1, by rw [← hx]; exact stl_b e1⟩⟩) hR hIr)
        · have e1 := bZ_f c122
          refine g_aload_n K 0 d_M_word_125 rfl ?_
          refine g_iload K 4 d_M_word_126 rfl ?_
          refine g_iload_n K 3 d_M_word_128 rfl ?_
          refine g_iconst K (v := 1) d_M_word_129 (by decide) ?_
          refine g_isub K d_M_word_130 ?_
          refine g_callW (q0 := 0) K (c_M_forced l D g a P I1 F hp hb2 hb1 (lb := decide (¬ F 2 (ll - 2) = -1)) (L := F 2 (ll - 2) - 1) hL hn1) mf_M_forced im_M_forced se_M_forced ml_M_129 (by decide) rfl rfl (Nat.le_of_ble_eq_true rfl) d_M_word_131 (fun v w1 hq => ?_) rfl
          obtain ⟨rfl, rfl⟩ := hq
          rw [limC_O hcl]
          refine g_ri ?_
          refine g_if_eq K (tgt := 178) d_M_word_134 (by decide) (fun c134 => ?_) (fun c134 => ?_)
          · refine g_lv K [0, 1, 2, 3, 4] rfl (J178 (some b) I1 hlt (Or.inr ⟨b, rfl, Or.inr ⟨e1, by rw [← hx]; exact stl_s e1 c134⟩⟩) hR hIr)
          · refine g_aload_n K 0 d_M_word_137 rfl ?_
            refine g_iload K 4 d_M_word_138 rfl ?_
            refine g_iload_n K 3 d_M_word_140 rfl ?_
            refine g_iconst K (v := 1) d_M_word_141 (by decide) ?_
            refine g_isub K d_M_word_142 ?_
            refine g_callW (q0 := 0) K (c_M_forced l D g a P I1 F hp hb2 hb1 (lb := decide (¬ F 2 (ll - 2) = -1)) (L := F 2 (ll - 2) - 1) hL hn1) mf_M_forced im_M_forced se_M_forced ml_M_129 (by decide) rfl rfl (Nat.le_of_ble_eq_true rfl) d_M_word_143 (fun v w1 hq => ?_) rfl
            obtain ⟨rfl, rfl⟩ := hq
            rw [limC_O hcl]
            refine g_ri ?_
            refine g_istore (lv' := [(5, _), (0, _), (1, _), (2, _), (3, _), (4, _)]) K d_M_word_146 (by decide) rfl ?_
            refine g_aload_n K 1 d_M_word_148 rfl ?_
            refine g_iload K 0 d_M_word_149 rfl ?_
            refine g_if_ge K (tgt := 160) d_M_word_151 (by decide) (fun c151 => ?_) (fun c151 => ?_)
            · refine g_iload K 0 d_M_word_160 rfl ?_
              refine g_top K (lit_pos' (frc_open hp c134).2.1 c151) ?_
              refine g_lv K [1, 2, 3, 4, 5, 0] rfl (J162 e1 c134)
            · refine g_iload K 0 d_M_word_154 rfl ?_
              refine g_ineg K d_M_word_156 ?_
              refine g_goto K (tgt := 162) d_M_word_157 (by decide) ?_
              refine g_top K (lit_neg' (frc_open hp c134).2.1 c151) ?_
              refine g_lv K [1, 2, 3, 4, 5, 0] rfl (J162 e1 c134)
      refine g_iload_n K 2 d_M_word_109 rfl ?_
      refine g_if_ne K (tgt := 178) d_M_word_110 (by decide) (fun c110 => ?_) (fun c110 => ?_)
      · have ex := isN_t c110
        refine g_lv K [0, 1, 2, 3, 4] rfl (J178 xa I1 hlt (Or.inl ⟨ex, by rw [← hx, ex]; rfl⟩) hR hIr)
      · obtain ⟨b, hxb⟩ := isN_f c110
        refine g_lv K [0, 1, 2, 3, 4] rfl (J113 b hxb)
  have J107 : (at' + 2 < ll) → G 107 [(0, .ref (a 0)), (1, .int (F 2 at')), (2, .int (bZ x.isNone)), (3, .int (F 2 (ll - 2)))] [.int (bZ (decide (¬ F 2 (ll - 2) = -1)))] (MW a g P (upd (upd (upd (upd I 25 (nI (at' + 1))) 26 (nI r.length)) 11 (F 3 r.length)) 12 (F 4 r.length)) F) := by
    intro  hlt
    refine g_istore (lv' := [(4, _), (0, _), (1, _), (2, _), (3, _)]) K d_M_word_107 (by decide) rfl ?_
    refine g_lv K [1, 2, 3, 4, 0] rfl (J109 _ x _ (Nat.lt_succ_self _) hlt rfl hK.2.2.1.2.1 FrI.rf)
  refine g_aload_n K 0 d_M_word_0 rfl ?_
  refine gM_get K 25 fl_M_148 (by decide) rfl d_M_word_1 ?_
  refine g_aload_n K 0 d_M_word_4 rfl ?_
  refine gM_get K 22 fl_M_93 (by decide) rfl d_M_word_5 ?_
  refine g_iconst K (v := 2) d_M_word_8 (by decide) ?_
  refine g_isub K d_M_word_9 ?_
  refine g_top K (show _ = nI (ll - 2) from (congrArg (· - 2) h22).trans (pk_sub (b := 2) hl2)) ?_
  refine g_icmp_lt K (tgt := 19) d_M_word_10 (by decide) (fun c10 => ?_) (fun c10 => ?_)
  · have hlt : at' + 2 < ll := by have c : nI at' < nI (ll - 2) := hK.1 ▸ c10; have := (nI_ltI (by omega) (by omega)).mp c; omega
    refine g_aload_n K 0 d_M_word_19 rfl ?_
    refine gM_get K 21 fl_M_36 (by decide) rfl d_M_word_20 ?_
    refine g_aload_n K 0 d_M_word_23 rfl ?_
    refine gM_get K 25 fl_M_148 (by decide) rfl d_M_word_24 ?_
    refine g_iald K 8 (at') rfl hK.1 (by omega) d_M_word_27 ?_
    refine g_istore_n (lv' := [(1, _), (0, _)]) K d_M_word_28 (by decide) rfl ?_
    refine g_aload_n K 1 d_M_word_29 rfl ?_
    refine g_dup K d_M_word_30 rfl ?_
    refine gM_get K 25 fl_M_148 (by decide) rfl d_M_word_31 ?_
    refine g_iconst K (v := 1) d_M_word_34 (by decide) ?_
    refine g_iadd K d_M_word_35 ?_
    refine g_top K (show _ = nI (at' + 1) from (congrArg (· + 1) hK.1).trans (nI_1 at')) ?_
    refine gM_put_place K fl_M_148 d_M_word_36 ?_
    refine g_aload_n K 1 d_M_word_39 rfl ?_
    refine g_dup K d_M_word_40 rfl ?_
    refine gM_get K 26 fl_M_151 (by decide) rfl d_M_word_41 ?_
    refine g_iconst K (v := 1) d_M_word_44 (by decide) ?_
    refine g_isub K d_M_word_45 ?_
    refine g_top K (show _ = nI r.length from (congrArg (· - 1) hK.2.1).trans (nI_pred r.length)) ?_
    refine gM_put_waiting K fl_M_151 d_M_word_46 ?_
    refine g_aload_n K 1 d_M_word_49 rfl ?_
    refine g_aload_n K 1 d_M_word_50 rfl ?_
    refine gM_get K 27 fl_M_42 (by decide) rfl d_M_word_51 ?_
    refine g_aload_n K 1 d_M_word_54 rfl ?_
    refine gM_get K 26 fl_M_151 (by decide) rfl d_M_word_55 ?_
    refine g_iald K 9 (r.length) rfl rfl (by omega) d_M_word_58 ?_
    refine gM_put_set K fl_M_69 d_M_word_59 ?_
    refine g_aload_n K 1 d_M_word_62 rfl ?_
    refine g_aload_n K 1 d_M_word_63 rfl ?_
    refine gM_get K 28 fl_M_45 (by decide) rfl d_M_word_64 ?_
    refine g_aload_n K 1 d_M_word_67 rfl ?_
    refine gM_get K 26 fl_M_151 (by decide) rfl d_M_word_68 ?_
    refine g_iald K 10 (r.length) rfl rfl (by omega) d_M_word_71 ?_
    refine gM_put_ones K fl_M_72 d_M_word_72 ?_
    refine g_aload_n K 1 d_M_word_75 rfl ?_
    refine gM_get K 29 fl_M_48 (by decide) rfl d_M_word_76 ?_
    refine g_aload_n K 1 d_M_word_79 rfl ?_
    refine gM_get K 26 fl_M_151 (by decide) rfl d_M_word_80 ?_
    refine g_zald K 11 (r.length) rfl rfl (by omega) d_M_word_83 ?_
    refine g_top K hK.2.2.1.1 ?_
    refine g_istore_n (lv' := [(2, _), (1, _), (0, _)]) K d_M_word_84 (by decide) rfl ?_
    refine g_aload_n K 2 d_M_word_85 rfl ?_
    refine gM_get K 21 fl_M_36 (by decide) rfl d_M_word_86 ?_
    refine g_aload_n K 2 d_M_word_89 rfl ?_
    refine gM_get K 22 fl_M_93 (by decide) rfl d_M_word_90 ?_
    refine g_iconst K (v := 2) d_M_word_93 (by decide) ?_
    refine g_isub K d_M_word_94 ?_
    refine g_iald K 8 (ll - 2) rfl (show _ = nI (ll - 2) from (congrArg (· - 2) h22).trans (pk_sub (b := 2) hl2)) (by omega) d_M_word_95 ?_
    refine g_istore_n (lv' := [(3, _), (2, _), (1, _), (0, _)]) K d_M_word_96 (by decide) rfl ?_
    refine g_iload_n K 0 d_M_word_97 rfl ?_
    refine g_iconst K (v := -1) d_M_word_98 (by decide) ?_
    refine g_icmp_eq K (tgt := 106) d_M_word_99 (by decide) (fun c99 => ?_) (fun c99 => ?_)
    · refine g_iconst K (v := 0) d_M_word_106 (by decide) ?_
      refine g_top K (show (0 : Int32) = bZ (decide (¬ F 2 (ll - 2) = -1)) from ?_) ?_
      · rw [decide_eq_false (fun z => z c99)]; rfl
      refine g_lv K [3, 2, 1, 0] rfl (J107 hlt)
    · refine g_iconst K (v := 1) d_M_word_102 (by decide) ?_
      refine g_goto K (tgt := 107) d_M_word_103 (by decide) ?_
      refine g_top K (show (1 : Int32) = bZ (decide (¬ F 2 (ll - 2) = -1)) from ?_) ?_
      · rw [decide_eq_true c99]; rfl
      refine g_lv K [3, 2, 1, 0] rfl (J107 hlt)
  · have hge : ll ≤ at' + 2 := by rcases Nat.lt_or_ge (at' + 2) ll with z | z; exact absurd (by rw [hK.1]; exact nI_lt (by omega) (by omega)) c10; exact z
    refine g_aload_n K 0 d_M_word_13 rfl ?_
    refine g_iconst K (v := 0) d_M_word_14 (by decide) ?_
    refine gM_put_answer K fl_M_39 d_M_word_15 ?_
    refine g_vret K d_M_word_18 (⟨rfl, _, _, rfl, by rw [wordA_0 hge]; rfl, fun e => by rw [wordA_0 hge] at e; exact absurd e (show ¬ (0 : Int32) = 2 by decide), FrI.rf.u (by decide), FrF.rf⟩)
theorem d_M_check_0 : decode b_M_check 0 = .ok (.aload_n 0, 1) := by decide +kernel
theorem d_M_check_1 : decode b_M_check 1 = .ok (.getfield 116, 3) := by decide +kernel
theorem d_M_check_4 : decode b_M_check 4 = .ok (.ifCond .ne 6, 3) := by decide +kernel
theorem d_M_check_7 : decode b_M_check 7 = .ok (.bipush (-3), 2) := by decide +kernel
theorem d_M_check_9 : decode b_M_check 9 = .ok (.ireturn, 1) := by decide +kernel
theorem d_M_check_10 : decode b_M_check 10 = .ok (.iload_n 1, 1) := by decide +kernel
theorem d_M_check_11 : decode b_M_check 11 = .ok (.iconst 1, 1) := by decide +kernel
theorem d_M_check_12 : decode b_M_check 12 = .ok (.sipush 2000, 3) := by decide +kernel
theorem d_M_check_15 : decode b_M_check 15 = .ok (.invokestatic 58, 3) := by decide +kernel
theorem d_M_check_18 : decode b_M_check 18 = .ok (.ifCond .ne 5, 3) := by decide +kernel
theorem d_M_check_21 : decode b_M_check 21 = .ok (.iconst (-1), 1) := by decide +kernel
theorem d_M_check_22 : decode b_M_check 22 = .ok (.ireturn, 1) := by decide +kernel
theorem d_M_check_23 : decode b_M_check 23 = .ok (.aload_n 0, 1) := by decide +kernel
theorem d_M_check_24 : decode b_M_check 24 = .ok (.getfield 145, 3) := by decide +kernel
theorem d_M_check_27 : decode b_M_check 27 = .ok (.ifCond .ne 7, 3) := by decide +kernel
theorem d_M_check_30 : decode b_M_check 30 = .ok (.aload_n 0, 1) := by decide +kernel
theorem d_M_check_31 : decode b_M_check 31 = .ok (.invokevirtual 159, 3) := by decide +kernel
theorem d_M_check_34 : decode b_M_check 34 = .ok (.iconst 0, 1) := by decide +kernel
theorem d_M_check_35 : decode b_M_check 35 = .ok (.istore_n 2, 1) := by decide +kernel
theorem d_M_check_36 : decode b_M_check 36 = .ok (.iload_n 2, 1) := by decide +kernel
theorem d_M_check_37 : decode b_M_check 37 = .ok (.iload_n 1, 1) := by decide +kernel
theorem d_M_check_38 : decode b_M_check 38 = .ok (.if_icmp .ge 21, 3) := by decide +kernel
theorem d_M_check_41 : decode b_M_check 41 = .ok (.aload_n 0, 1) := by decide +kernel
theorem d_M_check_42 : decode b_M_check 42 = .ok (.getfield 39, 3) := by decide +kernel
theorem d_M_check_45 : decode b_M_check 45 = .ok (.iconst 2, 1) := by decide +kernel
theorem d_M_check_46 : decode b_M_check 46 = .ok (.if_icmp .ne 13, 3) := by decide +kernel
theorem d_M_check_49 : decode b_M_check 49 = .ok (.aload_n 0, 1) := by decide +kernel
theorem d_M_check_50 : decode b_M_check 50 = .ok (.invokevirtual 162, 3) := by decide +kernel
theorem d_M_check_53 : decode b_M_check 53 = .ok (.iinc 2 1, 3) := by decide +kernel
theorem d_M_check_56 : decode b_M_check 56 = .ok (.goto (-20), 3) := by decide +kernel
theorem d_M_check_59 : decode b_M_check 59 = .ok (.aload_n 0, 1) := by decide +kernel
theorem d_M_check_60 : decode b_M_check 60 = .ok (.getfield 39, 3) := by decide +kernel
theorem d_M_check_63 : decode b_M_check 63 = .ok (.ireturn, 1) := by decide +kernel
set_option maxHeartbeats 4000000 in
set_option maxRecDepth 100000 in
theorem c_M_check (l : Launch) (D : va_G) (g : Nat → ClassId) (a : Nat → Nat) (P : Nat → Nat → Int32) (I : Nat → Int32) (F : Nat → Nat → Int32) {n k : Nat} (hp : PWF P n k) (h6 : I 6 = nI n) {ll : Nat} (h22 : I 22 = nI ll) (hl4 : ll ≤ 400) {dn : Bool} (h9 : I 9 = bZ dn) {lk : Bool} (h24 : I 24 = bZ lk) {q0 : Int32 × Nat × List ND} (hv : lk = false → I 23 = 2) (hq0 : lk = true → I 23 = q0.1 ∧ (q0.1 = 2 → RM3 q0.2.1 q0.2.2 I F ∧ 2 ≤ ll ∧ hld P n (F 2 (ll - 2)) (F 2 (ll - 1)) = true)) (f : Int32) : Ct l D g y_M_check b_M_check 3 (some .int) 5 [.ref (a 0), .int f] (MW a g P I F) (fun r w => (dn = false ∧ r = some (.int (-3)) ∧ w = MW a g P I F) ∨ (dn = true ∧ ¬ okF f ∧ r = some (.int (-1)) ∧ w = MW a g P I F) ∨ (dn = true ∧ okF f ∧ ∃ I2 F2, r = some (.int (chkA P n (F 2) ll f.toNatClampNeg (cond lk q0 (lookA P n (F 2) ll))).1) ∧ w = MW a g P I2 F2 ∧ I2 24 = bZ true ∧ I2 23 = (chkA P n (F 2) ll f.toNatClampNeg (cond lk q0 (lookA P n (F 2) ll))).1 ∧ ((chkA P n (F 2) ll f.toNatClampNeg (cond lk q0 (lookA P n (F 2) ll))).1 = 2 → RM3 (chkA P n (F 2) ll f.toNatClampNeg (cond lk q0 (lookA P n (F 2) ll))).2.1 (chkA P n (F 2) ll f.toNatClampNeg (cond lk q0 (lookA P n (F 2) ll))).2.2 I2 F2 ∧ 2 ≤ ll ∧ hld P n (F 2 (ll - 2)) (F 2 (ll - 1)) = true) ∧ FrI [11, 12, 23, 24, 25, 26] I I2 ∧ FrF [3, 4, 5] F F2)) := by
  refine Ct.of (lv := [(0, _), (1, _)]) (by decide) rfl (Nat.le_of_ble_eq_true rfl) rfl ?_
  intro G K
  have J59 : ∀ (q : Int32 × Nat × List ND) (I2 : Nat → Int32) (F2 : Nat → Nat → Int32), (okF f) → (dn = true) → (q = (chkA P n (F 2) ll f.toNatClampNeg (cond lk q0 (lookA P n (F 2) ll)))) → (I2 24 = bZ true) → (I2 23 = q.1) → ((q.1 = 2 → RM3 q.2.1 q.2.2 I2 F2 ∧ 2 ≤ ll ∧ hld P n (F 2 (ll - 2)) (F 2 (ll - 1)) = true)) → (FrI [11, 12, 23, 24, 25, 26] I I2) → (FrF [3, 4, 5] F F2) → G 59 [(0, .ref (a 0))] [] (MW a g P I2 F2) := by
    intro q I2 F2 hok hdn hr h242 h232 hR2 hIr hFr
    refine g_aload_n K 0 d_M_check_59 rfl ?_
    refine gM_get K 23 fl_M_39 (by decide) rfl d_M_check_60 ?_
    refine g_iret K d_M_check_63 (Or.inr (Or.inr ⟨hdn, hok, I2, F2, ?_, rfl, h242, ?_, ?_, hIr, hFr⟩))
    · rw [← hr, h232]
    · rw [← hr]; exact h232
    · rw [← hr]; exact hR2
  have J36 : ∀ (N : Nat) (j : Nat) (q : Int32 × Nat × List ND) (I2 : Nat → Int32) (F2 : Nat → Nat → Int32), f.toNatClampNeg - j < N → (okF f) → (dn = true) → (f = nI f.toNatClampNeg) → (j ≤ 2000) → (chkA P n (F 2) ll (f.toNatClampNeg - j) q = (chkA P n (F 2) ll f.toNatClampNeg (cond lk q0 (lookA P n (F 2) ll)))) → (I2 24 = bZ true) → (I2 23 = q.1) → ((q.1 = 2 → RM3 q.2.1 q.2.2 I2 F2 ∧ 2 ≤ ll ∧ hld P n (F 2 (ll - 2)) (F 2 (ll - 1)) = true)) → (FrI [11, 12, 23, 24, 25, 26] I I2) → (FrF [3, 4, 5] F F2) → G 36 [(0, .ref (a 0)), (1, .int f), (2, .int (nI j))] [] (MW a g P I2 F2) := by
    intro N
    induction N with
    | zero => intro j q I2 F2 hm; exact absurd hm (Nat.not_lt_zero _)
    | succ N ih36 =>
      intro j q I2 F2 hm36 hok hdn hf2 hj hr h242 h232 hR2 hIr hFr
      have hf1 := nat_i (i := f) (by have := hok.1; omega)
      have hf3 : f.toNatClampNeg ≤ 2000 := by have := hok.2; omega
      refine g_iload_n K 2 d_M_check_36 rfl ?_
      refine g_iload_n K 1 d_M_check_37 rfl ?_
      refine g_top K hf2 ?_
      refine g_icmp_ge K (tgt := 59) d_M_check_38 (by decide) (fun c38 => ?_) (fun c38 => ?_)
      · have h38 := (nI_leI (by omega) (by omega)).mp c38
        refine g_lv K [0] rfl (J59 q I2 F2 hok hdn (by rw [← hr, Nat.sub_eq_zero_of_le h38]; rfl) h242 h232 hR2 hIr hFr)
      · have h38 : j < f.toNatClampNeg := Nat.lt_of_not_le (fun h => c38 ((nI_leI (by omega) (by omega)).mpr h))
        refine g_aload_n K 0 d_M_check_41 rfl ?_
        refine gM_get K 23 fl_M_39 (by decide) rfl d_M_check_42 ?_
        refine g_iconst K (v := 2) d_M_check_45 (by decide) ?_
        refine g_icmp_ne K (tgt := 59) d_M_check_46 (by decide) (fun c46 => ?_) (fun c46 => ?_)
        · have z0 : ¬ q.1 = 2 := fun h => c46 (h232.trans h)
          refine g_lv K [0] rfl (J59 q I2 F2 hok hdn (by rw [← hr, sub_s h38]; exact (if_neg z0).symm) h242 h232 hR2 hIr hFr)
        · have z0 : q.1 = 2 := h232.symm.trans c46
          obtain ⟨z1, z2, z3⟩ := hR2 z0
          have hF22 : F2 2 = F 2 := hFr 2 (by decide)
          refine g_aload_n K 0 d_M_check_49 rfl ?_
          refine g_callW (q0 := 0) K (c_M_word l D g a P I2 F2 hp ((hIr 6 (by decide)).trans h6) ((hIr 22 (by decide)).trans h22) hl4 z2 z1 (h232.trans z0) (hF22 ▸ hld_c hp z3)) mf_M_word im_M_word se_M_word ml_M_162 (by decide) rfl rfl (Nat.le_of_ble_eq_true rfl) d_M_check_50 (fun v w1 hq => ?_) rfl
          obtain ⟨rfl, I3, F3, rfl, w1, w2, w3, w4⟩ := hq
          rw [hF22] at w1 w2
          refine g_rv ?_
          refine g_iinc (v := nI (j + 1)) (lv' := [(2, _), (0, _), (1, _)]) K 2 d_M_check_53 rfl (nI_1 j) (by decide) rfl ?_
          refine g_goto K (tgt := 36) d_M_check_56 (by decide) ?_
          refine g_lv K [1, 2, 0] rfl (ih36 (j + 1) (wordA P n (F 2) ll q.2.1 q.2.2) I3 F3 (by omega) hok hdn hf2 (by omega) (by rw [← hr, sub_s h38]; exact (if_pos z0).symm) ((w3 24 (by decide)).trans h242) w1 (fun e => ⟨w2 e, z2, z3⟩) (hIr.t (w3.m (by decide))) (hFr.t w4))
  have J34 : ∀ (I2 : Nat → Int32) (F2 : Nat → Nat → Int32), (okF f) → (dn = true) → (I2 24 = bZ true) → (I2 23 = (cond lk q0 (lookA P n (F 2) ll)).1) → (((cond lk q0 (lookA P n (F 2) ll)).1 = 2 → RM3 (cond lk q0 (lookA P n (F 2) ll)).2.1 (cond lk q0 (lookA P n (F 2) ll)).2.2 I2 F2 ∧ 2 ≤ ll ∧ hld P n (F 2 (ll - 2)) (F 2 (ll - 1)) = true)) → (FrI [11, 12, 23, 24, 25, 26] I I2) → (FrF [3, 4, 5] F F2) → G 34 [(0, .ref (a 0)), (1, .int f)] [] (MW a g P I2 F2) := by
    intro I2 F2 hok hdn h242 h232 hR2 hIr hFr
    have hf1 := nat_i (i := f) (by have := hok.1; omega)
    have hf2 : f = nI f.toNatClampNeg := nI_nat (by have := hok.1; omega)
    refine g_iconst K (v := 0) d_M_check_34 (by decide) ?_
    refine g_top K nI_0' ?_
    refine g_istore_n (lv' := [(2, _), (0, _), (1, _)]) K d_M_check_35 (by decide) rfl ?_
    refine g_lv K [1, 2, 0] rfl (J36 _ 0 _ I2 F2 (Nat.lt_succ_self _) hok hdn hf2 (Nat.zero_le _) rfl h242 h232 hR2 hIr hFr)
  refine g_aload_n K 0 d_M_check_0 rfl ?_
  refine gM_get K 9 fl_M_116 (by decide) rfl d_M_check_1 ?_
  refine g_if_ne K (tgt := 10) d_M_check_4 (by decide) (fun c4 => ?_) (fun c4 => ?_)
  · have hdn : dn = true := bZ_t (fun h => c4 (h9.trans h))
    refine g_iload_n K 1 d_M_check_10 rfl ?_
    refine g_iconst K (v := 1) d_M_check_11 (by decide) ?_
    refine g_sipush K (v := 2000) d_M_check_12 (by decide) ?_
    refine g_callS K (c_M_isIn l D g f 1 2000) mf_M_isIn is_M_isIn ml_M_58 (by decide) (Nat.le_of_ble_eq_true rfl) d_M_check_15 (fun v hq => ?_) rfl
    obtain ⟨rfl, -⟩ := hq
    refine g_ri ?_
    refine g_if_ne K (tgt := 23) d_M_check_18 (by decide) (fun c18 => ?_) (fun c18 => ?_)
    · have hok : okF f := of_decide_eq_true ((in_i 1 2000 i_1 k_2000 f).symm.trans (bZ_t c18))
      refine g_aload_n K 0 d_M_check_23 rfl ?_
      refine gM_get K 24 fl_M_145 (by decide) rfl d_M_check_24 ?_
      refine g_if_ne K (tgt := 34) d_M_check_27 (by decide) (fun c27 => ?_) (fun c27 => ?_)
      · have elk : lk = true := bZ_t (fun h => c27 (h24.trans h))
        refine g_lv K [0, 1] rfl (J34 I F hok hdn (by rw [h24, elk]) (by rw [elk]; exact (hq0 elk).1) (by rw [elk]; exact (hq0 elk).2) FrI.rf FrF.rf)
      · have elk : lk = false := bZ_f (h24.symm.trans c27)
        refine g_aload_n K 0 d_M_check_30 rfl ?_
        refine g_callW (q0 := 0) K (c_M_look l D g a P I F hp h6 h22 hl4 (hv (bZ_f (h24.symm.trans c27)))) mf_M_look im_M_look se_M_look ml_M_159 (by decide) rfl rfl (Nat.le_of_ble_eq_true rfl) d_M_check_31 (fun v w1 hq => ?_) rfl
        obtain ⟨rfl, I2, F2, rfl, w1, w2, w3, w4, w5⟩ := hq
        refine g_rv ?_
        refine g_lv K [0, 1] rfl (J34 I2 F2 hok hdn w1 (by rw [elk]; exact w2) (by rw [elk]; exact fun e => ⟨w3 e, lookA_2 e⟩) w4 w5)
    · have hok : ¬ okF f := of_decide_eq_false ((in_i 1 2000 i_1 k_2000 f).symm.trans (bZ_f c18))
      refine g_iconst K (v := -1) d_M_check_21 (by decide) ?_
      refine g_iret K d_M_check_22 (Or.inr (Or.inl ⟨hdn, hok, rfl, rfl⟩))
  · have hdn : dn = false := bZ_f (h9.symm.trans c4)
    refine g_bipush K (v := -3) d_M_check_7 (by decide) ?_
    refine g_iret K d_M_check_9 (Or.inl ⟨hdn, rfl, rfl⟩)
end
section
theorem bzmul {b : Bool} {x : Int32} : (bZ b * x).toInt64 = Int64.ofInt (cond b x.toInt 0) := by
  rw [← Int64.ofInt_int32ToInt]
  cases b
  · show Int64.ofInt (0 * x).toInt = Int64.ofInt 0
    rw [Int32.zero_mul]; rfl
  · show Int64.ofInt (1 * x).toInt = Int64.ofInt x.toInt
    rw [Int32.one_mul]
theorem ab_at {b : Int32} {v : Nat} (h1 : 1 ≤ v) (h2 : v ≤ 16) : ab b v = bZ (bt b (v - 1)) := if_pos ⟨h1, h2⟩
theorem spf_ab {P : Nat → Nat → Int32} {b : Int32} {v : Nat} (h1 : 1 ≤ v) (h2 : v ≤ 16) : spf P (ab b) v = cond (bt b (v - 1)) (P 0 v).toInt 0 := by
  unfold spf
  rw [ab_at h1 h2]
  cases bt b (v - 1)
  · exact if_neg (show ¬ (0 : Int32) = 1 by decide)
  · exact if_pos rfl
theorem fals_ab {b lit : Int32} (h1 : 1 ≤ vx lit) (h2 : vx lit ≤ 16) : fals (ab b) lit = (bt b (vx lit - 1) != decide (0 < lit.toInt)) := by
  rw [fals_c (ab_vi b), ab_at h1 h2]
  cases bt b (vx lit - 1) <;> rfl
theorem bZ_inj {a b : Bool} (h : bZ a = bZ b) : a = b := by cases a <;> cases b <;> first | rfl | exact absurd h (by decide)
def GL (B : BS) (len : Nat) : Nat → Nat → Int32 := fun L => un B.2.1 L len B.1
theorem GL_set {B B2 : BS} {len L : Nat} {lit : Int32} (h1 : 1 ≤ vx lit) (h2 : vx lit ≤ 16) (ho : B.1 (vx lit) = -1) (e1 : B2.1 = sv B.1 lit) (e2 : B2.2.1 = upd B.2.1 len (nI (vx lit))) (hL : L ≤ len) : GL B2 (len + 1) L = GL B len L := by
  unfold GL
  rw [e1, e2]
  exact un_set (by omega) ho hL
theorem d_C_holds_0 : decode b_C_holds 0 = .ok (.iload_n 1, 1) := by decide +kernel
theorem d_C_holds_1 : decode b_C_holds 1 = .ok (.iconst (-1), 1) := by decide +kernel
theorem d_C_holds_2 : decode b_C_holds 2 = .ok (.if_icmp .ne 5, 3) := by decide +kernel
theorem d_C_holds_5 : decode b_C_holds 5 = .ok (.iconst 1, 1) := by decide +kernel
theorem d_C_holds_6 : decode b_C_holds 6 = .ok (.ireturn, 1) := by decide +kernel
theorem d_C_holds_7 : decode b_C_holds 7 = .ok (.lconst 0, 1) := by decide +kernel
theorem d_C_holds_8 : decode b_C_holds 8 = .ok (.lstore_n 3, 1) := by decide +kernel
theorem d_C_holds_9 : decode b_C_holds 9 = .ok (.iconst 1, 1) := by decide +kernel
theorem d_C_holds_10 : decode b_C_holds 10 = .ok (.istore 5, 2) := by decide +kernel
theorem d_C_holds_12 : decode b_C_holds 12 = .ok (.iload 5, 2) := by decide +kernel
theorem d_C_holds_14 : decode b_C_holds 14 = .ok (.bipush 16, 2) := by decide +kernel
theorem d_C_holds_16 : decode b_C_holds 16 = .ok (.if_icmp .gt 29, 3) := by decide +kernel
theorem d_C_holds_19 : decode b_C_holds 19 = .ok (.lload_n 3, 1) := by decide +kernel
theorem d_C_holds_20 : decode b_C_holds 20 = .ok (.iload_n 2, 1) := by decide +kernel
theorem d_C_holds_21 : decode b_C_holds 21 = .ok (.iload 5, 2) := by decide +kernel
theorem d_C_holds_23 : decode b_C_holds 23 = .ok (.iconst 1, 1) := by decide +kernel
theorem d_C_holds_24 : decode b_C_holds 24 = .ok (.isub, 1) := by decide +kernel
theorem d_C_holds_25 : decode b_C_holds 25 = .ok (.ishr, 1) := by decide +kernel
theorem d_C_holds_26 : decode b_C_holds 26 = .ok (.iconst 1, 1) := by decide +kernel
theorem d_C_holds_27 : decode b_C_holds 27 = .ok (.iand, 1) := by decide +kernel
theorem d_C_holds_28 : decode b_C_holds 28 = .ok (.aload_n 0, 1) := by decide +kernel
theorem d_C_holds_29 : decode b_C_holds 29 = .ok (.getfield 9, 3) := by decide +kernel
theorem d_C_holds_32 : decode b_C_holds 32 = .ok (.iload 5, 2) := by decide +kernel
theorem d_C_holds_34 : decode b_C_holds 34 = .ok (.iaload, 1) := by decide +kernel
theorem d_C_holds_35 : decode b_C_holds 35 = .ok (.imul, 1) := by decide +kernel
theorem d_C_holds_36 : decode b_C_holds 36 = .ok (.i2l, 1) := by decide +kernel
theorem d_C_holds_37 : decode b_C_holds 37 = .ok (.ladd, 1) := by decide +kernel
theorem d_C_holds_38 : decode b_C_holds 38 = .ok (.lstore_n 3, 1) := by decide +kernel
theorem d_C_holds_39 : decode b_C_holds 39 = .ok (.iinc 5 1, 3) := by decide +kernel
theorem d_C_holds_42 : decode b_C_holds 42 = .ok (.goto (-30), 3) := by decide +kernel
theorem d_C_holds_45 : decode b_C_holds 45 = .ok (.lload_n 3, 1) := by decide +kernel
theorem d_C_holds_46 : decode b_C_holds 46 = .ok (.iload_n 1, 1) := by decide +kernel
theorem d_C_holds_47 : decode b_C_holds 47 = .ok (.i2l, 1) := by decide +kernel
theorem d_C_holds_48 : decode b_C_holds 48 = .ok (.lcmp, 1) := by decide +kernel
theorem d_C_holds_49 : decode b_C_holds 49 = .ok (.ifCond .ne 7, 3) := by decide +kernel
theorem d_C_holds_52 : decode b_C_holds 52 = .ok (.iconst 1, 1) := by decide +kernel
theorem d_C_holds_53 : decode b_C_holds 53 = .ok (.goto 4, 3) := by decide +kernel
theorem d_C_holds_56 : decode b_C_holds 56 = .ok (.iconst 0, 1) := by decide +kernel
theorem d_C_holds_57 : decode b_C_holds 57 = .ok (.istore 5, 2) := by decide +kernel
theorem d_C_holds_59 : decode b_C_holds 59 = .ok (.iconst 0, 1) := by decide +kernel
theorem d_C_holds_60 : decode b_C_holds 60 = .ok (.istore 6, 2) := by decide +kernel
theorem d_C_holds_62 : decode b_C_holds 62 = .ok (.iload 6, 2) := by decide +kernel
theorem d_C_holds_64 : decode b_C_holds 64 = .ok (.aload_n 0, 1) := by decide +kernel
theorem d_C_holds_65 : decode b_C_holds 65 = .ok (.getfield 74, 3) := by decide +kernel
theorem d_C_holds_68 : decode b_C_holds 68 = .ok (.if_icmp .ge 127, 3) := by decide +kernel
theorem d_C_holds_71 : decode b_C_holds 71 = .ok (.lconst 0, 1) := by decide +kernel
theorem d_C_holds_72 : decode b_C_holds 72 = .ok (.lstore 7, 2) := by decide +kernel
theorem d_C_holds_74 : decode b_C_holds 74 = .ok (.aload_n 0, 1) := by decide +kernel
theorem d_C_holds_75 : decode b_C_holds 75 = .ok (.getfield 13, 3) := by decide +kernel
theorem d_C_holds_78 : decode b_C_holds 78 = .ok (.iload 6, 2) := by decide +kernel
theorem d_C_holds_80 : decode b_C_holds 80 = .ok (.iaload, 1) := by decide +kernel
theorem d_C_holds_81 : decode b_C_holds 81 = .ok (.istore 9, 2) := by decide +kernel
theorem d_C_holds_83 : decode b_C_holds 83 = .ok (.iload 9, 2) := by decide +kernel
theorem d_C_holds_85 : decode b_C_holds 85 = .ok (.aload_n 0, 1) := by decide +kernel
theorem d_C_holds_86 : decode b_C_holds 86 = .ok (.getfield 13, 3) := by decide +kernel
theorem d_C_holds_89 : decode b_C_holds 89 = .ok (.iload 6, 2) := by decide +kernel
theorem d_C_holds_91 : decode b_C_holds 91 = .ok (.iconst 1, 1) := by decide +kernel
theorem d_C_holds_92 : decode b_C_holds 92 = .ok (.iadd, 1) := by decide +kernel
theorem d_C_holds_93 : decode b_C_holds 93 = .ok (.iaload, 1) := by decide +kernel
theorem d_C_holds_94 : decode b_C_holds 94 = .ok (.if_icmp .ge 69, 3) := by decide +kernel
theorem d_C_holds_97 : decode b_C_holds 97 = .ok (.iload_n 2, 1) := by decide +kernel
theorem d_C_holds_98 : decode b_C_holds 98 = .ok (.aload_n 0, 1) := by decide +kernel
theorem d_C_holds_99 : decode b_C_holds 99 = .ok (.getfield 22, 3) := by decide +kernel
theorem d_C_holds_102 : decode b_C_holds 102 = .ok (.iload 9, 2) := by decide +kernel
theorem d_C_holds_104 : decode b_C_holds 104 = .ok (.iaload, 1) := by decide +kernel
theorem d_C_holds_105 : decode b_C_holds 105 = .ok (.invokestatic 149, 3) := by decide +kernel
theorem d_C_holds_108 : decode b_C_holds 108 = .ok (.iconst 1, 1) := by decide +kernel
theorem d_C_holds_109 : decode b_C_holds 109 = .ok (.isub, 1) := by decide +kernel
theorem d_C_holds_110 : decode b_C_holds 110 = .ok (.ishr, 1) := by decide +kernel
theorem d_C_holds_111 : decode b_C_holds 111 = .ok (.iconst 1, 1) := by decide +kernel
theorem d_C_holds_112 : decode b_C_holds 112 = .ok (.iand, 1) := by decide +kernel
theorem d_C_holds_113 : decode b_C_holds 113 = .ok (.iconst 1, 1) := by decide +kernel
theorem d_C_holds_114 : decode b_C_holds 114 = .ok (.if_icmp .ne 7, 3) := by decide +kernel
theorem d_C_holds_117 : decode b_C_holds 117 = .ok (.iconst 1, 1) := by decide +kernel
theorem d_C_holds_118 : decode b_C_holds 118 = .ok (.goto 4, 3) := by decide +kernel
theorem d_C_holds_121 : decode b_C_holds 121 = .ok (.iconst 0, 1) := by decide +kernel
theorem d_C_holds_122 : decode b_C_holds 122 = .ok (.istore 10, 2) := by decide +kernel
theorem d_C_holds_124 : decode b_C_holds 124 = .ok (.iload 10, 2) := by decide +kernel
theorem d_C_holds_126 : decode b_C_holds 126 = .ok (.aload_n 0, 1) := by decide +kernel
theorem d_C_holds_127 : decode b_C_holds 127 = .ok (.getfield 22, 3) := by decide +kernel
theorem d_C_holds_130 : decode b_C_holds 130 = .ok (.iload 9, 2) := by decide +kernel
theorem d_C_holds_132 : decode b_C_holds 132 = .ok (.iaload, 1) := by decide +kernel
theorem d_C_holds_133 : decode b_C_holds 133 = .ok (.ifCond .le 7, 3) := by decide +kernel
theorem d_C_holds_136 : decode b_C_holds 136 = .ok (.iconst 1, 1) := by decide +kernel
theorem d_C_holds_137 : decode b_C_holds 137 = .ok (.goto 4, 3) := by decide +kernel
theorem d_C_holds_140 : decode b_C_holds 140 = .ok (.iconst 0, 1) := by decide +kernel
theorem d_C_holds_141 : decode b_C_holds 141 = .ok (.if_icmp .ne 16, 3) := by decide +kernel
theorem d_C_holds_144 : decode b_C_holds 144 = .ok (.lload 7, 2) := by decide +kernel
theorem d_C_holds_146 : decode b_C_holds 146 = .ok (.aload_n 0, 1) := by decide +kernel
theorem d_C_holds_147 : decode b_C_holds 147 = .ok (.getfield 19, 3) := by decide +kernel
theorem d_C_holds_150 : decode b_C_holds 150 = .ok (.iload 9, 2) := by decide +kernel
theorem d_C_holds_152 : decode b_C_holds 152 = .ok (.iaload, 1) := by decide +kernel
theorem d_C_holds_153 : decode b_C_holds 153 = .ok (.i2l, 1) := by decide +kernel
theorem d_C_holds_154 : decode b_C_holds 154 = .ok (.ladd, 1) := by decide +kernel
theorem d_C_holds_155 : decode b_C_holds 155 = .ok (.lstore 7, 2) := by decide +kernel
theorem d_C_holds_157 : decode b_C_holds 157 = .ok (.iinc 9 1, 3) := by decide +kernel
theorem d_C_holds_160 : decode b_C_holds 160 = .ok (.goto (-77), 3) := by decide +kernel
theorem d_C_holds_163 : decode b_C_holds 163 = .ok (.iload 5, 2) := by decide +kernel
theorem d_C_holds_165 : decode b_C_holds 165 = .ok (.ifCond .eq 21, 3) := by decide +kernel
theorem d_C_holds_168 : decode b_C_holds 168 = .ok (.lload 7, 2) := by decide +kernel
theorem d_C_holds_170 : decode b_C_holds 170 = .ok (.aload_n 0, 1) := by decide +kernel
theorem d_C_holds_171 : decode b_C_holds 171 = .ok (.getfield 16, 3) := by decide +kernel
theorem d_C_holds_174 : decode b_C_holds 174 = .ok (.iload 6, 2) := by decide +kernel
theorem d_C_holds_176 : decode b_C_holds 176 = .ok (.iaload, 1) := by decide +kernel
theorem d_C_holds_177 : decode b_C_holds 177 = .ok (.i2l, 1) := by decide +kernel
theorem d_C_holds_178 : decode b_C_holds 178 = .ok (.lcmp, 1) := by decide +kernel
theorem d_C_holds_179 : decode b_C_holds 179 = .ok (.ifCond .lt 7, 3) := by decide +kernel
theorem d_C_holds_182 : decode b_C_holds 182 = .ok (.iconst 1, 1) := by decide +kernel
theorem d_C_holds_183 : decode b_C_holds 183 = .ok (.goto 4, 3) := by decide +kernel
theorem d_C_holds_186 : decode b_C_holds 186 = .ok (.iconst 0, 1) := by decide +kernel
theorem d_C_holds_187 : decode b_C_holds 187 = .ok (.istore 5, 2) := by decide +kernel
theorem d_C_holds_189 : decode b_C_holds 189 = .ok (.iinc 6 1, 3) := by decide +kernel
theorem d_C_holds_192 : decode b_C_holds 192 = .ok (.goto (-130), 3) := by decide +kernel
theorem d_C_holds_195 : decode b_C_holds 195 = .ok (.iload 5, 2) := by decide +kernel
theorem d_C_holds_197 : decode b_C_holds 197 = .ok (.ireturn, 1) := by decide +kernel
set_option maxHeartbeats 4000000 in
set_option maxRecDepth 100000 in
theorem c_C_holds (l : Launch) (D : va_G) (g : Nat → ClassId) (a : Nat → Nat) (P : Nat → Nat → Int32) (I : Nat → Int32) (F : Nat → Nat → Int32) (B0 B1 : BS) {n k : Nat} (hp : PWF P n k) (h5 : I 5 = nI n) (cl bits : Int32) : Ct l D g y_C_holds b_C_holds 11 (some .boolean) 1 [.ref (a 0), .int cl, .int bits] (CW a g P I F B0 B1) (fun r w => r = some (.int (bZ (hld P n cl bits))) ∧ w = CW a g P I F B0 B1) := by
  refine Ct.of (lv := [(0, _), (1, _), (2, _)]) (by decide) rfl (Nat.le_of_ble_eq_true rfl) rfl ?_
  intro G K
  have hs := sp_bd hp (ab bits)
  have J62 : ∀ (N : Nat) (c : Nat) (b1 : Bool), n - c < N → (¬ cl = -1) → (c ≤ n) → ((b1 && !an (fun c => decide (sk P (ab bits) c < 0)) c (n - c)) = (decide (Int32.ofInt (sp P (ab bits)) = cl) && !brk P n none (ab bits))) → G 62 [(0, .ref (a 0)), (2, .int bits), (5, .int (bZ b1)), (6, .int (nI c))] [] (CW a g P I F B0 B1) := by
    intro N
    induction N with
    | zero => intro c b1 hm; exact absurd hm (Nat.not_lt_zero _)
    | succ N ih62 =>
      intro c b1 hm62 hc1 hc hB
      have J187 : ∀ (b2 : Bool), (c < n) → ((b2 && !an (fun c => decide (sk P (ab bits) c < 0)) (c + 1) (n - (c + 1))) = (decide (Int32.ofInt (sp P (ab bits)) = cl) && !brk P n none (ab bits))) → G 187 [(0, .ref (a 0)), (2, .int bits), (5, .int (bZ b1)), (6, .int (nI c))] [.int (bZ b2)] (CW a g P I F B0 B1) := by
        intro b2 h68 hB2
        refine g_istore (lv' := [(5, _), (0, _), (2, _), (6, _)]) K d_C_holds_187 (by decide) rfl ?_
        refine g_iinc (v := nI (c + 1)) (lv' := [(6, _), (5, _), (0, _), (2, _)]) K 3 d_C_holds_189 rfl (nI_1 c) (by decide) rfl ?_
        refine g_goto K (tgt := 62) d_C_holds_192 (by decide) ?_
        refine g_lv K [2, 3, 1, 0] rfl (ih62 (c + 1) b2 (by omega) hc1 (by omega) hB2)
      have J186 : (c < n) → (false = (decide (Int32.ofInt (sp P (ab bits)) = cl) && !brk P n none (ab bits))) → G 186 [(0, .ref (a 0)), (2, .int bits), (5, .int (bZ b1)), (6, .int (nI c))] [] (CW a g P I F B0 B1) := by
        intro  h68 hB2
        refine g_iconst K (v := 0) d_C_holds_186 (by decide) ?_
        refine g_lv K [0, 1, 2, 3] rfl (J187 false h68 hB2)
      have J83 : ∀ (N : Nat) (t : Nat) (z : Int), stn P (c + 1) - t < N → (c < n) → (t ≤ 120) → (z + sm (skf P (ab bits)) t (stn P (c + 1) - t) = sm (skf P (ab bits)) (stn P c) (stn P (c + 1) - stn P c)) → G 83 [(0, .ref (a 0)), (2, .int bits), (5, .int (bZ b1)), (6, .int (nI c)), (7, .long (Int64.ofInt z)), (9, .int (nI t))] [] (CW a g P I F B0 B1) := by
        intro N
        induction N with
        | zero => intro t z hm; exact absurd hm (Nat.not_lt_zero _)
        | succ N ih83 =>
          intro t z hm83 h68 ht hz
          have J157 : ∀ (z2 : Int), (t < stn P (c + 1)) → (z2 + sm (skf P (ab bits)) (t + 1) (stn P (c + 1) - (t + 1)) = sm (skf P (ab bits)) (stn P c) (stn P (c + 1) - stn P c)) → G 157 [(0, .ref (a 0)), (2, .int bits), (5, .int (bZ b1)), (6, .int (nI c)), (7, .long (Int64.ofInt z2)), (9, .int (nI t))] [] (CW a g P I F B0 B1) := by
            intro z2 h94 hz2
            refine g_iinc (v := nI (t + 1)) (lv' := [(9, _), (0, _), (2, _), (5, _), (6, _), (7, _)]) K 5 d_C_holds_157 rfl (nI_1 t) (by decide) rfl ?_
            refine g_goto K (tgt := 83) d_C_holds_160 (by decide) ?_
            refine g_lv K [1, 2, 3, 4, 5, 0] rfl (ih83 (t + 1) z2 (by omega) h68 (by have := (hp.2.2.1 (c + 1) h68).2; have := hp.2.1; omega) hz2)
          have J141 : (t < stn P (c + 1)) → G 141 [(0, .ref (a 0)), (2, .int bits), (5, .int (bZ b1)), (6, .int (nI c)), (7, .long (Int64.ofInt z)), (9, .int (nI t))] [.int (bZ (decide (0 < (P 4 t).toInt))), .int (bZ (bt bits (vx (P 4 t) - 1)))] (CW a g P I F B0 B1) := by
            intro  h94
            have hk1 := (hp.2.2.1 (c + 1) h68).2
            have hl := (hp.2.2.2.2.2 t (by omega)).2
            have hk2 := hp.2.1
            refine g_icmp_ne K (tgt := 157) d_C_holds_141 (by decide) (fun c141 => ?_) (fun c141 => ?_)
            · have h141 : skf P (ab bits) t = 0 := if_pos (by rw [fals_ab hl.1 hl.2]; cases e : bt bits (vx (P 4 t) - 1) <;> cases e2 : decide (0 < (P 4 t).toInt) <;> first | rfl | exact absurd (by rw [e, e2]) c141)
              refine g_lv K [0, 1, 2, 3, 4, 5] rfl (J157 z h94 (by rw [← hz, sm_s h94, h141]; omega))
            · have h141 : skf P (ab bits) t = (P 3 t).toInt := if_neg (by rw [fals_ab hl.1 hl.2, bZ_inj c141]; simp)
              refine g_lload K 4 d_C_holds_144 rfl ?_
              refine g_aload_n K 0 d_C_holds_146 rfl ?_
              refine gC_get K 3 fl_C_19 (by decide) rfl d_C_holds_147 ?_
              refine g_iload K 5 d_C_holds_150 rfl ?_
              refine g_iald K 4 (t) rfl rfl (by omega) d_C_holds_152 ?_
              refine g_i2l K d_C_holds_153 ?_
              refine g_ladd K d_C_holds_154 ?_
              refine g_topl K (show _ = Int64.ofInt (z + (P 3 t).toInt) by rw [Int64.ofInt_add, Int64.ofInt_int32ToInt]) ?_
              refine g_lstore (lv' := [(7, _), (0, _), (2, _), (5, _), (6, _), (9, _)]) K d_C_holds_155 (by decide) rfl ?_
              refine g_lv K [1, 2, 3, 4, 0, 5] rfl (J157 (z + (P 3 t).toInt) h94 (by rw [← hz, sm_s h94, h141]; omega))
          have J122 : (t < stn P (c + 1)) → G 122 [(0, .ref (a 0)), (2, .int bits), (5, .int (bZ b1)), (6, .int (nI c)), (7, .long (Int64.ofInt z)), (9, .int (nI t))] [.int (bZ (bt bits (vx (P 4 t) - 1)))] (CW a g P I F B0 B1) := by
            intro  h94
            have hk1 := (hp.2.2.1 (c + 1) h68).2
            have hl := (hp.2.2.2.2.2 t (by omega)).2
            have hk2 := hp.2.1
            refine g_istore (lv' := [(10, _), (0, _), (2, _), (5, _), (6, _), (7, _), (9, _)]) K d_C_holds_122 (by decide) rfl ?_
            refine g_iload K 0 d_C_holds_124 rfl ?_
            refine g_aload_n K 1 d_C_holds_126 rfl ?_
            refine gC_get K 4 fl_C_22 (by decide) rfl d_C_holds_127 ?_
            refine g_iload K 6 d_C_holds_130 rfl ?_
            refine g_iald K 5 (t) rfl rfl (by omega) d_C_holds_132 ?_
            refine g_if_le K (tgt := 140) d_C_holds_133 (by decide) (fun c133 => ?_) (fun c133 => ?_)
            · refine g_iconst K (v := 0) d_C_holds_140 (by decide) ?_
              refine g_top K (show (0 : Int32) = bZ (decide (0 < (P 4 t).toInt)) from ?_) ?_
              · rw [decide_eq_false (by rw [i_le, i_0] at c133; omega)]; rfl
              refine g_lv K [1, 2, 3, 4, 5, 6] rfl (J141 h94)
            · refine g_iconst K (v := 1) d_C_holds_136 (by decide) ?_
              refine g_goto K (tgt := 141) d_C_holds_137 (by decide) ?_
              refine g_top K (show (1 : Int32) = bZ (decide (0 < (P 4 t).toInt)) from ?_) ?_
              · rw [decide_eq_true (by rw [i_le, i_0] at c133; omega)]; rfl
              refine g_lv K [1, 2, 3, 4, 5, 6] rfl (J141 h94)
          refine g_iload K 5 d_C_holds_83 rfl ?_
          refine g_aload_n K 0 d_C_holds_85 rfl ?_
          refine gC_get K 1 fl_C_13 (by decide) rfl d_C_holds_86 ?_
          refine g_iload K 3 d_C_holds_89 rfl ?_
          refine g_iconst K (v := 1) d_C_holds_91 (by decide) ?_
          refine g_iadd K d_C_holds_92 ?_
          refine g_iald K 2 (c + 1) rfl (nI_1 c) (by have := hp.1; omega) d_C_holds_93 ?_
          have hk1 := (hp.2.2.1 (c + 1) h68).2
          have hk2 := hp.2.1
          refine g_top K (hp.2.2.1 (c + 1) h68).1 ?_
          refine g_icmp_ge K (tgt := 163) d_C_holds_94 (by decide) (fun c94 => ?_) (fun c94 => ?_)
          · have h94 := (nI_leI (by omega) (by omega)).mp c94
            refine g_iload K 2 d_C_holds_163 rfl ?_
            refine g_if_eq K (tgt := 186) d_C_holds_165 (by decide) (fun c165 => ?_) (fun c165 => ?_)
            · have e165 := bZ_f c165
              refine g_lv K [0, 1, 2, 3] rfl (J186 h68 (by rw [← hB, e165]; rfl))
            · have e165 := bZ_t c165
              have hb1 := sk_bd hp (ab bits) h68
              have hb2 := hp.2.2.2.2.1 c h68
              have hzz : z = sk P (ab bits) c + (P 2 c).toInt := by unfold sk; rw [← hz, sm_e h94]; omega
              refine g_lload K 4 d_C_holds_168 rfl ?_
              refine g_aload_n K 0 d_C_holds_170 rfl ?_
              refine gC_get K 2 fl_C_16 (by decide) rfl d_C_holds_171 ?_
              refine g_iload K 3 d_C_holds_174 rfl ?_
              refine g_iald K 3 (c) rfl rfl (by have := hp.1; omega) d_C_holds_176 ?_
              refine g_i2l K d_C_holds_177 ?_
              refine g_lcmp K d_C_holds_178 ?_
              refine g_if_lt K (tgt := 186) d_C_holds_179 (by decide) (fun c179 => ?_) (fun c179 => ?_)
              · have h179 : sk P (ab bits) c < 0 := by rw [cmp_lt, l_ext, l_of (by omega) (by omega)] at c179; omega
                refine g_lv K [0, 1, 2, 3] rfl (J186 h68 (by rw [← hB, an_s h68, decide_eq_true h179]; simp))
              · have h179 : ¬ sk P (ab bits) c < 0 := by rw [cmp_lt, l_ext, l_of (by omega) (by omega)] at c179; omega
                refine g_iconst K (v := 1) d_C_holds_182 (by decide) ?_
                refine g_goto K (tgt := 187) d_C_holds_183 (by decide) ?_
                refine g_lv K [0, 1, 2, 3] rfl (J187 true h68 (by rw [← hB, e165, an_s h68, decide_eq_false h179]; rfl))
          · have h94 : t < stn P (c + 1) := Nat.lt_of_not_le (fun h => c94 ((nI_leI (by omega) (by omega)).mpr h))
            have hl := (hp.2.2.2.2.2 t (by omega)).2
            refine g_iload_n K 1 d_C_holds_97 rfl ?_
            refine g_aload_n K 0 d_C_holds_98 rfl ?_
            refine gC_get K 4 fl_C_22 (by decide) rfl d_C_holds_99 ?_
            refine g_iload K 5 d_C_holds_102 rfl ?_
            refine g_iald K 5 (t) rfl rfl (by omega) d_C_holds_104 ?_
            refine g_abs K ml_C_149 (by decide) (Nat.le_of_ble_eq_true rfl) d_C_holds_105 ?_
            refine g_top K (lit_abs hl.2) ?_
            refine g_iconst K (v := 1) d_C_holds_108 (by decide) ?_
            refine g_isub K d_C_holds_109 ?_
            refine g_ishr K d_C_holds_110 ?_
            refine g_iconst K (v := 1) d_C_holds_111 (by decide) ?_
            refine g_iand K d_C_holds_112 ?_
            refine g_top K (bit_is _ hl.1 (by omega)) ?_
            refine g_iconst K (v := 1) d_C_holds_113 (by decide) ?_
            refine g_icmp_ne K (tgt := 121) d_C_holds_114 (by decide) (fun c114 => ?_) (fun c114 => ?_)
            · refine g_iconst K (v := 0) d_C_holds_121 (by decide) ?_
              refine g_top K (bZ_n1 c114).symm ?_
              refine g_lv K [0, 1, 2, 3, 4, 5] rfl (J122 h94)
            · refine g_iconst K (v := 1) d_C_holds_117 (by decide) ?_
              refine g_goto K (tgt := 122) d_C_holds_118 (by decide) ?_
              refine g_top K c114.symm ?_
              refine g_lv K [0, 1, 2, 3, 4, 5] rfl (J122 h94)
      refine g_iload K 3 d_C_holds_62 rfl ?_
      refine g_aload_n K 0 d_C_holds_64 rfl ?_
      refine gC_get K 5 fl_C_74 (by decide) rfl d_C_holds_65 ?_
      have hk1 := hp.1
      refine g_top K h5 ?_
      refine g_icmp_ge K (tgt := 195) d_C_holds_68 (by decide) (fun c68 => ?_) (fun c68 => ?_)
      · have h68 := (nI_leI (by omega) (by omega)).mp c68
        refine g_iload K 2 d_C_holds_195 rfl ?_
        refine g_zret K (bZ_nar _) d_C_holds_197 (⟨?_, rfl⟩)
        have e : b1 = hld P n cl bits := by
          unfold hld
          rw [decide_eq_false hc1, Bool.false_or, Bool.and_comm, ← hB, an_e h68]
          simp
        rw [e]
      · have h68 : c < n := Nat.lt_of_not_le (fun h => c68 ((nI_leI (by omega) (by omega)).mpr h))
        refine g_lconst K (v := 0) d_C_holds_71 (by decide) ?_
        refine g_topl K (show (0 : Int64) = Int64.ofInt 0 by decide) ?_
        refine g_lstore (lv' := [(7, _), (0, _), (2, _), (5, _), (6, _)]) K d_C_holds_72 (by decide) rfl ?_
        refine g_aload_n K 1 d_C_holds_74 rfl ?_
        refine gC_get K 1 fl_C_13 (by decide) rfl d_C_holds_75 ?_
        refine g_iload K 4 d_C_holds_78 rfl ?_
        refine g_iald K 2 (c) rfl rfl (by omega) d_C_holds_80 ?_
        refine g_top K (hp.2.2.1 c (by omega)).1 ?_
        refine g_istore (lv' := [(9, _), (7, _), (0, _), (2, _), (5, _), (6, _)]) K d_C_holds_81 (by decide) rfl ?_
        refine g_lv K [2, 3, 4, 5, 1, 0] rfl (J83 _ (stn P c) 0 (Nat.lt_succ_self _) h68 (by have := (hp.2.2.1 c (by omega)).2; have := hp.2.1; omega) (Int.zero_add _))
  have J57 : (¬ cl = -1) → G 57 [(0, .ref (a 0)), (2, .int bits)] [.int (bZ (decide (Int32.ofInt (sp P (ab bits)) = cl)))] (CW a g P I F B0 B1) := by
    intro  hc1
    refine g_istore (lv' := [(5, _), (0, _), (2, _)]) K d_C_holds_57 (by decide) rfl ?_
    refine g_iconst K (v := 0) d_C_holds_59 (by decide) ?_
    refine g_top K nI_0' ?_
    refine g_istore (lv' := [(6, _), (5, _), (0, _), (2, _)]) K d_C_holds_60 (by decide) rfl ?_
    refine g_lv K [2, 3, 1, 0] rfl (J62 _ 0 _ (Nat.lt_succ_self _) hc1 (Nat.zero_le _) rfl)
  have J12 : ∀ (N : Nat) (v : Nat) (z : Int), 17 - v < N → (¬ cl = -1) → (1 ≤ v) → (v ≤ 17) → (z + sm (spf P (ab bits)) v (17 - v) = sp P (ab bits)) → G 12 [(0, .ref (a 0)), (1, .int cl), (2, .int bits), (3, .long (Int64.ofInt z)), (5, .int (nI v))] [] (CW a g P I F B0 B1) := by
    intro N
    induction N with
    | zero => intro v z hm; exact absurd hm (Nat.not_lt_zero _)
    | succ N ih12 =>
      intro v z hm12 hc1 h1 h2 hz
      refine g_iload K 4 d_C_holds_12 rfl ?_
      refine g_bipush K (v := 16) d_C_holds_14 (by decide) ?_
      refine g_top K nI_16 ?_
      refine g_icmp_gt K (tgt := 45) d_C_holds_16 (by decide) (fun c16 => ?_) (fun c16 => ?_)
      · have h16 := (nI_ltI (by omega) (by omega)).mp c16
        obtain rfl : z = sp P (ab bits) := by rw [← hz, sm_e (by omega), Int.add_zero]
        refine g_lload_n K 3 d_C_holds_45 rfl ?_
        refine g_iload_n K 1 d_C_holds_46 rfl ?_
        refine g_i2l K d_C_holds_47 ?_
        refine g_lcmp K d_C_holds_48 ?_
        refine g_if_ne K (tgt := 56) d_C_holds_49 (by decide) (fun c49 => ?_) (fun c49 => ?_)
        · have h49 : ¬ Int32.ofInt (sp P (ab bits)) = cl := fun e => c49 (by rw [cmp_eq, l_ext, ← e, i_of (by omega) (by omega), l_of (by omega) (by omega)])
          refine g_iconst K (v := 0) d_C_holds_56 (by decide) ?_
          refine g_top K (show (0 : Int32) = bZ (decide (Int32.ofInt (sp P (ab bits)) = cl)) by rw [decide_eq_false h49]; rfl) ?_
          refine g_lv K [0, 2] rfl (J57 hc1)
        · have h49 : Int32.ofInt (sp P (ab bits)) = cl := by rw [cmp_eq, l_ext, l_of (by omega) (by omega)] at c49; rw [i_ne, i_of (by omega) (by omega)]; exact c49
          refine g_iconst K (v := 1) d_C_holds_52 (by decide) ?_
          refine g_goto K (tgt := 57) d_C_holds_53 (by decide) ?_
          refine g_top K (show (1 : Int32) = bZ (decide (Int32.ofInt (sp P (ab bits)) = cl)) by rw [decide_eq_true h49]; rfl) ?_
          refine g_lv K [0, 2] rfl (J57 hc1)
      · have h16 : v < 17 := Nat.lt_of_not_le (fun h => c16 ((nI_ltI (by omega) (by omega)).mpr h))
        refine g_lload_n K 3 d_C_holds_19 rfl ?_
        refine g_iload_n K 2 d_C_holds_20 rfl ?_
        refine g_iload K 4 d_C_holds_21 rfl ?_
        refine g_iconst K (v := 1) d_C_holds_23 (by decide) ?_
        refine g_isub K d_C_holds_24 ?_
        refine g_ishr K d_C_holds_25 ?_
        refine g_iconst K (v := 1) d_C_holds_26 (by decide) ?_
        refine g_iand K d_C_holds_27 ?_
        refine g_top K (bit_is _ h1 (by omega)) ?_
        refine g_aload_n K 0 d_C_holds_28 rfl ?_
        refine gC_get K 0 fl_C_9 (by decide) rfl d_C_holds_29 ?_
        refine g_iload K 4 d_C_holds_32 rfl ?_
        refine g_iald K 1 (v) rfl rfl (by omega) d_C_holds_34 ?_
        refine g_imul K d_C_holds_35 ?_
        refine g_i2l K d_C_holds_36 ?_
        refine g_topl K (show _ = Int64.ofInt (spf P (ab bits) v) by rw [spf_ab h1 (by omega)]; exact bzmul) ?_
        refine g_ladd K d_C_holds_37 ?_
        refine g_topl K (Int64.ofInt_add _ _).symm ?_
        refine g_lstore_n (lv' := [(3, _), (0, _), (1, _), (2, _), (5, _)]) K d_C_holds_38 (by decide) rfl ?_
        refine g_iinc (v := nI (v + 1)) (lv' := [(5, _), (3, _), (0, _), (1, _), (2, _)]) K 4 d_C_holds_39 rfl (nI_1 v) (by decide) rfl ?_
        refine g_goto K (tgt := 12) d_C_holds_42 (by decide) ?_
        refine g_lv K [2, 3, 4, 1, 0] rfl (ih12 (v + 1) (z + spf P (ab bits) v) (by omega) hc1 (by omega) (by omega) (by rw [← hz, sm_s h16]; omega))
  refine g_iload_n K 1 d_C_holds_0 rfl ?_
  refine g_iconst K (v := -1) d_C_holds_1 (by decide) ?_
  refine g_icmp_ne K (tgt := 7) d_C_holds_2 (by decide) (fun c2 => ?_) (fun c2 => ?_)
  · refine g_lconst K (v := 0) d_C_holds_7 (by decide) ?_
    refine g_topl K (show (0 : Int64) = Int64.ofInt 0 by decide) ?_
    refine g_lstore_n (lv' := [(3, _), (0, _), (1, _), (2, _)]) K d_C_holds_8 (by decide) rfl ?_
    refine g_iconst K (v := 1) d_C_holds_9 (by decide) ?_
    refine g_top K nI_1' ?_
    refine g_istore (lv' := [(5, _), (3, _), (0, _), (1, _), (2, _)]) K d_C_holds_10 (by decide) rfl ?_
    refine g_lv K [2, 3, 4, 1, 0] rfl (J12 _ 1 0 (Nat.lt_succ_self _) c2 (by omega) (by omega) (Int.zero_add _))
  · refine g_iconst K (v := 1) d_C_holds_5 (by decide) ?_
    refine g_zret K rfl d_C_holds_6 (⟨by unfold hld; rw [decide_eq_true c2]; rfl, rfl⟩)
theorem d_C_settle_0 : decode b_C_settle 0 = .ok (.aload_n 0, 1) := by decide +kernel
theorem d_C_settle_1 : decode b_C_settle 1 = .ok (.iload_n 1, 1) := by decide +kernel
theorem d_C_settle_2 : decode b_C_settle 2 = .ok (.putfield 172, 3) := by decide +kernel
theorem d_C_settle_5 : decode b_C_settle 5 = .ok (.iconst 1, 1) := by decide +kernel
theorem d_C_settle_6 : decode b_C_settle 6 = .ok (.istore_n 2, 1) := by decide +kernel
theorem d_C_settle_7 : decode b_C_settle 7 = .ok (.aload_n 0, 1) := by decide +kernel
theorem d_C_settle_8 : decode b_C_settle 8 = .ok (.getfield 172, 3) := by decide +kernel
theorem d_C_settle_11 : decode b_C_settle 11 = .ok (.ifCond .ne 52, 3) := by decide +kernel
theorem d_C_settle_14 : decode b_C_settle 14 = .ok (.iload_n 2, 1) := by decide +kernel
theorem d_C_settle_15 : decode b_C_settle 15 = .ok (.ifCond .eq 48, 3) := by decide +kernel
theorem d_C_settle_18 : decode b_C_settle 18 = .ok (.aload_n 0, 1) := by decide +kernel
theorem d_C_settle_19 : decode b_C_settle 19 = .ok (.aload_n 0, 1) := by decide +kernel
theorem d_C_settle_20 : decode b_C_settle 20 = .ok (.getfield 51, 3) := by decide +kernel
theorem d_C_settle_23 : decode b_C_settle 23 = .ok (.invokevirtual 99, 3) := by decide +kernel
theorem d_C_settle_26 : decode b_C_settle 26 = .ok (.putfield 172, 3) := by decide +kernel
theorem d_C_settle_29 : decode b_C_settle 29 = .ok (.aload_n 0, 1) := by decide +kernel
theorem d_C_settle_30 : decode b_C_settle 30 = .ok (.getfield 172, 3) := by decide +kernel
theorem d_C_settle_33 : decode b_C_settle 33 = .ok (.ifCond .eq 7, 3) := by decide +kernel
theorem d_C_settle_36 : decode b_C_settle 36 = .ok (.iconst 0, 1) := by decide +kernel
theorem d_C_settle_37 : decode b_C_settle 37 = .ok (.goto 10, 3) := by decide +kernel
theorem d_C_settle_40 : decode b_C_settle 40 = .ok (.aload_n 0, 1) := by decide +kernel
theorem d_C_settle_41 : decode b_C_settle 41 = .ok (.getfield 51, 3) := by decide +kernel
theorem d_C_settle_44 : decode b_C_settle 44 = .ok (.invokevirtual 109, 3) := by decide +kernel
theorem d_C_settle_47 : decode b_C_settle 47 = .ok (.istore_n 2, 1) := by decide +kernel
theorem d_C_settle_48 : decode b_C_settle 48 = .ok (.iload_n 2, 1) := by decide +kernel
theorem d_C_settle_49 : decode b_C_settle 49 = .ok (.ifCond .eq (-42), 3) := by decide +kernel
theorem d_C_settle_52 : decode b_C_settle 52 = .ok (.aload_n 0, 1) := by decide +kernel
theorem d_C_settle_53 : decode b_C_settle 53 = .ok (.getfield 51, 3) := by decide +kernel
theorem d_C_settle_56 : decode b_C_settle 56 = .ok (.iload_n 2, 1) := by decide +kernel
theorem d_C_settle_57 : decode b_C_settle 57 = .ok (.invokevirtual 116, 3) := by decide +kernel
theorem d_C_settle_60 : decode b_C_settle 60 = .ok (.goto (-53), 3) := by decide +kernel
theorem d_C_settle_63 : decode b_C_settle 63 = .ok (.return_, 1) := by decide +kernel
set_option maxHeartbeats 4000000 in
set_option maxRecDepth 100000 in
theorem c_C_settle (l : Launch) (D : va_G) (g : Nat → ClassId) (a : Nat → Nat) (P : Nat → Nat → Int32) (I : Nat → Int32) (F : Nat → Nat → Int32) (B0 B1 : BS) {n k : Nat} (hp : PWF P n k) (h5 : I 5 = nI n) {len : Nat} {lim : Option Int} (hB : BI P n B1 len) (hL : BL B1 lim) (al : Bool) : Ct l D g y_C_settle b_C_settle 3 none 3 [.ref (a 0), .int (bZ al)] (CW a g P I F B0 B1) (fun r w => (r = none ∧ ∃ I2 B2 len2, w = CW a g P I2 F B0 B2 ∧ I2 25 = bZ (((cond al none (some B1.1)).bind (stl P n lim))).isNone ∧ BI P n B2 len2 ∧ BL B2 lim ∧ (∀ b, ((cond al none (some B1.1)).bind (stl P n lim)) = some b → B2.1 = b) ∧ len ≤ len2 ∧ (∀ L, L ≤ len → GL B2 len2 L = GL B1 len L) ∧ FrI [25] I I2)) := by
  refine Ct.of (lv := [(0, _), (1, _)]) (by decide) rfl (Nat.le_of_ble_eq_true rfl) rfl ?_
  intro G K
  have J7 : ∀ (N : Nat) (bk : Bool) (lit : Int32) (I2 : Nat → Int32) (B2 : BS) (len2 : Nat), (cond bk 0 (if lit = 0 then 0 else (18 - cn B2.1).toNat)) < N → (I2 25 = bZ bk) → (bk = true → ((cond al none (some B1.1)).bind (stl P n lim)) = none) → (bk = false → lit = 0 → ((cond al none (some B1.1)).bind (stl P n lim)) = some B2.1) → (bk = false → ¬ lit = 0 → stl P n lim B2.1 = ((cond al none (some B1.1)).bind (stl P n lim))) → (BI P n B2 len2) → (BL B2 lim) → (len ≤ len2) → (∀ L, L ≤ len → GL B2 len2 L = GL B1 len L) → (FrI [25] I I2) → G 7 [(0, .ref (a 0)), (2, .int lit)] [] (CW a g P I2 F B0 B2) := by
    intro N
    induction N with
    | zero => intro bk lit I2 B2 len2 hm; exact absurd hm (Nat.not_lt_zero _)
    | succ N ih7 =>
      intro bk lit I2 B2 len2 hm7 h25 hx1 hx2 hx3 hB2 hL2 hle hG hIr
      have hn2 : I2 5 = nI n := (hIr 5 (by decide)).trans h5
      have J47 : ∀ (v2 : Int32), (bk = false) → (¬ lit = 0) → ((brk P n lim B2.1 = true ∧ v2 = 0) ∨ (brk P n lim B2.1 = false ∧ v2 = frc P n lim B2.1)) → G 47 [(0, .ref (a 0))] [.int v2] (CW a g P (upd I2 25 (bZ (brk P n lim B2.1))) F B0 B2) := by
        intro v2 eb el hv2
        have hm0 : (18 - cn B2.1).toNat < N + 1 := by rw [eb] at hm7; have h := hm7; rw [show (cond false 0 (if lit = 0 then 0 else (18 - cn B2.1).toNat)) = (if lit = 0 then 0 else (18 - cn B2.1).toNat) from rfl, if_neg el] at h; exact h
        have hcb := cn_bd B2.1
        refine g_istore_n (lv' := [(2, _), (0, _)]) K d_C_settle_47 (by decide) rfl ?_
        refine g_iload_n K 0 d_C_settle_48 rfl ?_
        refine g_if_eq K (tgt := 7) d_C_settle_49 (by decide) (fun c49 => ?_) (fun c49 => ?_)
        · refine g_lv K [1, 0] rfl (ih7 (brk P n lim B2.1) v2 _ B2 len2 ?_ rfl (fun e => by rw [← hx3 eb el]; exact stl_b e) (fun e _ => by rw [← hx3 eb el]; exact stl_s e ((hv2.resolve_left (fun h => absurd (e.symm.trans h.1) (by decide))).2.symm.trans c49)) (fun _ e => absurd c49 e) hB2 hL2 hle hG (hIr.u (by decide)))
          rw [if_pos c49]
          have z : ∀ b : Bool, cond b 0 0 = 0 := fun b => by cases b <;> rfl
          rw [z]
          omega
        · have hv3 := hv2.resolve_left (fun h => c49 h.2)
          obtain ⟨e33, rfl⟩ := hv3
          obtain ⟨q1, q2, q3⟩ := frc_open hp c49
          refine g_aload_n K 1 d_C_settle_52 rfl ?_
          refine gC_get K 20 fl_C_51 (by decide) rfl d_C_settle_53 ?_
          refine g_iload_n K 0 d_C_settle_56 rfl ?_
          refine g_callB1 K (c_B_set l D g a (a 14) (a 15) (a 16) (a 17) (CF a (upd I2 25 (bZ (brk P n lim B2.1)))) P B2 (FSn (I := upd I2 25 (bZ (brk P n lim B2.1))) hn2) hp hB2 (lit := frc P n lim B2.1) q1 q2 q3) mf_B_set im_B_set se_B_set ml_C_116 (by decide) (Nat.le_of_ble_eq_true rfl) d_C_settle_57 (fun v B hq => ?_) rfl
          obtain ⟨rfl, d1, d2, d3, d4⟩ := hq
          refine g_rv ?_
          refine g_goto K (tgt := 7) d_C_settle_60 (by decide) ?_
          refine g_lv K [1, 0] rfl (ih7 (brk P n lim B2.1) (frc P n lim B2.1) _ B (len2 + 1) ?_ rfl (fun e => absurd (e33.symm.trans e) (by decide)) (fun _ e => absurd e c49) (fun _ _ => by rw [d1, ← stl_f hp e33 c49]; exact hx3 eb el) d3 (hL2.of d4) (by omega) (fun L hL9 => (GL_set q1 q2 q3 d1 d2 (by omega)).trans (hG L hL9)) (hIr.u (by decide)))
          rw [e33, d1]
          have z1 := cn_sv q1 q2 q3
          show (if frc P n lim B2.1 = 0 then 0 else (18 - cn (sv B2.1 (frc P n lim B2.1))).toNat) < N
          rw [if_neg c49]
          have z2 := cn_bd (sv B2.1 (frc P n lim B2.1))
          omega
      refine g_aload_n K 0 d_C_settle_7 rfl ?_
      refine gC_get K 25 fl_C_172 (by decide) rfl d_C_settle_8 ?_
      refine g_if_ne K (tgt := 63) d_C_settle_11 (by decide) (fun c11 => ?_) (fun c11 => ?_)
      · have eb := bZ_t (fun h => c11 (h25.trans h))
        refine g_vret K d_C_settle_63 (⟨rfl, I2, B2, len2, rfl, by rw [h25, eb, hx1 eb]; rfl, hB2, hL2, (fun b e => by rw [hx1 eb] at e; cases e), hle, hG, hIr⟩)
      · have eb := bZ_f (h25.symm.trans c11)
        refine g_iload_n K 1 d_C_settle_14 rfl ?_
        refine g_if_eq K (tgt := 63) d_C_settle_15 (by decide) (fun c15 => ?_) (fun c15 => ?_)
        · refine g_vret K d_C_settle_63 (⟨rfl, I2, B2, len2, rfl, by rw [h25, eb, hx2 eb c15]; rfl, hB2, hL2, (fun b e => by rw [hx2 eb c15] at e; cases e; rfl), hle, hG, hIr⟩)
        · refine g_aload_n K 0 d_C_settle_18 rfl ?_
          refine g_aload_n K 0 d_C_settle_19 rfl ?_
          refine gC_get K 20 fl_C_51 (by decide) rfl d_C_settle_20 ?_
          refine g_callB1 K (c_B_isBroken l D g a (a 14) (a 15) (a 16) (a 17) (CF a I2) P B2 (FSn hn2) hp hB2 hL2) mf_B_isBroken im_B_isBroken se_B_isBroken ml_C_99 (by decide) (Nat.le_of_ble_eq_true rfl) d_C_settle_23 (fun v B hq => ?_) rfl
          obtain ⟨rfl, eB⟩ := hq
          rw [eB]
          refine g_ri ?_
          refine gC_put_broken K (brk P n lim B2.1) rfl fl_C_172 d_C_settle_26 ?_
          refine g_aload_n K 0 d_C_settle_29 rfl ?_
          refine gC_get K 25 fl_C_172 (by decide) rfl d_C_settle_30 ?_
          refine g_if_eq K (tgt := 40) d_C_settle_33 (by decide) (fun c33 => ?_) (fun c33 => ?_)
          · have e33 := bZ_f c33
            refine g_aload_n K 0 d_C_settle_40 rfl ?_
            refine gC_get K 20 fl_C_51 (by decide) rfl d_C_settle_41 ?_
            refine g_callB1 K (c_B_forces l D g a (a 14) (a 15) (a 16) (a 17) (CF a (upd I2 25 (bZ (brk P n lim B2.1)))) P B2 (FSn (I := upd I2 25 (bZ (brk P n lim B2.1))) hn2) hp hB2 hL2) mf_B_forces im_B_forces se_B_forces ml_C_109 (by decide) (Nat.le_of_ble_eq_true rfl) d_C_settle_44 (fun v B hq => ?_) rfl
            obtain ⟨rfl, eB⟩ := hq
            rw [eB]
            refine g_ri ?_
            refine g_lv K [0] rfl (J47 _ eb c15 (Or.inr ⟨e33, rfl⟩))
          · have e33 := bZ_t c33
            refine g_iconst K (v := 0) d_C_settle_36 (by decide) ?_
            refine g_goto K (tgt := 47) d_C_settle_37 (by decide) ?_
            refine g_lv K [0] rfl (J47 0 eb c15 (Or.inl ⟨e33, rfl⟩))
  refine g_aload_n K 0 d_C_settle_0 rfl ?_
  refine g_iload_n K 1 d_C_settle_1 rfl ?_
  refine gC_put_broken K al rfl fl_C_172 d_C_settle_2 ?_
  refine g_iconst K (v := 1) d_C_settle_5 (by decide) ?_
  refine g_istore_n (lv' := [(2, _), (0, _), (1, _)]) K d_C_settle_6 (by decide) rfl ?_
  refine g_lv K [1, 0] rfl (J7 _ al 1 _ B1 len (Nat.lt_succ_self _) rfl (fun e => by rw [e]; rfl) (fun _ e => absurd e (by decide)) (fun e _ => by rw [e]; rfl) hB hL (Nat.le_refl _) (fun _ _ => rfl) (FrI.rf.u (by decide)))
theorem d_C_side_0 : decode b_C_side 0 = .ok (.aload_n 0, 1) := by decide +kernel
theorem d_C_side_1 : decode b_C_side 1 = .ok (.getfield 51, 3) := by decide +kernel
theorem d_C_side_4 : decode b_C_side 4 = .ok (.getfield 127, 3) := by decide +kernel
theorem d_C_side_7 : decode b_C_side 7 = .ok (.iload_n 1, 1) := by decide +kernel
theorem d_C_side_8 : decode b_C_side 8 = .ok (.iaload, 1) := by decide +kernel
theorem d_C_side_9 : decode b_C_side 9 = .ok (.istore_n 3, 1) := by decide +kernel
theorem d_C_side_10 : decode b_C_side 10 = .ok (.aload_n 0, 1) := by decide +kernel
theorem d_C_side_11 : decode b_C_side 11 = .ok (.getfield 60, 3) := by decide +kernel
theorem d_C_side_14 : decode b_C_side 14 = .ok (.aload_n 0, 1) := by decide +kernel
theorem d_C_side_15 : decode b_C_side 15 = .ok (.getfield 158, 3) := by decide +kernel
theorem d_C_side_18 : decode b_C_side 18 = .ok (.iconst 1, 1) := by decide +kernel
theorem d_C_side_19 : decode b_C_side 19 = .ok (.isub, 1) := by decide +kernel
theorem d_C_side_20 : decode b_C_side 20 = .ok (.baload, 1) := by decide +kernel
theorem d_C_side_21 : decode b_C_side 21 = .ok (.ifCond .ne 21, 3) := by decide +kernel
theorem d_C_side_24 : decode b_C_side 24 = .ok (.iload_n 3, 1) := by decide +kernel
theorem d_C_side_25 : decode b_C_side 25 = .ok (.iconst (-1), 1) := by decide +kernel
theorem d_C_side_26 : decode b_C_side 26 = .ok (.if_icmp .eq 20, 3) := by decide +kernel
theorem d_C_side_29 : decode b_C_side 29 = .ok (.iload_n 3, 1) := by decide +kernel
theorem d_C_side_30 : decode b_C_side 30 = .ok (.iload_n 2, 1) := by decide +kernel
theorem d_C_side_31 : decode b_C_side 31 = .ok (.ifCond .eq 7, 3) := by decide +kernel
theorem d_C_side_34 : decode b_C_side 34 = .ok (.iconst 1, 1) := by decide +kernel
theorem d_C_side_35 : decode b_C_side 35 = .ok (.goto 4, 3) := by decide +kernel
theorem d_C_side_38 : decode b_C_side 38 = .ok (.iconst 0, 1) := by decide +kernel
theorem d_C_side_39 : decode b_C_side 39 = .ok (.if_icmp .eq 7, 3) := by decide +kernel
theorem d_C_side_42 : decode b_C_side 42 = .ok (.iconst 1, 1) := by decide +kernel
theorem d_C_side_43 : decode b_C_side 43 = .ok (.goto 4, 3) := by decide +kernel
theorem d_C_side_46 : decode b_C_side 46 = .ok (.iconst 0, 1) := by decide +kernel
theorem d_C_side_47 : decode b_C_side 47 = .ok (.istore 4, 2) := by decide +kernel
theorem d_C_side_49 : decode b_C_side 49 = .ok (.iload 4, 2) := by decide +kernel
theorem d_C_side_51 : decode b_C_side 51 = .ok (.ifCond .ne 25, 3) := by decide +kernel
theorem d_C_side_54 : decode b_C_side 54 = .ok (.iload_n 3, 1) := by decide +kernel
theorem d_C_side_55 : decode b_C_side 55 = .ok (.iconst (-1), 1) := by decide +kernel
theorem d_C_side_56 : decode b_C_side 56 = .ok (.if_icmp .ne 20, 3) := by decide +kernel
theorem d_C_side_59 : decode b_C_side 59 = .ok (.aload_n 0, 1) := by decide +kernel
theorem d_C_side_60 : decode b_C_side 60 = .ok (.getfield 51, 3) := by decide +kernel
theorem d_C_side_63 : decode b_C_side 63 = .ok (.iload_n 2, 1) := by decide +kernel
theorem d_C_side_64 : decode b_C_side 64 = .ok (.ifCond .eq 7, 3) := by decide +kernel
theorem d_C_side_67 : decode b_C_side 67 = .ok (.iload_n 1, 1) := by decide +kernel
theorem d_C_side_68 : decode b_C_side 68 = .ok (.goto 5, 3) := by decide +kernel
theorem d_C_side_71 : decode b_C_side 71 = .ok (.iload_n 1, 1) := by decide +kernel
theorem d_C_side_72 : decode b_C_side 72 = .ok (.ineg, 1) := by decide +kernel
theorem d_C_side_73 : decode b_C_side 73 = .ok (.invokevirtual 116, 3) := by decide +kernel
theorem d_C_side_76 : decode b_C_side 76 = .ok (.aload_n 0, 1) := by decide +kernel
theorem d_C_side_77 : decode b_C_side 77 = .ok (.iload 4, 2) := by decide +kernel
theorem d_C_side_79 : decode b_C_side 79 = .ok (.invokevirtual 168, 3) := by decide +kernel
theorem d_C_side_82 : decode b_C_side 82 = .ok (.return_, 1) := by decide +kernel
set_option maxHeartbeats 4000000 in
set_option maxRecDepth 100000 in
theorem c_C_side (l : Launch) (D : va_G) (g : Nat → ClassId) (a : Nat → Nat) (P : Nat → Nat → Int32) (I : Nat → Int32) (F : Nat → Nat → Int32) (B0 B1 : BS) {n k : Nat} (hp : PWF P n k) (h5 : I 5 = nI n) {len : Nat} {lim : Option Int} (hB : BI P n B1 len) (hL : BL B1 lim) {v q : Nat} (h1 : 1 ≤ v) (h2 : v ≤ 16) (one d : Bool) (h24 : I 24 = nI (q + 1)) (hq4 : q < 400) (hd : F 6 q = bZ d) : Ct l D g y_C_side b_C_side 5 none 4 [.ref (a 0), .int (nI v), .int (bZ one)] (CW a g P I F B0 B1) (fun r w => (r = none ∧ ∃ I2 B2 len2, w = CW a g P I2 F B0 B2 ∧ I2 25 = bZ (((cond one (chO (cond d none (some B1.1)) v) (chZ (cond d none (some B1.1)) v)).bind (stl P n lim))).isNone ∧ BI P n B2 len2 ∧ BL B2 lim ∧ (∀ b, ((cond one (chO (cond d none (some B1.1)) v) (chZ (cond d none (some B1.1)) v)).bind (stl P n lim)) = some b → B2.1 = b) ∧ len ≤ len2 ∧ (∀ L, L ≤ len → GL B2 len2 L = GL B1 len L) ∧ FrI [25] I I2)) := by
  refine Ct.of (lv := [(0, _), (1, _), (2, _)]) (by decide) rfl (Nat.le_of_ble_eq_true rfl) rfl ?_
  intro G K
  have J76 : ∀ (al : Bool) (B2 : BS) (len2 : Nat), (cond al none (some B2.1) = (cond one (chO (cond d none (some B1.1)) v) (chZ (cond d none (some B1.1)) v))) → (BI P n B2 len2) → (BL B2 lim) → (len ≤ len2) → (∀ L, L ≤ len → GL B2 len2 L = GL B1 len L) → G 76 [(0, .ref (a 0)), (4, .int (bZ al))] [] (CW a g P I F B0 B2) := by
    intro al B2 len2 hX hB2 hL2 hle hG
    refine g_aload_n K 0 d_C_side_76 rfl ?_
    refine g_iload K 1 d_C_side_77 rfl ?_
    refine g_callW (q0 := 0) K (c_C_settle l D g a P I F B0 B2 hp h5 hB2 hL2 al) mf_C_settle im_C_settle se_C_settle ml_C_168 (by decide) rfl rfl (Nat.le_of_ble_eq_true rfl) d_C_side_79 (fun v w1 hq => ?_) rfl
    obtain ⟨rfl, I3, B3, len3, rfl, w1, w2, w3, w4, w5, w6, w7⟩ := hq
    rw [hX] at w1 w4
    refine g_rv ?_
    refine g_vret K d_C_side_82 (⟨rfl, I3, B3, len3, rfl, w1, w2, w3, w4, by omega, fun L hL9 => (w6 L (by omega)).trans (hG L hL9), w7⟩)
  have J73 : ∀ (al : Bool), (al = false) → (d = false) → (B1.1 v = -1) → G 73 [(0, .ref (a 0)), (4, .int (bZ al))] [.int (cond one (nI v) (-nI v)), .ref (a 14)] (CW a g P I F B0 B1) := by
    intro al eal ed en
    have hvx : vx (cond one (nI v) (-nI v)) = v := by cases one; exact vx_neg (by omega); exact vx_nI (by omega)
    have hsv : sv B1.1 (cond one (nI v) (-nI v)) = upd B1.1 v (bZ one) := by cases one; exact sv_neg h1 h2; exact sv_pos h1 h2
    refine g_callB1 K (c_B_set l D g a (a 14) (a 15) (a 16) (a 17) (CF a I) P B1 (FSn h5) hp hB (lit := (cond one (nI v) (-nI v))) (by rw [hvx]; exact h1) (by rw [hvx]; exact h2) (by rw [hvx]; exact en)) mf_B_set im_B_set se_B_set ml_C_116 (by decide) (Nat.le_of_ble_eq_true rfl) d_C_side_73 (fun v B hq => ?_) rfl
    obtain ⟨rfl, d1, d2, d3, d4⟩ := hq
    refine g_rv ?_
    refine g_lv K [0, 1] rfl (J76 al B (len + 1) ?_ d3 (hL.of d4) (by omega) (fun L hL9 => GL_set (by rw [hvx]; exact h1) (by rw [hvx]; exact h2) (by rw [hvx]; exact en) d1 d2 hL9))
    rw [eal, ed, d1, hsv]
    cases one
    · show some (upd B1.1 v 0) = chZ (some B1.1) v
      rw [chZ_some (by rw [en]; decide)]
    · show some (upd B1.1 v 1) = chO (some B1.1) v
      rw [chO_some (by rw [en]; decide)]
  have J47 : ∀ (al : Bool), ((al = true ∧ (cond one (chO (cond d none (some B1.1)) v) (chZ (cond d none (some B1.1)) v)) = none) ∨ (al = false ∧ d = false ∧ (B1.1 v = -1 ∨ B1.1 v = bZ one))) → G 47 [(0, .ref (a 0)), (1, .int (nI v)), (2, .int (bZ one)), (3, .int (B1.1 v))] [.int (bZ al)] (CW a g P I F B0 B1) := by
    intro al hal
    refine g_istore (lv' := [(4, _), (0, _), (1, _), (2, _), (3, _)]) K d_C_side_47 (by decide) rfl ?_
    refine g_iload K 0 d_C_side_49 rfl ?_
    refine g_if_ne K (tgt := 76) d_C_side_51 (by decide) (fun c51 => ?_) (fun c51 => ?_)
    · have eal := bZ_t c51
      refine g_lv K [1, 0] rfl (J76 al B1 len (by rw [eal]; exact (hal.resolve_right (fun h => absurd (eal.symm.trans h.1) (by decide))).2.symm) hB hL (Nat.le_refl _) (fun _ _ => rfl))
    · have eal := bZ_f c51
      obtain ⟨ed, en⟩ := (hal.resolve_left (fun h => absurd (eal.symm.trans h.1) (by decide))).2
      refine g_iload_n K 4 d_C_side_54 rfl ?_
      refine g_iconst K (v := -1) d_C_side_55 (by decide) ?_
      refine g_icmp_ne K (tgt := 76) d_C_side_56 (by decide) (fun c56 => ?_) (fun c56 => ?_)
      · refine g_lv K [1, 0] rfl (J76 al B1 len ?_ hB hL (Nat.le_refl _) (fun _ _ => rfl))
        have e1 : B1.1 v = bZ one := en.resolve_left c56
        rw [eal, ed]
        cases one
        · show some B1.1 = chZ (some B1.1) v
          rw [chZ_some (by rw [e1]; decide), upd_id (show B1.1 v = 0 from e1)]
        · show some B1.1 = chO (some B1.1) v
          rw [chO_some (by rw [e1]; decide), upd_id (show B1.1 v = 1 from e1)]
      · refine g_aload_n K 1 d_C_side_59 rfl ?_
        refine gC_get K 20 fl_C_51 (by decide) rfl d_C_side_60 ?_
        refine g_iload_n K 3 d_C_side_63 rfl ?_
        refine g_if_eq K (tgt := 71) d_C_side_64 (by decide) (fun c64 => ?_) (fun c64 => ?_)
        · have e64 := bZ_f c64
          refine g_iload_n K 2 d_C_side_71 rfl ?_
          refine g_ineg K d_C_side_72 ?_
          refine g_top K (show -nI v = (cond one (nI v) (-nI v)) by rw [e64]; rfl) ?_
          refine g_lv K [1, 0] rfl (J73 al eal ed c56)
        · have e64 := bZ_t c64
          refine g_iload_n K 2 d_C_side_67 rfl ?_
          refine g_goto K (tgt := 73) d_C_side_68 (by decide) ?_
          refine g_top K (show nI v = (cond one (nI v) (-nI v)) by rw [e64]; rfl) ?_
          refine g_lv K [1, 0] rfl (J73 al eal ed c56)
  have J46 : (d = false) → (B1.1 v = -1 ∨ B1.1 v = bZ one) → G 46 [(0, .ref (a 0)), (1, .int (nI v)), (2, .int (bZ one)), (3, .int (B1.1 v))] [] (CW a g P I F B0 B1) := by
    intro  ed en
    refine g_iconst K (v := 0) d_C_side_46 (by decide) ?_
    refine g_lv K [0, 1, 2, 3] rfl (J47 false (Or.inr ⟨rfl, ed, en⟩))
  have J42 : ((cond one (chO (cond d none (some B1.1)) v) (chZ (cond d none (some B1.1)) v)) = none) → G 42 [(0, .ref (a 0)), (1, .int (nI v)), (2, .int (bZ one)), (3, .int (B1.1 v))] [] (CW a g P I F B0 B1) := by
    intro  hA
    refine g_iconst K (v := 1) d_C_side_42 (by decide) ?_
    refine g_goto K (tgt := 47) d_C_side_43 (by decide) ?_
    refine g_lv K [0, 1, 2, 3] rfl (J47 true (Or.inl ⟨rfl, hA⟩))
  have J39 : (d = false) → (¬ B1.1 v = -1) → G 39 [(0, .ref (a 0)), (1, .int (nI v)), (2, .int (bZ one)), (3, .int (B1.1 v))] [.int (bZ one), .int (B1.1 v)] (CW a g P I F B0 B1) := by
    intro  ed en
    refine g_icmp_eq K (tgt := 46) d_C_side_39 (by decide) (fun c39 => ?_) (fun c39 => ?_)
    · refine g_lv K [0, 1, 2, 3] rfl (J46 ed (Or.inr c39))
    · refine g_lv K [0, 1, 2, 3] rfl (J42 ?_)
      rw [ed]
      cases one
      · exact chZ_none (((hB.2.2.2.1.1 v).resolve_left en).resolve_left (fun z => c39 z))
      · exact chO_none (((hB.2.2.2.1.1 v).resolve_left en).resolve_right (fun z => c39 z))
  refine g_aload_n K 0 d_C_side_0 rfl ?_
  refine gC_get K 20 fl_C_51 (by decide) rfl d_C_side_1 ?_
  refine g_getN K 14 (ci := 0) (k := 1) i_B rfl rfl (by decide) fn_C_127 rfl d_C_side_4 ?_
  refine g_iload_n K 1 d_C_side_7 rfl ?_
  refine g_iald K 15 (v) rfl rfl (by omega) d_C_side_8 ?_
  refine g_istore_n (lv' := [(3, _), (0, _), (1, _), (2, _)]) K d_C_side_9 (by decide) rfl ?_
  refine g_aload_n K 1 d_C_side_10 rfl ?_
  refine gC_get K 23 fl_C_60 (by decide) rfl d_C_side_11 ?_
  refine g_aload_n K 1 d_C_side_14 rfl ?_
  refine gC_get K 24 fl_C_158 (by decide) rfl d_C_side_15 ?_
  refine g_iconst K (v := 1) d_C_side_18 (by decide) ?_
  refine g_isub K d_C_side_19 ?_
  refine g_zald K 20 (q) rfl (show _ = nI q from (congrArg (· - 1) h24).trans (nI_pred q)) hq4 d_C_side_20 ?_
  refine g_top K hd ?_
  refine g_if_ne K (tgt := 42) d_C_side_21 (by decide) (fun c21 => ?_) (fun c21 => ?_)
  · have ed := bZ_t c21
    refine g_lv K [1, 2, 3, 0] rfl (J42 (by rw [ed]; cases one <;> rfl))
  · have ed := bZ_f c21
    refine g_iload_n K 0 d_C_side_24 rfl ?_
    refine g_iconst K (v := -1) d_C_side_25 (by decide) ?_
    refine g_icmp_eq K (tgt := 46) d_C_side_26 (by decide) (fun c26 => ?_) (fun c26 => ?_)
    · refine g_lv K [1, 2, 3, 0] rfl (J46 ed (Or.inl c26))
    · refine g_iload_n K 0 d_C_side_29 rfl ?_
      refine g_iload_n K 3 d_C_side_30 rfl ?_
      refine g_if_eq K (tgt := 38) d_C_side_31 (by decide) (fun c31 => ?_) (fun c31 => ?_)
      · have e31 := bZ_f c31
        refine g_iconst K (v := 0) d_C_side_38 (by decide) ?_
        refine g_top K (show (0 : Int32) = bZ one by rw [e31]; rfl) ?_
        refine g_lv K [1, 2, 3, 0] rfl (J39 ed c26)
      · have e31 := bZ_t c31
        refine g_iconst K (v := 1) d_C_side_34 (by decide) ?_
        refine g_goto K (tgt := 39) d_C_side_35 (by decide) ?_
        refine g_top K (show (1 : Int32) = bZ one by rw [e31]; rfl) ?_
        refine g_lv K [1, 2, 3, 0] rfl (J39 ed c26)
theorem d_C_close_0 : decode b_C_close 0 = .ok (.aload_n 0, 1) := by decide +kernel
theorem d_C_close_1 : decode b_C_close 1 = .ok (.getfield 158, 3) := by decide +kernel
theorem d_C_close_4 : decode b_C_close 4 = .ok (.ifCond .le 30, 3) := by decide +kernel
theorem d_C_close_7 : decode b_C_close 7 = .ok (.aload_n 0, 1) := by decide +kernel
theorem d_C_close_8 : decode b_C_close 8 = .ok (.getfield 54, 3) := by decide +kernel
theorem d_C_close_11 : decode b_C_close 11 = .ok (.aload_n 0, 1) := by decide +kernel
theorem d_C_close_12 : decode b_C_close 12 = .ok (.getfield 158, 3) := by decide +kernel
theorem d_C_close_15 : decode b_C_close 15 = .ok (.iconst 1, 1) := by decide +kernel
theorem d_C_close_16 : decode b_C_close 16 = .ok (.isub, 1) := by decide +kernel
theorem d_C_close_17 : decode b_C_close 17 = .ok (.iaload, 1) := by decide +kernel
theorem d_C_close_18 : decode b_C_close 18 = .ok (.ifCond .ge 16, 3) := by decide +kernel
theorem d_C_close_21 : decode b_C_close 21 = .ok (.aload_n 0, 1) := by decide +kernel
theorem d_C_close_22 : decode b_C_close 22 = .ok (.dup, 1) := by decide +kernel
theorem d_C_close_23 : decode b_C_close 23 = .ok (.getfield 158, 3) := by decide +kernel
theorem d_C_close_26 : decode b_C_close 26 = .ok (.iconst 1, 1) := by decide +kernel
theorem d_C_close_27 : decode b_C_close 27 = .ok (.isub, 1) := by decide +kernel
theorem d_C_close_28 : decode b_C_close 28 = .ok (.putfield 158, 3) := by decide +kernel
theorem d_C_close_31 : decode b_C_close 31 = .ok (.goto (-31), 3) := by decide +kernel
theorem d_C_close_34 : decode b_C_close 34 = .ok (.aload_n 0, 1) := by decide +kernel
theorem d_C_close_35 : decode b_C_close 35 = .ok (.getfield 158, 3) := by decide +kernel
theorem d_C_close_38 : decode b_C_close 38 = .ok (.ifCond .ne 27, 3) := by decide +kernel
theorem d_C_close_41 : decode b_C_close 41 = .ok (.aload_n 0, 1) := by decide +kernel
theorem d_C_close_42 : decode b_C_close 42 = .ok (.iconst 1, 1) := by decide +kernel
theorem d_C_close_43 : decode b_C_close 43 = .ok (.putfield 161, 3) := by decide +kernel
theorem d_C_close_46 : decode b_C_close 46 = .ok (.aload_n 0, 1) := by decide +kernel
theorem d_C_close_47 : decode b_C_close 47 = .ok (.getfield 155, 3) := by decide +kernel
theorem d_C_close_50 : decode b_C_close 50 = .ok (.aload_n 0, 1) := by decide +kernel
theorem d_C_close_51 : decode b_C_close 51 = .ok (.getfield 81, 3) := by decide +kernel
theorem d_C_close_54 : decode b_C_close 54 = .ok (.iconst 2, 1) := by decide +kernel
theorem d_C_close_55 : decode b_C_close 55 = .ok (.isub, 1) := by decide +kernel
theorem d_C_close_56 : decode b_C_close 56 = .ok (.if_icmp .ne 7, 3) := by decide +kernel
theorem d_C_close_59 : decode b_C_close 59 = .ok (.iconst 1, 1) := by decide +kernel
theorem d_C_close_60 : decode b_C_close 60 = .ok (.goto 4, 3) := by decide +kernel
theorem d_C_close_63 : decode b_C_close 63 = .ok (.iconst 0, 1) := by decide +kernel
theorem d_C_close_64 : decode b_C_close 64 = .ok (.ireturn, 1) := by decide +kernel
theorem d_C_close_65 : decode b_C_close 65 = .ok (.aload_n 0, 1) := by decide +kernel
theorem d_C_close_66 : decode b_C_close 66 = .ok (.getfield 54, 3) := by decide +kernel
theorem d_C_close_69 : decode b_C_close 69 = .ok (.aload_n 0, 1) := by decide +kernel
theorem d_C_close_70 : decode b_C_close 70 = .ok (.getfield 158, 3) := by decide +kernel
theorem d_C_close_73 : decode b_C_close 73 = .ok (.iconst 1, 1) := by decide +kernel
theorem d_C_close_74 : decode b_C_close 74 = .ok (.isub, 1) := by decide +kernel
theorem d_C_close_75 : decode b_C_close 75 = .ok (.iaload, 1) := by decide +kernel
theorem d_C_close_76 : decode b_C_close 76 = .ok (.istore_n 1, 1) := by decide +kernel
theorem d_C_close_77 : decode b_C_close 77 = .ok (.aload_n 0, 1) := by decide +kernel
theorem d_C_close_78 : decode b_C_close 78 = .ok (.getfield 54, 3) := by decide +kernel
theorem d_C_close_81 : decode b_C_close 81 = .ok (.aload_n 0, 1) := by decide +kernel
theorem d_C_close_82 : decode b_C_close 82 = .ok (.getfield 158, 3) := by decide +kernel
theorem d_C_close_85 : decode b_C_close 85 = .ok (.iconst 1, 1) := by decide +kernel
theorem d_C_close_86 : decode b_C_close 86 = .ok (.isub, 1) := by decide +kernel
theorem d_C_close_87 : decode b_C_close 87 = .ok (.iload_n 1, 1) := by decide +kernel
theorem d_C_close_88 : decode b_C_close 88 = .ok (.ineg, 1) := by decide +kernel
theorem d_C_close_89 : decode b_C_close 89 = .ok (.iastore, 1) := by decide +kernel
theorem d_C_close_90 : decode b_C_close 90 = .ok (.aload_n 0, 1) := by decide +kernel
theorem d_C_close_91 : decode b_C_close 91 = .ok (.getfield 51, 3) := by decide +kernel
theorem d_C_close_94 : decode b_C_close 94 = .ok (.aload_n 0, 1) := by decide +kernel
theorem d_C_close_95 : decode b_C_close 95 = .ok (.getfield 57, 3) := by decide +kernel
theorem d_C_close_98 : decode b_C_close 98 = .ok (.aload_n 0, 1) := by decide +kernel
theorem d_C_close_99 : decode b_C_close 99 = .ok (.getfield 158, 3) := by decide +kernel
theorem d_C_close_102 : decode b_C_close 102 = .ok (.iconst 1, 1) := by decide +kernel
theorem d_C_close_103 : decode b_C_close 103 = .ok (.isub, 1) := by decide +kernel
theorem d_C_close_104 : decode b_C_close 104 = .ok (.iaload, 1) := by decide +kernel
theorem d_C_close_105 : decode b_C_close 105 = .ok (.invokevirtual 140, 3) := by decide +kernel
theorem d_C_close_108 : decode b_C_close 108 = .ok (.aload_n 0, 1) := by decide +kernel
theorem d_C_close_109 : decode b_C_close 109 = .ok (.iload_n 1, 1) := by decide +kernel
theorem d_C_close_110 : decode b_C_close 110 = .ok (.iconst 1, 1) := by decide +kernel
theorem d_C_close_111 : decode b_C_close 111 = .ok (.invokevirtual 183, 3) := by decide +kernel
theorem d_C_close_114 : decode b_C_close 114 = .ok (.iconst 2, 1) := by decide +kernel
theorem d_C_close_115 : decode b_C_close 115 = .ok (.ireturn, 1) := by decide +kernel
set_option maxHeartbeats 4000000 in
set_option maxRecDepth 100000 in
theorem c_C_close (l : Launch) (D : va_G) (g : Nat → ClassId) (a : Nat → Nat) (P : Nat → Nat → Int32) (I : Nat → Int32) (F : Nat → Nat → Int32) (B0 B1 : BS) {n k : Nat} (hp : PWF P n k) (h5 : I 5 = nI n) {len : Nat} {lim : Option Int} (hB : BI P n B1 len) (hL : BL B1 lim) {wt at' ll : Nat} {rest : List ND} (h24 : I 24 = nI wt) (hwt : wt ≤ 400) (hW : RW (F 4) (F 5) (F 6) (GL B1 len) rest wt len) (h28 : I 28 = nI at') (hat : at' ≤ 400) (h14 : I 14 = nI ll) (hl2 : 2 ≤ ll) (hl4 : ll ≤ 400) : Ct l D g y_C_close b_C_close 2 (some .int) 5 [.ref (a 0)] (CW a g P I F B0 B1) (fun r w => (rest = [] ∧ r = some (.int (if at' = ll - 2 then 1 else 0)) ∧ ∃ I2, w = CW a g P I2 F B0 B1 ∧ FrI [24, 26] I I2) ∨ (∃ c rest2, rest = c :: rest2 ∧ r = some (.int 2) ∧ ∃ I2 F2 B2 len2 wt2, w = CW a g P I2 F2 B0 B2 ∧ I2 25 = bZ (c.bind (stl P n lim)).isNone ∧ BI P n B2 len2 ∧ BL B2 lim ∧ (∀ b, c.bind (stl P n lim) = some b → B2.1 = b) ∧ I2 24 = nI wt2 ∧ wt2 ≤ wt ∧ RW (F2 4) (F2 5) (F2 6) (GL B2 len2) rest2 wt2 len2 ∧ FrI [24, 25] I I2 ∧ FrF [4] F F2)) := by
  refine Ct.of (lv := [(0, _)]) (by decide) rfl (Nat.le_of_ble_eq_true rfl) rfl ?_
  intro G K
  have J0 : ∀ (N : Nat) (w1 : Nat) (L1 : Nat) (I1 : Nat → Int32), w1 < N → (RW (F 4) (F 5) (F 6) (GL B1 len) rest w1 L1) → (L1 ≤ len) → (I1 24 = nI w1) → (w1 ≤ wt) → (FrI [24] I I1) → G 0 [(0, .ref (a 0))] [] (CW a g P I1 F B0 B1) := by
    intro N
    induction N with
    | zero => intro w1 L1 I1 hm; exact absurd hm (Nat.not_lt_zero _)
    | succ N ih0 =>
      intro w1 L1 I1 hm0 hW1 hL1 h241 hw1 hIr
      have J34 : ((w1 = 0 ∧ rest = []) ∨ (∃ w L v d rest2, w1 = w + 1 ∧ L ≤ len ∧ F 5 w = nI L ∧ 1 ≤ v ∧ v ≤ 16 ∧ F 4 w = nI v ∧ F 6 w = bZ d ∧ rest = chO (cond d none (some (GL B1 len L))) v :: rest2 ∧ RW (F 4) (F 5) (F 6) (GL B1 len) rest2 w L)) → G 34 [(0, .ref (a 0))] [] (CW a g P I1 F B0 B1) := by
        intro  hE
        refine g_aload_n K 0 d_C_close_34 rfl ?_
        refine gC_get K 24 fl_C_158 (by decide) rfl d_C_close_35 ?_
        refine g_if_ne K (tgt := 65) d_C_close_38 (by decide) (fun c38 => ?_) (fun c38 => ?_)
        · obtain ⟨w, L, v, d, rest2, rfl, e2, e3, e4, e5, e6, e7, e8, e9⟩ := hE.resolve_left (fun h => c38 (by rw [h241, h.1]; rfl))
          refine g_aload_n K 0 d_C_close_65 rfl ?_
          refine gC_get K 21 fl_C_54 (by decide) rfl d_C_close_66 ?_
          refine g_aload_n K 0 d_C_close_69 rfl ?_
          refine gC_get K 24 fl_C_158 (by decide) rfl d_C_close_70 ?_
          refine g_iconst K (v := 1) d_C_close_73 (by decide) ?_
          refine g_isub K d_C_close_74 ?_
          refine g_iald K 18 (w) rfl (show _ = nI w from (congrArg (· - 1) h241).trans (nI_pred w)) (by omega) d_C_close_75 ?_
          refine g_top K e6 ?_
          refine g_istore_n (lv' := [(1, _), (0, _)]) K d_C_close_76 (by decide) rfl ?_
          refine g_aload_n K 1 d_C_close_77 rfl ?_
          refine gC_get K 21 fl_C_54 (by decide) rfl d_C_close_78 ?_
          refine g_aload_n K 1 d_C_close_81 rfl ?_
          refine gC_get K 24 fl_C_158 (by decide) rfl d_C_close_82 ?_
          refine g_iconst K (v := 1) d_C_close_85 (by decide) ?_
          refine g_isub K d_C_close_86 ?_
          refine g_iload_n K 0 d_C_close_87 rfl ?_
          refine g_ineg K d_C_close_88 ?_
          refine gC_ast_waiting K (w) (show _ = nI w from (congrArg (· - 1) h241).trans (nI_pred w)) (by omega) d_C_close_89 ?_
          refine g_aload_n K 1 d_C_close_90 rfl ?_
          refine gC_get K 20 fl_C_51 (by decide) rfl d_C_close_91 ?_
          refine g_aload_n K 1 d_C_close_94 rfl ?_
          refine gC_get K 22 fl_C_57 (by decide) rfl d_C_close_95 ?_
          refine g_aload_n K 1 d_C_close_98 rfl ?_
          refine gC_get K 24 fl_C_158 (by decide) rfl d_C_close_99 ?_
          refine g_iconst K (v := 1) d_C_close_102 (by decide) ?_
          refine g_isub K d_C_close_103 ?_
          refine g_iald K 19 (w) rfl (show _ = nI w from (congrArg (· - 1) h241).trans (nI_pred w)) (by omega) d_C_close_104 ?_
          refine g_top K e3 ?_
          refine g_callB1 K (c_B_back l D g a (a 14) (a 15) (a 16) (a 17) (CF a I1) P B1 (FSn ((hIr 5 (by decide)).trans h5)) hp hB (to := L) e2) mf_B_back im_B_back se_B_back ml_C_140 (by decide) (Nat.le_of_ble_eq_true rfl) d_C_close_105 (fun v B hq => ?_) rfl
          obtain ⟨rfl, b1, b2, b3, b4⟩ := hq
          refine g_rv ?_
          refine g_aload_n K 1 d_C_close_108 rfl ?_
          refine g_iload_n K 0 d_C_close_109 rfl ?_
          refine g_iconst K (v := 1) d_C_close_110 (by decide) ?_
          refine g_callW (q0 := 0) K (c_C_side l D g a P I1 (va_up F 4 (upd (F 4) w (-nI v))) B0 B hp ((hIr 5 (by decide)).trans h5) b3 (hL.of b4) (q := w) e4 e5 true d h241 (by omega) e7) mf_C_side im_C_side se_C_side ml_C_183 (by decide) rfl rfl (Nat.le_of_ble_eq_true rfl) d_C_close_111 (fun v w1 hq => ?_) rfl
          obtain ⟨rfl, I3, B3, len3, rfl, w1, w2, w3, w4, w5, w6, w7⟩ := hq
          refine g_rv ?_
          refine g_iconst K (v := 2) d_C_close_114 (by decide) ?_
          refine g_iret K d_C_close_115 (Or.inr ⟨_, rest2, e8, rfl, I3, _, B3, len3, w + 1, rfl, ?_, w2, w3, ?_, (w7 24 (by decide)).trans h241, by omega, ?_, (hIr.m (by decide)).t (w7.m (by decide)), FrF.rf.u (by decide)⟩)
          · rw [show GL B1 len L = B.1 from b1.symm]; exact w1
          · rw [show GL B1 len L = B.1 from b1.symm]; exact w4
          · refine ⟨L, by omega, e3, Or.inl ⟨?_, e9.congr (Nat.le_refl L) (fun j hj => ⟨upd_n (by omega), rfl, rfl⟩) (fun L9 hL9 => ?_)⟩⟩
            · show upd (F 4) w (-nI v) w < 0
              rw [upd_s, i_lt, i_0, sb_negT (by omega)]; omega
            · rw [w6 L9 hL9]
              show un B.2.1 L9 L B.1 = un B1.2.1 L9 len B1.1
              rw [b1, b2, un_un hL9 e2]
        · have e0 : rest = [] := by rcases hE with h | ⟨w, L, v, d, rest2, h, -⟩; exact h.2; exact absurd (h241.symm.trans c38) (by rw [h]; exact nI_ne0 (by omega) (by omega))
          refine g_aload_n K 0 d_C_close_41 rfl ?_
          refine g_iconst K (v := 1) d_C_close_42 (by decide) ?_
          refine gC_put_closed K true rfl fl_C_161 d_C_close_43 ?_
          refine g_aload_n K 0 d_C_close_46 rfl ?_
          refine gC_get K 28 fl_C_155 (by decide) rfl d_C_close_47 ?_
          refine g_aload_n K 0 d_C_close_50 rfl ?_
          refine gC_get K 14 fl_C_81 (by decide) rfl d_C_close_51 ?_
          refine g_iconst K (v := 2) d_C_close_54 (by decide) ?_
          refine g_isub K d_C_close_55 ?_
          refine g_top K (show _ = nI (ll - 2) from (congrArg (· - 2) ((hIr 14 (by decide)).trans h14)).trans (pk_sub (b := 2) hl2)) ?_
          refine g_icmp_ne K (tgt := 63) d_C_close_56 (by decide) (fun c56 => ?_) (fun c56 => ?_)
          · have c56 : ¬ nI at' = nI (ll - 2) := fun z => c56 (((hIr 28 (by decide)).trans h28).trans z)
            refine g_iconst K (v := 0) d_C_close_63 (by decide) ?_
            refine g_iret K d_C_close_64 (Or.inl ⟨e0, ?_, _, rfl, (hIr.m (by decide)).u (by decide)⟩)
            first | rw [if_pos (nI_inj (by omega) (by omega) c56)] | rw [if_neg (fun z => c56 (by rw [z]))]
          · have c56 : nI at' = nI (ll - 2) := ((hIr 28 (by decide)).trans h28).symm.trans c56
            refine g_iconst K (v := 1) d_C_close_59 (by decide) ?_
            refine g_goto K (tgt := 64) d_C_close_60 (by decide) ?_
            refine g_iret K d_C_close_64 (Or.inl ⟨e0, ?_, _, rfl, (hIr.m (by decide)).u (by decide)⟩)
            first | rw [if_pos (nI_inj (by omega) (by omega) c56)] | rw [if_neg (fun z => c56 (by rw [z]))]
      refine g_aload_n K 0 d_C_close_0 rfl ?_
      refine gC_get K 24 fl_C_158 (by decide) rfl d_C_close_1 ?_
      refine g_if_le K (tgt := 34) d_C_close_4 (by decide) (fun c4 => ?_) (fun c4 => ?_)
      · have hz : w1 = 0 := by rw [h241, i_le, i_0, nI_toInt (by omega)] at c4; omega
        refine g_lv K [0] rfl (J34 (Or.inl ⟨hz, by subst hz; exact hW1⟩))
      · obtain ⟨w, rfl⟩ : ∃ w, w1 = w + 1 := ⟨w1 - 1, by rw [h241, i_le, i_0, nI_toInt (by omega)] at c4; omega⟩
        obtain ⟨L, l1, l2, hcase⟩ := hW1
        refine g_aload_n K 0 d_C_close_7 rfl ?_
        refine gC_get K 21 fl_C_54 (by decide) rfl d_C_close_8 ?_
        refine g_aload_n K 0 d_C_close_11 rfl ?_
        refine gC_get K 24 fl_C_158 (by decide) rfl d_C_close_12 ?_
        refine g_iconst K (v := 1) d_C_close_15 (by decide) ?_
        refine g_isub K d_C_close_16 ?_
        refine g_iald K 18 (w) rfl (show _ = nI w from (congrArg (· - 1) h241).trans (nI_pred w)) (by omega) d_C_close_17 ?_
        refine g_if_ge K (tgt := 34) d_C_close_18 (by decide) (fun c18 => ?_) (fun c18 => ?_)
        · obtain ⟨v, v1, v2, v3, d, d1, rest2, er, hW2⟩ := hcase.resolve_left (fun h => by have h9 := h.1; rw [i_lt, i_0] at h9; rw [i_le, i_0] at c18; omega)
          refine g_lv K [0] rfl (J34 (Or.inr ⟨w, L, v, d, rest2, rfl, by omega, l2, v1, v2, v3, d1, er, hW2⟩))
        · have hneg := hcase.resolve_right (fun ⟨v, v1, v2, v3, _⟩ => c18 (by rw [v3, i_le, i_0, nI_toInt (by omega)]; omega))
          refine g_aload_n K 0 d_C_close_21 rfl ?_
          refine g_dup K d_C_close_22 rfl ?_
          refine gC_get K 24 fl_C_158 (by decide) rfl d_C_close_23 ?_
          refine g_iconst K (v := 1) d_C_close_26 (by decide) ?_
          refine g_isub K d_C_close_27 ?_
          refine g_top K (show _ = nI w from (congrArg (· - 1) h241).trans (nI_pred w)) ?_
          refine gC_put_waits K fl_C_158 d_C_close_28 ?_
          refine g_goto K (tgt := 0) d_C_close_31 (by decide) ?_
          refine g_lv K [0] rfl (ih0 w L _ (by omega) hneg.2 (by omega) rfl (by omega) (hIr.u (by decide)))
  refine g_lv K [0] rfl (J0 _ wt len I (Nat.lt_succ_self _) hW (Nat.le_refl _) h24 (Nat.le_refl _) FrI.rf)
end
section
def RC3 (P : Nat → Nat → Int32) (n : Nat) (lim : Option Int) (at' : Nat) (st : List ND) (I : Nat → Int32) (F : Nat → Nat → Int32) (B1 : BS) : Prop := ∃ x rest len wt, st = x :: rest ∧ I 28 = nI at' ∧ at' ≤ 400 ∧ I 26 = bZ false ∧ I 25 = bZ (Option.bind x (stl P n lim)).isNone ∧ BI P n B1 len ∧ BL B1 lim ∧ (∀ b, Option.bind x (stl P n lim) = some b → B1.1 = b) ∧ I 24 = nI wt ∧ wt ≤ at' ∧ RW (F 4) (F 5) (F 6) (GL B1 len) rest wt len
theorem par_eq {y : ND} {a : Nat → Int32} (h : ∀ b, y = some b → a = b) : cond y.isNone none (some a) = y := by
  cases y with
  | none => rfl
  | some b => show some a = some b; rw [h b rfl]
theorem GL_self {B : BS} {len : Nat} : GL B len len = B.1 := un_le (Nat.le_refl _)
theorem lookA_c (P : Nat → Nat → Int32) (n : Nat) (log : Nat → Int32) (ll : Nat) : (lookA P n log ll).1 = 2 ∨ (lookA P n log ll).1 = 0 := by
  unfold lookA
  split
  · exact Or.inr rfl
  · split
    · exact Or.inl rfl
    · exact Or.inr rfl
theorem i64_1 (x : Int32) : x.toInt64 - 1 = Int64.ofInt (x.toInt - 1) := by
  rw [Int64.ofInt_sub, Int64.ofInt_int32ToInt]; rfl
theorem d_C_word_0 : decode b_C_word 0 = .ok (.aload_n 0, 1) := by decide +kernel
theorem d_C_word_1 : decode b_C_word 1 = .ok (.getfield 161, 3) := by decide +kernel
theorem d_C_word_4 : decode b_C_word 4 = .ok (.ifCond .eq 22, 3) := by decide +kernel
theorem d_C_word_7 : decode b_C_word 7 = .ok (.aload_n 0, 1) := by decide +kernel
theorem d_C_word_8 : decode b_C_word 8 = .ok (.getfield 155, 3) := by decide +kernel
theorem d_C_word_11 : decode b_C_word 11 = .ok (.aload_n 0, 1) := by decide +kernel
theorem d_C_word_12 : decode b_C_word 12 = .ok (.getfield 81, 3) := by decide +kernel
theorem d_C_word_15 : decode b_C_word 15 = .ok (.iconst 2, 1) := by decide +kernel
theorem d_C_word_16 : decode b_C_word 16 = .ok (.isub, 1) := by decide +kernel
theorem d_C_word_17 : decode b_C_word 17 = .ok (.if_icmp .ne 7, 3) := by decide +kernel
theorem d_C_word_20 : decode b_C_word 20 = .ok (.iconst 1, 1) := by decide +kernel
theorem d_C_word_21 : decode b_C_word 21 = .ok (.goto 4, 3) := by decide +kernel
theorem d_C_word_24 : decode b_C_word 24 = .ok (.iconst 0, 1) := by decide +kernel
theorem d_C_word_25 : decode b_C_word 25 = .ok (.ireturn, 1) := by decide +kernel
theorem d_C_word_26 : decode b_C_word 26 = .ok (.aload_n 0, 1) := by decide +kernel
theorem d_C_word_27 : decode b_C_word 27 = .ok (.getfield 155, 3) := by decide +kernel
theorem d_C_word_30 : decode b_C_word 30 = .ok (.aload_n 0, 1) := by decide +kernel
theorem d_C_word_31 : decode b_C_word 31 = .ok (.getfield 81, 3) := by decide +kernel
theorem d_C_word_34 : decode b_C_word 34 = .ok (.iconst 2, 1) := by decide +kernel
theorem d_C_word_35 : decode b_C_word 35 = .ok (.isub, 1) := by decide +kernel
theorem d_C_word_36 : decode b_C_word 36 = .ok (.if_icmp .lt 5, 3) := by decide +kernel
theorem d_C_word_39 : decode b_C_word 39 = .ok (.iconst 0, 1) := by decide +kernel
theorem d_C_word_40 : decode b_C_word 40 = .ok (.ireturn, 1) := by decide +kernel
theorem d_C_word_41 : decode b_C_word 41 = .ok (.aload_n 0, 1) := by decide +kernel
theorem d_C_word_42 : decode b_C_word 42 = .ok (.getfield 44, 3) := by decide +kernel
theorem d_C_word_45 : decode b_C_word 45 = .ok (.aload_n 0, 1) := by decide +kernel
theorem d_C_word_46 : decode b_C_word 46 = .ok (.getfield 155, 3) := by decide +kernel
theorem d_C_word_49 : decode b_C_word 49 = .ok (.iaload, 1) := by decide +kernel
theorem d_C_word_50 : decode b_C_word 50 = .ok (.istore_n 1, 1) := by decide +kernel
theorem d_C_word_51 : decode b_C_word 51 = .ok (.aload_n 0, 1) := by decide +kernel
theorem d_C_word_52 : decode b_C_word 52 = .ok (.dup, 1) := by decide +kernel
theorem d_C_word_53 : decode b_C_word 53 = .ok (.getfield 155, 3) := by decide +kernel
theorem d_C_word_56 : decode b_C_word 56 = .ok (.iconst 1, 1) := by decide +kernel
theorem d_C_word_57 : decode b_C_word 57 = .ok (.iadd, 1) := by decide +kernel
theorem d_C_word_58 : decode b_C_word 58 = .ok (.putfield 155, 3) := by decide +kernel
theorem d_C_word_61 : decode b_C_word 61 = .ok (.iload_n 1, 1) := by decide +kernel
theorem d_C_word_62 : decode b_C_word 62 = .ok (.ifCond .ne 19, 3) := by decide +kernel
theorem d_C_word_65 : decode b_C_word 65 = .ok (.aload_n 0, 1) := by decide +kernel
theorem d_C_word_66 : decode b_C_word 66 = .ok (.getfield 172, 3) := by decide +kernel
theorem d_C_word_69 : decode b_C_word 69 = .ok (.ifCond .eq 10, 3) := by decide +kernel
theorem d_C_word_72 : decode b_C_word 72 = .ok (.aload_n 0, 1) := by decide +kernel
theorem d_C_word_73 : decode b_C_word 73 = .ok (.invokevirtual 180, 3) := by decide +kernel
theorem d_C_word_76 : decode b_C_word 76 = .ok (.goto 4, 3) := by decide +kernel
theorem d_C_word_79 : decode b_C_word 79 = .ok (.iconst 0, 1) := by decide +kernel
theorem d_C_word_80 : decode b_C_word 80 = .ok (.ireturn, 1) := by decide +kernel
theorem d_C_word_81 : decode b_C_word 81 = .ok (.iload_n 1, 1) := by decide +kernel
theorem d_C_word_82 : decode b_C_word 82 = .ok (.invokestatic 70, 3) := by decide +kernel
theorem d_C_word_85 : decode b_C_word 85 = .ok (.ifCond .ne 5, 3) := by decide +kernel
theorem d_C_word_88 : decode b_C_word 88 = .ok (.iconst 0, 1) := by decide +kernel
theorem d_C_word_89 : decode b_C_word 89 = .ok (.ireturn, 1) := by decide +kernel
theorem d_C_word_90 : decode b_C_word 90 = .ok (.aload_n 0, 1) := by decide +kernel
theorem d_C_word_91 : decode b_C_word 91 = .ok (.getfield 54, 3) := by decide +kernel
theorem d_C_word_94 : decode b_C_word 94 = .ok (.aload_n 0, 1) := by decide +kernel
theorem d_C_word_95 : decode b_C_word 95 = .ok (.getfield 158, 3) := by decide +kernel
theorem d_C_word_98 : decode b_C_word 98 = .ok (.iload_n 1, 1) := by decide +kernel
theorem d_C_word_99 : decode b_C_word 99 = .ok (.iastore, 1) := by decide +kernel
theorem d_C_word_100 : decode b_C_word 100 = .ok (.aload_n 0, 1) := by decide +kernel
theorem d_C_word_101 : decode b_C_word 101 = .ok (.getfield 57, 3) := by decide +kernel
theorem d_C_word_104 : decode b_C_word 104 = .ok (.aload_n 0, 1) := by decide +kernel
theorem d_C_word_105 : decode b_C_word 105 = .ok (.getfield 158, 3) := by decide +kernel
theorem d_C_word_108 : decode b_C_word 108 = .ok (.aload_n 0, 1) := by decide +kernel
theorem d_C_word_109 : decode b_C_word 109 = .ok (.getfield 51, 3) := by decide +kernel
theorem d_C_word_112 : decode b_C_word 112 = .ok (.getfield 137, 3) := by decide +kernel
theorem d_C_word_115 : decode b_C_word 115 = .ok (.iastore, 1) := by decide +kernel
theorem d_C_word_116 : decode b_C_word 116 = .ok (.aload_n 0, 1) := by decide +kernel
theorem d_C_word_117 : decode b_C_word 117 = .ok (.getfield 60, 3) := by decide +kernel
theorem d_C_word_120 : decode b_C_word 120 = .ok (.aload_n 0, 1) := by decide +kernel
theorem d_C_word_121 : decode b_C_word 121 = .ok (.getfield 158, 3) := by decide +kernel
theorem d_C_word_124 : decode b_C_word 124 = .ok (.aload_n 0, 1) := by decide +kernel
theorem d_C_word_125 : decode b_C_word 125 = .ok (.getfield 172, 3) := by decide +kernel
theorem d_C_word_128 : decode b_C_word 128 = .ok (.bastore, 1) := by decide +kernel
theorem d_C_word_129 : decode b_C_word 129 = .ok (.aload_n 0, 1) := by decide +kernel
theorem d_C_word_130 : decode b_C_word 130 = .ok (.dup, 1) := by decide +kernel
theorem d_C_word_131 : decode b_C_word 131 = .ok (.getfield 158, 3) := by decide +kernel
theorem d_C_word_134 : decode b_C_word 134 = .ok (.iconst 1, 1) := by decide +kernel
theorem d_C_word_135 : decode b_C_word 135 = .ok (.iadd, 1) := by decide +kernel
theorem d_C_word_136 : decode b_C_word 136 = .ok (.putfield 158, 3) := by decide +kernel
theorem d_C_word_139 : decode b_C_word 139 = .ok (.aload_n 0, 1) := by decide +kernel
theorem d_C_word_140 : decode b_C_word 140 = .ok (.iload_n 1, 1) := by decide +kernel
theorem d_C_word_141 : decode b_C_word 141 = .ok (.iconst 0, 1) := by decide +kernel
theorem d_C_word_142 : decode b_C_word 142 = .ok (.invokevirtual 183, 3) := by decide +kernel
theorem d_C_word_145 : decode b_C_word 145 = .ok (.iconst 2, 1) := by decide +kernel
theorem d_C_word_146 : decode b_C_word 146 = .ok (.ireturn, 1) := by decide +kernel
set_option maxHeartbeats 4000000 in
set_option maxRecDepth 100000 in
theorem c_C_word (l : Launch) (D : va_G) (g : Nat → ClassId) (a : Nat → Nat) (P : Nat → Nat → Int32) (I : Nat → Int32) (F : Nat → Nat → Int32) (B0 B1 : BS) {n k : Nat} (hp : PWF P n k) (h5 : I 5 = nI n) {ll : Nat} (h14 : I 14 = nI ll) (hl4 : ll ≤ 400) (hl2 : 2 ≤ ll) {at' : Nat} {st : List ND} (hK : RC3 P n (limC (F 3 (ll - 2))) at' st I F B1) : Ct l D g y_C_word b_C_word 2 (some .int) 6 [.ref (a 0)] (CW a g P I F B0 B1) (fun r w => r = some (.int (wordA P n (F 3) ll at' st).1) ∧ ∃ I2 F2 B2, w = CW a g P I2 F2 B0 B2 ∧ ((wordA P n (F 3) ll at' st).1 = 2 → RC3 P n (limC (F 3 (ll - 2))) (wordA P n (F 3) ll at' st).2.1 (wordA P n (F 3) ll at' st).2.2 I2 F2 B2) ∧ FrI [24, 25, 26, 28] I I2 ∧ FrF [4, 5, 6] F F2) := by
  refine Ct.of (lv := [(0, _)]) (by decide) rfl (Nat.le_of_ble_eq_true rfl) rfl ?_
  intro G K
  obtain ⟨x, rest, len, wt, rfl, k28, k4, k26, k25, kB, kL, kE, k24, kw, kW⟩ := hK
  refine g_aload_n K 0 d_C_word_0 rfl ?_
  refine gC_get K 26 fl_C_161 (by decide) rfl d_C_word_1 ?_
  refine g_if_eq K (tgt := 26) d_C_word_4 (by decide) (fun c4 => ?_) (fun c4 => ?_)
  · refine g_aload_n K 0 d_C_word_26 rfl ?_
    refine gC_get K 28 fl_C_155 (by decide) rfl d_C_word_27 ?_
    refine g_aload_n K 0 d_C_word_30 rfl ?_
    refine gC_get K 14 fl_C_81 (by decide) rfl d_C_word_31 ?_
    refine g_iconst K (v := 2) d_C_word_34 (by decide) ?_
    refine g_isub K d_C_word_35 ?_
    refine g_top K (show _ = nI (ll - 2) from (congrArg (· - 2) h14).trans (pk_sub (b := 2) hl2)) ?_
    refine g_icmp_lt K (tgt := 41) d_C_word_36 (by decide) (fun c36 => ?_) (fun c36 => ?_)
    · have hlt : at' + 2 < ll := by have c : nI at' < nI (ll - 2) := k28 ▸ c36; have := (nI_ltI (by omega) (by omega)).mp c; omega
      refine g_aload_n K 0 d_C_word_41 rfl ?_
      refine gC_get K 13 fl_C_44 (by decide) rfl d_C_word_42 ?_
      refine g_aload_n K 0 d_C_word_45 rfl ?_
      refine gC_get K 28 fl_C_155 (by decide) rfl d_C_word_46 ?_
      refine g_iald K 13 (at') rfl k28 (by omega) d_C_word_49 ?_
      refine g_istore_n (lv' := [(1, _), (0, _)]) K d_C_word_50 (by decide) rfl ?_
      refine g_aload_n K 1 d_C_word_51 rfl ?_
      refine g_dup K d_C_word_52 rfl ?_
      refine gC_get K 28 fl_C_155 (by decide) rfl d_C_word_53 ?_
      refine g_iconst K (v := 1) d_C_word_56 (by decide) ?_
      refine g_iadd K d_C_word_57 ?_
      refine g_top K (show _ = nI (at' + 1) from (congrArg (· + 1) k28).trans (nI_1 at')) ?_
      refine gC_put_at K fl_C_155 d_C_word_58 ?_
      refine g_iload_n K 0 d_C_word_61 rfl ?_
      refine g_if_ne K (tgt := 81) d_C_word_62 (by decide) (fun c62 => ?_) (fun c62 => ?_)
      · refine g_iload_n K 0 d_C_word_81 rfl ?_
        refine g_callS K (c_C_isVariable l D g (F 3 at')) mf_C_isVariable is_C_isVariable ml_C_70 (by decide) (Nat.le_of_ble_eq_true rfl) d_C_word_82 (fun v hq => ?_) rfl
        obtain ⟨rfl, -⟩ := hq
        refine g_ri ?_
        refine g_if_ne K (tgt := 90) d_C_word_85 (by decide) (fun c85 => ?_) (fun c85 => ?_)
        · have e85 := of_decide_eq_true (bZ_t c85)
          obtain ⟨hw, v1, v2⟩ := vx_of e85
          refine g_aload_n K 1 d_C_word_90 rfl ?_
          refine gC_get K 21 fl_C_54 (by decide) rfl d_C_word_91 ?_
          refine g_aload_n K 1 d_C_word_94 rfl ?_
          refine gC_get K 24 fl_C_158 (by decide) rfl d_C_word_95 ?_
          refine g_iload_n K 0 d_C_word_98 rfl ?_
          refine gC_ast_waiting K (wt) k24 (by omega) d_C_word_99 ?_
          refine g_aload_n K 1 d_C_word_100 rfl ?_
          refine gC_get K 22 fl_C_57 (by decide) rfl d_C_word_101 ?_
          refine g_aload_n K 1 d_C_word_104 rfl ?_
          refine gC_get K 24 fl_C_158 (by decide) rfl d_C_word_105 ?_
          refine g_aload_n K 1 d_C_word_108 rfl ?_
          refine gC_get K 20 fl_C_51 (by decide) rfl d_C_word_109 ?_
          refine g_getN K 14 (ci := 0) (k := 3) i_B rfl rfl (by decide) fn_C_137 rfl d_C_word_112 ?_
          refine g_top K kB.1 ?_
          refine gC_ast_lengths K (wt) k24 (by omega) d_C_word_115 ?_
          refine g_aload_n K 1 d_C_word_116 rfl ?_
          refine gC_get K 23 fl_C_60 (by decide) rfl d_C_word_117 ?_
          refine g_aload_n K 1 d_C_word_120 rfl ?_
          refine gC_get K 24 fl_C_158 (by decide) rfl d_C_word_121 ?_
          refine g_aload_n K 1 d_C_word_124 rfl ?_
          refine gC_get K 25 fl_C_172 (by decide) rfl d_C_word_125 ?_
          refine gC_ast_dead K (wt) (x.bind (stl P n (limC (F 3 (ll - 2))))).isNone k25 k24 (by omega) d_C_word_128 ?_
          refine g_aload_n K 1 d_C_word_129 rfl ?_
          refine g_dup K d_C_word_130 rfl ?_
          refine gC_get K 24 fl_C_158 (by decide) rfl d_C_word_131 ?_
          refine g_iconst K (v := 1) d_C_word_134 (by decide) ?_
          refine g_iadd K d_C_word_135 ?_
          refine g_top K (show _ = nI (wt + 1) from (congrArg (· + 1) k24).trans (nI_1 wt)) ?_
          refine gC_put_waits K fl_C_158 d_C_word_136 ?_
          refine g_aload_n K 1 d_C_word_139 rfl ?_
          refine g_iload_n K 0 d_C_word_140 rfl ?_
          refine g_top K hw ?_
          refine g_iconst K (v := 0) d_C_word_141 (by decide) ?_
          refine g_callW (q0 := 0) K (c_C_side l D g a P (upd (upd I 28 (nI (at' + 1))) 24 (nI (wt + 1))) (va_up (va_up (va_up F 4 (upd (F 4) wt (F 3 at'))) 5 (upd (F 5) wt (nI len))) 6 (upd (F 6) wt (bZ (x.bind (stl P n (limC (F 3 (ll - 2))))).isNone))) B0 B1 hp h5 kB kL (v := vx (F 3 at')) (q := wt) v1 v2 false (x.bind (stl P n (limC (F 3 (ll - 2))))).isNone rfl (by omega) upd_s) mf_C_side im_C_side se_C_side ml_C_183 (by decide) rfl rfl (Nat.le_of_ble_eq_true rfl) d_C_word_142 (fun v w1 hq => ?_) rfl
          obtain ⟨rfl, I2, B2, len2, rfl, w1, w2, w3, w4, w5, w6, w7⟩ := hq
          rw [par_eq kE] at w1 w4
          refine g_rv ?_
          refine g_iconst K (v := 2) d_C_word_145 (by decide) ?_
          refine g_iret K d_C_word_146 (⟨by rw [wordA_v hlt e85], I2, _, B2, rfl, fun _ => ?_, ((FrI.rf.u (by decide)).u (by decide)).t (w7.m (by decide)), ((FrF.rf.u (by decide)).u (by decide)).u (by decide)⟩)
          rw [wordA_v hlt e85]
          refine ⟨_, _, len2, wt + 1, rfl, (w7 28 (by decide)).trans rfl, by show at' + 1 ≤ 400; omega, (w7 26 (by decide)).trans k26, w1, w2, w3, w4, (w7 24 (by decide)).trans rfl, by show wt + 1 ≤ at' + 1; omega, ?_⟩
          refine ⟨len, w5, upd_s, Or.inr ⟨vx (F 3 at'), v1, v2, ?_, (x.bind (stl P n (limC (F 3 (ll - 2))))).isNone, upd_s, rest, ?_, kW.congr (Nat.le_refl _) (fun j hj => ⟨upd_n (by omega), upd_n (by omega), upd_n (by omega)⟩) w6⟩⟩
          · show upd (F 4) wt (F 3 at') wt = _
            rw [upd_s]; exact hw
          · rw [w6 len (Nat.le_refl _), GL_self, par_eq kE]
        · have e85 := of_decide_eq_false (bZ_f c85)
          refine g_iconst K (v := 0) d_C_word_88 (by decide) ?_
          refine g_iret K d_C_word_89 (⟨by rw [wordA_n hlt c62 e85], _, _, _, rfl, fun e => by rw [wordA_n hlt c62 e85] at e; exact absurd e (show ¬ (0 : Int32) = 2 by decide), FrI.rf.u (by decide), FrF.rf⟩)
      · refine g_aload_n K 1 d_C_word_65 rfl ?_
        refine gC_get K 25 fl_C_172 (by decide) rfl d_C_word_66 ?_
        refine g_if_eq K (tgt := 79) d_C_word_69 (by decide) (fun c69 => ?_) (fun c69 => ?_)
        · have e69 := bZ_f (k25.symm.trans c69)
          refine g_iconst K (v := 0) d_C_word_79 (by decide) ?_
          refine g_iret K d_C_word_80 (⟨by rw [wordA_z hlt c62, if_neg (by rw [e69]; decide)], _, _, _, rfl, fun e => by rw [wordA_z hlt c62, if_neg (by rw [e69]; decide)] at e; exact absurd e (show ¬ (0 : Int32) = 2 by decide), FrI.rf.u (by decide), FrF.rf⟩)
        · have e69 := bZ_t (fun h => c69 (k25.trans h))
          refine g_aload_n K 1 d_C_word_72 rfl ?_
          refine g_callW (q0 := 0) K (c_C_close l D g a P (upd I 28 (nI (at' + 1))) F B0 B1 hp h5 kB kL (at' := at' + 1) (rest := rest) k24 (by omega) kW rfl (by omega) h14 hl2 hl4) mf_C_close im_C_close se_C_close ml_C_180 (by decide) rfl rfl (Nat.le_of_ble_eq_true rfl) d_C_word_73 (fun v w1 hq => ?_) rfl
          rcases hq with ⟨er, rfl, I2, rfl, w1⟩ | ⟨c, rest2, er, rfl, I2, F2, B2, len2, wt2, rfl, w1, w2, w3, w4, w5, w6, w7, w8, w9⟩
          · refine g_ri ?_
            refine g_goto K (tgt := 80) d_C_word_76 (by decide) ?_
            refine g_iret K d_C_word_80 ⟨?_, I2, F, B1, rfl, fun e => ?_, (FrI.rf.u (by decide)).t (w1.m (by decide)), FrF.rf⟩
            · rw [wordA_z hlt c62, if_pos e69, if_pos er]
            · rw [wordA_z hlt c62, if_pos e69, if_pos er] at e
              split at e <;> (dsimp only at e; exact absurd e (by decide))
          · refine g_ri ?_
            refine g_goto K (tgt := 80) d_C_word_76 (by decide) ?_
            refine g_iret K d_C_word_80 ⟨?_, I2, F2, B2, rfl, fun e => ?_, (FrI.rf.u (by decide)).t (w8.m (by decide)), w9.m (by decide)⟩
            · rw [wordA_z hlt c62, if_pos e69, if_neg (by rw [er]; simp)]
            · rw [wordA_z hlt c62, if_pos e69, if_neg (by rw [er]; simp)]
              exact ⟨c, rest2, len2, wt2, er, (w8 28 (by decide)).trans rfl, by show at' + 1 ≤ 400; omega, (w8 26 (by decide)).trans k26, w1, w2, w3, w4, w5, by show wt2 ≤ at' + 1; omega, w7⟩
    · have hge : ll ≤ at' + 2 := by rcases Nat.lt_or_ge (at' + 2) ll with z | z; exact absurd (by rw [k28]; exact nI_lt (by omega) (by omega)) c36; exact z
      refine g_iconst K (v := 0) d_C_word_39 (by decide) ?_
      refine g_iret K d_C_word_40 (⟨by rw [wordA_0 hge], _, _, _, rfl, fun e => by rw [wordA_0 hge] at e; exact absurd e (show ¬ (0 : Int32) = 2 by decide), FrI.rf, FrF.rf⟩)
  · exact absurd k26 c4
theorem d_C_begin_0 : decode b_C_begin 0 = .ok (.aload_n 0, 1) := by decide +kernel
theorem d_C_begin_1 : decode b_C_begin 1 = .ok (.iconst 1, 1) := by decide +kernel
theorem d_C_begin_2 : decode b_C_begin 2 = .ok (.putfield 143, 3) := by decide +kernel
theorem d_C_begin_5 : decode b_C_begin 5 = .ok (.aload_n 0, 1) := by decide +kernel
theorem d_C_begin_6 : decode b_C_begin 6 = .ok (.iconst 0, 1) := by decide +kernel
theorem d_C_begin_7 : decode b_C_begin 7 = .ok (.putfield 155, 3) := by decide +kernel
theorem d_C_begin_10 : decode b_C_begin 10 = .ok (.aload_n 0, 1) := by decide +kernel
theorem d_C_begin_11 : decode b_C_begin 11 = .ok (.iconst 0, 1) := by decide +kernel
theorem d_C_begin_12 : decode b_C_begin 12 = .ok (.putfield 158, 3) := by decide +kernel
theorem d_C_begin_15 : decode b_C_begin 15 = .ok (.aload_n 0, 1) := by decide +kernel
theorem d_C_begin_16 : decode b_C_begin 16 = .ok (.iconst 0, 1) := by decide +kernel
theorem d_C_begin_17 : decode b_C_begin 17 = .ok (.putfield 161, 3) := by decide +kernel
theorem d_C_begin_20 : decode b_C_begin 20 = .ok (.aload_n 0, 1) := by decide +kernel
theorem d_C_begin_21 : decode b_C_begin 21 = .ok (.getfield 81, 3) := by decide +kernel
theorem d_C_begin_24 : decode b_C_begin 24 = .ok (.iconst 2, 1) := by decide +kernel
theorem d_C_begin_25 : decode b_C_begin 25 = .ok (.if_icmp .lt 32, 3) := by decide +kernel
theorem d_C_begin_28 : decode b_C_begin 28 = .ok (.aload_n 0, 1) := by decide +kernel
theorem d_C_begin_29 : decode b_C_begin 29 = .ok (.aload_n 0, 1) := by decide +kernel
theorem d_C_begin_30 : decode b_C_begin 30 = .ok (.getfield 44, 3) := by decide +kernel
theorem d_C_begin_33 : decode b_C_begin 33 = .ok (.aload_n 0, 1) := by decide +kernel
theorem d_C_begin_34 : decode b_C_begin 34 = .ok (.getfield 81, 3) := by decide +kernel
theorem d_C_begin_37 : decode b_C_begin 37 = .ok (.iconst 2, 1) := by decide +kernel
theorem d_C_begin_38 : decode b_C_begin 38 = .ok (.isub, 1) := by decide +kernel
theorem d_C_begin_39 : decode b_C_begin 39 = .ok (.iaload, 1) := by decide +kernel
theorem d_C_begin_40 : decode b_C_begin 40 = .ok (.aload_n 0, 1) := by decide +kernel
theorem d_C_begin_41 : decode b_C_begin 41 = .ok (.getfield 44, 3) := by decide +kernel
theorem d_C_begin_44 : decode b_C_begin 44 = .ok (.aload_n 0, 1) := by decide +kernel
theorem d_C_begin_45 : decode b_C_begin 45 = .ok (.getfield 81, 3) := by decide +kernel
theorem d_C_begin_48 : decode b_C_begin 48 = .ok (.iconst 1, 1) := by decide +kernel
theorem d_C_begin_49 : decode b_C_begin 49 = .ok (.isub, 1) := by decide +kernel
theorem d_C_begin_50 : decode b_C_begin 50 = .ok (.iaload, 1) := by decide +kernel
theorem d_C_begin_51 : decode b_C_begin 51 = .ok (.invokevirtual 164, 3) := by decide +kernel
theorem d_C_begin_54 : decode b_C_begin 54 = .ok (.ifCond .ne 5, 3) := by decide +kernel
theorem d_C_begin_57 : decode b_C_begin 57 = .ok (.iconst 0, 1) := by decide +kernel
theorem d_C_begin_58 : decode b_C_begin 58 = .ok (.ireturn, 1) := by decide +kernel
theorem d_C_begin_59 : decode b_C_begin 59 = .ok (.aload_n 0, 1) := by decide +kernel
theorem d_C_begin_60 : decode b_C_begin 60 = .ok (.getfield 51, 3) := by decide +kernel
theorem d_C_begin_63 : decode b_C_begin 63 = .ok (.invokevirtual 87, 3) := by decide +kernel
theorem d_C_begin_66 : decode b_C_begin 66 = .ok (.aload_n 0, 1) := by decide +kernel
theorem d_C_begin_67 : decode b_C_begin 67 = .ok (.getfield 44, 3) := by decide +kernel
theorem d_C_begin_70 : decode b_C_begin 70 = .ok (.aload_n 0, 1) := by decide +kernel
theorem d_C_begin_71 : decode b_C_begin 71 = .ok (.getfield 81, 3) := by decide +kernel
theorem d_C_begin_74 : decode b_C_begin 74 = .ok (.iconst 2, 1) := by decide +kernel
theorem d_C_begin_75 : decode b_C_begin 75 = .ok (.isub, 1) := by decide +kernel
theorem d_C_begin_76 : decode b_C_begin 76 = .ok (.iaload, 1) := by decide +kernel
theorem d_C_begin_77 : decode b_C_begin 77 = .ok (.iconst (-1), 1) := by decide +kernel
theorem d_C_begin_78 : decode b_C_begin 78 = .ok (.if_icmp .eq 24, 3) := by decide +kernel
theorem d_C_begin_81 : decode b_C_begin 81 = .ok (.aload_n 0, 1) := by decide +kernel
theorem d_C_begin_82 : decode b_C_begin 82 = .ok (.getfield 51, 3) := by decide +kernel
theorem d_C_begin_85 : decode b_C_begin 85 = .ok (.aload_n 0, 1) := by decide +kernel
theorem d_C_begin_86 : decode b_C_begin 86 = .ok (.getfield 44, 3) := by decide +kernel
theorem d_C_begin_89 : decode b_C_begin 89 = .ok (.aload_n 0, 1) := by decide +kernel
theorem d_C_begin_90 : decode b_C_begin 90 = .ok (.getfield 81, 3) := by decide +kernel
theorem d_C_begin_93 : decode b_C_begin 93 = .ok (.iconst 2, 1) := by decide +kernel
theorem d_C_begin_94 : decode b_C_begin 94 = .ok (.isub, 1) := by decide +kernel
theorem d_C_begin_95 : decode b_C_begin 95 = .ok (.iaload, 1) := by decide +kernel
theorem d_C_begin_96 : decode b_C_begin 96 = .ok (.i2l, 1) := by decide +kernel
theorem d_C_begin_97 : decode b_C_begin 97 = .ok (.lconst 1, 1) := by decide +kernel
theorem d_C_begin_98 : decode b_C_begin 98 = .ok (.lsub, 1) := by decide +kernel
theorem d_C_begin_99 : decode b_C_begin 99 = .ok (.invokevirtual 130, 3) := by decide +kernel
theorem d_C_begin_102 : decode b_C_begin 102 = .ok (.aload_n 0, 1) := by decide +kernel
theorem d_C_begin_103 : decode b_C_begin 103 = .ok (.iconst 0, 1) := by decide +kernel
theorem d_C_begin_104 : decode b_C_begin 104 = .ok (.invokevirtual 168, 3) := by decide +kernel
theorem d_C_begin_107 : decode b_C_begin 107 = .ok (.iconst 1, 1) := by decide +kernel
theorem d_C_begin_108 : decode b_C_begin 108 = .ok (.ireturn, 1) := by decide +kernel
set_option maxHeartbeats 4000000 in
set_option maxRecDepth 100000 in
theorem c_C_begin (l : Launch) (D : va_G) (g : Nat → ClassId) (a : Nat → Nat) (P : Nat → Nat → Int32) (I : Nat → Int32) (F : Nat → Nat → Int32) (B0 B1 : BS) {n k : Nat} (hp : PWF P n k) (h5 : I 5 = nI n) {ll : Nat} (h14 : I 14 = nI ll) (hl4 : ll ≤ 400) : Ct l D g y_C_begin b_C_begin 1 (some .boolean) 4 [.ref (a 0)] (CW a g P I F B0 B1) (fun r w => r = some (.int (bZ (decide ((lookA P n (F 3) ll).1 = 2)))) ∧ ∃ I2 B2, w = CW a g P I2 F B0 B2 ∧ I2 27 = bZ true ∧ ((lookA P n (F 3) ll).1 = 2 → RC3 P n (limC (F 3 (ll - 2))) (lookA P n (F 3) ll).2.1 (lookA P n (F 3) ll).2.2 I2 F B2) ∧ FrI [24, 25, 26, 27, 28] I I2) := by
  refine Ct.of (lv := [(0, _)]) (by decide) rfl (Nat.le_of_ble_eq_true rfl) rfl ?_
  intro G K
  have J102 : ∀ (B2 : BS), (2 ≤ ll) → (hld P n (F 3 (ll - 2)) (F 3 (ll - 1)) = true) → (BI P n B2 0) → (B2.1 = (fun _ => -1)) → (BL B2 (limC (F 3 (ll - 2)))) → G 102 [(0, .ref (a 0))] [] (CW a g P (upd (upd (upd (upd I 27 (bZ true)) 28 0) 24 0) 26 (bZ false)) F B0 B2) := by
    intro B2 hl2 hY hB2 hB21 hL2
    have eL : (lookA P n (F 3) ll) = (2, 0, [some (fun _ => -1)]) := by unfold lookA; rw [if_neg (by omega), if_pos hY]
    refine g_aload_n K 0 d_C_begin_102 rfl ?_
    refine g_iconst K (v := 0) d_C_begin_103 (by decide) ?_
    refine g_callW (q0 := 0) K (c_C_settle l D g a P (upd (upd (upd (upd I 27 (bZ true)) 28 0) 24 0) 26 (bZ false)) F B0 B2 hp h5 hB2 hL2 false) mf_C_settle im_C_settle se_C_settle ml_C_168 (by decide) rfl rfl (Nat.le_of_ble_eq_true rfl) d_C_begin_104 (fun v w1 hq => ?_) rfl
    obtain ⟨rfl, I3, B3, len3, rfl, w1, w2, w3, w4, w5, w6, w7⟩ := hq
    refine g_rv ?_
    refine g_iconst K (v := 1) d_C_begin_107 (by decide) ?_
    refine g_zret K rfl d_C_begin_108 (⟨rz_t (by rw [eL]), I3, B3, rfl, (w7 27 (by decide)).trans rfl, fun _ => ?_, ((((FrI.rf.u (by decide)).u (by decide)).u (by decide)).u (by decide)).t (w7.m (by decide))⟩)
    rw [eL]
    have e1 : (cond false none (some B2.1)).bind (stl P n (limC (F 3 (ll - 2)))) = Option.bind (some (fun _ => -1)) (stl P n (limC (F 3 (ll - 2)))) := by rw [hB21]; rfl
    rw [e1] at w1 w4
    exact ⟨_, [], len3, 0, rfl, (w7 28 (by decide)).trans rfl, by decide, (w7 26 (by decide)).trans rfl, w1, w2, w3, w4, (w7 24 (by decide)).trans rfl, Nat.le_refl _, rfl⟩
  have J57 : (¬ (lookA P n (F 3) ll).1 = 2) → G 57 [(0, .ref (a 0))] [] (CW a g P (upd (upd (upd (upd I 27 (bZ true)) 28 0) 24 0) 26 (bZ false)) F B0 B1) := by
    intro  hN
    refine g_iconst K (v := 0) d_C_begin_57 (by decide) ?_
    refine g_zret K rfl d_C_begin_58 (⟨rz_f hN, _, _, rfl, rfl, fun e => absurd e hN, (((FrI.rf.u (by decide)).u (by decide)).u (by decide)).u (by decide)⟩)
  refine g_aload_n K 0 d_C_begin_0 rfl ?_
  refine g_iconst K (v := 1) d_C_begin_1 (by decide) ?_
  refine gC_put_looked K true rfl fl_C_143 d_C_begin_2 ?_
  refine g_aload_n K 0 d_C_begin_5 rfl ?_
  refine g_iconst K (v := 0) d_C_begin_6 (by decide) ?_
  refine gC_put_at K fl_C_155 d_C_begin_7 ?_
  refine g_aload_n K 0 d_C_begin_10 rfl ?_
  refine g_iconst K (v := 0) d_C_begin_11 (by decide) ?_
  refine gC_put_waits K fl_C_158 d_C_begin_12 ?_
  refine g_aload_n K 0 d_C_begin_15 rfl ?_
  refine g_iconst K (v := 0) d_C_begin_16 (by decide) ?_
  refine gC_put_closed K false rfl fl_C_161 d_C_begin_17 ?_
  refine g_aload_n K 0 d_C_begin_20 rfl ?_
  refine gC_get K 14 fl_C_81 (by decide) rfl d_C_begin_21 ?_
  refine g_iconst K (v := 2) d_C_begin_24 (by decide) ?_
  refine g_icmp_lt K (tgt := 57) d_C_begin_25 (by decide) (fun c25 => ?_) (fun c25 => ?_)
  · have hl2 : ll < 2 := by have c : nI ll < (2 : Int32) := h14 ▸ c25; rw [i_lt, i_2, nI_toInt (by omega)] at c; omega
    refine g_lv K [0] rfl (J57 (by rw [show (lookA P n (F 3) ll) = (0, 0, []) from if_pos hl2]; decide))
  · have hl2 : 2 ≤ ll := by have c : ¬ nI ll < (2 : Int32) := h14 ▸ c25; rw [i_lt, i_2, nI_toInt (by omega)] at c; omega
    refine g_aload_n K 0 d_C_begin_28 rfl ?_
    refine g_aload_n K 0 d_C_begin_29 rfl ?_
    refine gC_get K 13 fl_C_44 (by decide) rfl d_C_begin_30 ?_
    refine g_aload_n K 0 d_C_begin_33 rfl ?_
    refine gC_get K 14 fl_C_81 (by decide) rfl d_C_begin_34 ?_
    refine g_iconst K (v := 2) d_C_begin_37 (by decide) ?_
    refine g_isub K d_C_begin_38 ?_
    refine g_iald K 13 (ll - 2) rfl (show _ = nI (ll - 2) from (congrArg (· - 2) h14).trans (pk_sub (b := 2) hl2)) (by omega) d_C_begin_39 ?_
    refine g_aload_n K 0 d_C_begin_40 rfl ?_
    refine gC_get K 13 fl_C_44 (by decide) rfl d_C_begin_41 ?_
    refine g_aload_n K 0 d_C_begin_44 rfl ?_
    refine gC_get K 14 fl_C_81 (by decide) rfl d_C_begin_45 ?_
    refine g_iconst K (v := 1) d_C_begin_48 (by decide) ?_
    refine g_isub K d_C_begin_49 ?_
    refine g_iald K 13 (ll - 1) rfl (show _ = nI (ll - 1) from (congrArg (· - 1) h14).trans (nI_sub1 (by omega))) (by omega) d_C_begin_50 ?_
    refine g_callW (q0 := 0) K (c_C_holds l D g a P (upd (upd (upd (upd I 27 (bZ true)) 28 0) 24 0) 26 (bZ false)) F B0 B1 hp h5 (F 3 (ll - 2)) (F 3 (ll - 1))) mf_C_holds im_C_holds se_C_holds ml_C_164 (by decide) rfl rfl (Nat.le_of_ble_eq_true rfl) d_C_begin_51 (fun v w1 hq => ?_) rfl
    obtain ⟨rfl, rfl⟩ := hq
    refine g_ri ?_
    refine g_if_ne K (tgt := 59) d_C_begin_54 (by decide) (fun c54 => ?_) (fun c54 => ?_)
    · have hY := bZ_t c54
      refine g_aload_n K 0 d_C_begin_59 rfl ?_
      refine gC_get K 20 fl_C_51 (by decide) rfl d_C_begin_60 ?_
      refine g_callB1 K (c_B_begin l D g a (a 14) (a 15) (a 16) (a 17) (CF a (upd (upd (upd (upd I 27 (bZ true)) 28 0) 24 0) 26 (bZ false))) P B1 (FSn (I := (upd (upd (upd (upd I 27 (bZ true)) 28 0) 24 0) 26 (bZ false))) h5) hp) mf_B_begin im_B_begin se_B_begin ml_C_87 (by decide) (Nat.le_of_ble_eq_true rfl) d_C_begin_63 (fun v B hq => ?_) rfl
      obtain ⟨rfl, b1, b2, b3, b4⟩ := hq
      refine g_rv ?_
      refine g_aload_n K 0 d_C_begin_66 rfl ?_
      refine gC_get K 13 fl_C_44 (by decide) rfl d_C_begin_67 ?_
      refine g_aload_n K 0 d_C_begin_70 rfl ?_
      refine gC_get K 14 fl_C_81 (by decide) rfl d_C_begin_71 ?_
      refine g_iconst K (v := 2) d_C_begin_74 (by decide) ?_
      refine g_isub K d_C_begin_75 ?_
      refine g_iald K 13 (ll - 2) rfl (show _ = nI (ll - 2) from (congrArg (· - 2) h14).trans (pk_sub (b := 2) hl2)) (by omega) d_C_begin_76 ?_
      refine g_iconst K (v := -1) d_C_begin_77 (by decide) ?_
      refine g_icmp_eq K (tgt := 102) d_C_begin_78 (by decide) (fun c78 => ?_) (fun c78 => ?_)
      · have c78 : F 3 (ll - 2) = -1 := c78
        refine g_lv K [0] rfl (J102 B hl2 hY b3 b1 (by unfold limC; rw [if_pos c78]; exact b4))
      · have c78 : ¬ F 3 (ll - 2) = -1 := c78
        refine g_aload_n K 0 d_C_begin_81 rfl ?_
        refine gC_get K 20 fl_C_51 (by decide) rfl d_C_begin_82 ?_
        refine g_aload_n K 0 d_C_begin_85 rfl ?_
        refine gC_get K 13 fl_C_44 (by decide) rfl d_C_begin_86 ?_
        refine g_aload_n K 0 d_C_begin_89 rfl ?_
        refine gC_get K 14 fl_C_81 (by decide) rfl d_C_begin_90 ?_
        refine g_iconst K (v := 2) d_C_begin_93 (by decide) ?_
        refine g_isub K d_C_begin_94 ?_
        refine g_iald K 13 (ll - 2) rfl (show _ = nI (ll - 2) from (congrArg (· - 2) h14).trans (pk_sub (b := 2) hl2)) (by omega) d_C_begin_95 ?_
        refine g_i2l K d_C_begin_96 ?_
        refine g_lconst K (v := 1) d_C_begin_97 (by decide) ?_
        refine g_lsub K d_C_begin_98 ?_
        refine g_topl K (i64_1 _) ?_
        refine g_callB1 K (c_B_limit l D g a (a 14) (a 15) (a 16) (a 17) (CF a (upd (upd (upd (upd I 27 (bZ true)) 28 0) 24 0) 26 (bZ false))) P B _) mf_B_limit im_B_limit se_B_limit ml_C_130 (by decide) (Nat.le_of_ble_eq_true rfl) d_C_begin_99 (fun v B hq => ?_) rfl
        rename_i Bk
        obtain ⟨rfl, rfl⟩ := hq
        refine g_rv ?_
        refine g_lv K [0] rfl (J102 _ hl2 hY ⟨b3.1, b3.2.1, b3.2.2.1, b3.2.2.2⟩ b1 ?_)
        unfold limC
        rw [if_neg c78]
        refine ⟨rfl, fun L e => ?_⟩
        cases e
        have h9 := (hld_c hp hY).resolve_left c78
        exact ⟨rfl, by omega, by omega⟩
    · have hY := bZ_f c54
      refine g_lv K [0] rfl (J57 (by unfold lookA; rw [if_neg (by omega), if_neg (by rw [hY]; decide)]; decide))
theorem d_C_check_0 : decode b_C_check 0 = .ok (.aload_n 0, 1) := by decide +kernel
theorem d_C_check_1 : decode b_C_check 1 = .ok (.getfield 90, 3) := by decide +kernel
theorem d_C_check_4 : decode b_C_check 4 = .ok (.ifCond .ne 6, 3) := by decide +kernel
theorem d_C_check_7 : decode b_C_check 7 = .ok (.bipush (-3), 2) := by decide +kernel
theorem d_C_check_9 : decode b_C_check 9 = .ok (.ireturn, 1) := by decide +kernel
theorem d_C_check_10 : decode b_C_check 10 = .ok (.iload_n 1, 1) := by decide +kernel
theorem d_C_check_11 : decode b_C_check 11 = .ok (.iconst 1, 1) := by decide +kernel
theorem d_C_check_12 : decode b_C_check 12 = .ok (.if_icmp .lt 10, 3) := by decide +kernel
theorem d_C_check_15 : decode b_C_check 15 = .ok (.iload_n 1, 1) := by decide +kernel
theorem d_C_check_16 : decode b_C_check 16 = .ok (.sipush 2000, 3) := by decide +kernel
theorem d_C_check_19 : decode b_C_check 19 = .ok (.if_icmp .le 5, 3) := by decide +kernel
theorem d_C_check_22 : decode b_C_check 22 = .ok (.iconst (-1), 1) := by decide +kernel
theorem d_C_check_23 : decode b_C_check 23 = .ok (.ireturn, 1) := by decide +kernel
theorem d_C_check_24 : decode b_C_check 24 = .ok (.aload_n 0, 1) := by decide +kernel
theorem d_C_check_25 : decode b_C_check 25 = .ok (.getfield 63, 3) := by decide +kernel
theorem d_C_check_28 : decode b_C_check 28 = .ok (.iconst 2, 1) := by decide +kernel
theorem d_C_check_29 : decode b_C_check 29 = .ok (.if_icmp .eq 8, 3) := by decide +kernel
theorem d_C_check_32 : decode b_C_check 32 = .ok (.aload_n 0, 1) := by decide +kernel
theorem d_C_check_33 : decode b_C_check 33 = .ok (.getfield 63, 3) := by decide +kernel
theorem d_C_check_36 : decode b_C_check 36 = .ok (.ireturn, 1) := by decide +kernel
theorem d_C_check_37 : decode b_C_check 37 = .ok (.aload_n 0, 1) := by decide +kernel
theorem d_C_check_38 : decode b_C_check 38 = .ok (.getfield 143, 3) := by decide +kernel
theorem d_C_check_41 : decode b_C_check 41 = .ok (.ifCond .ne 15, 3) := by decide +kernel
theorem d_C_check_44 : decode b_C_check 44 = .ok (.aload_n 0, 1) := by decide +kernel
theorem d_C_check_45 : decode b_C_check 45 = .ok (.invokevirtual 175, 3) := by decide +kernel
theorem d_C_check_48 : decode b_C_check 48 = .ok (.ifCond .ne 8, 3) := by decide +kernel
theorem d_C_check_51 : decode b_C_check 51 = .ok (.aload_n 0, 1) := by decide +kernel
theorem d_C_check_52 : decode b_C_check 52 = .ok (.iconst 0, 1) := by decide +kernel
theorem d_C_check_53 : decode b_C_check 53 = .ok (.putfield 63, 3) := by decide +kernel
theorem d_C_check_56 : decode b_C_check 56 = .ok (.iconst 0, 1) := by decide +kernel
theorem d_C_check_57 : decode b_C_check 57 = .ok (.istore_n 2, 1) := by decide +kernel
theorem d_C_check_58 : decode b_C_check 58 = .ok (.iload_n 2, 1) := by decide +kernel
theorem d_C_check_59 : decode b_C_check 59 = .ok (.iload_n 1, 1) := by decide +kernel
theorem d_C_check_60 : decode b_C_check 60 = .ok (.if_icmp .ge 25, 3) := by decide +kernel
theorem d_C_check_63 : decode b_C_check 63 = .ok (.aload_n 0, 1) := by decide +kernel
theorem d_C_check_64 : decode b_C_check 64 = .ok (.getfield 63, 3) := by decide +kernel
theorem d_C_check_67 : decode b_C_check 67 = .ok (.iconst 2, 1) := by decide +kernel
theorem d_C_check_68 : decode b_C_check 68 = .ok (.if_icmp .ne 17, 3) := by decide +kernel
theorem d_C_check_71 : decode b_C_check 71 = .ok (.aload_n 0, 1) := by decide +kernel
theorem d_C_check_72 : decode b_C_check 72 = .ok (.aload_n 0, 1) := by decide +kernel
theorem d_C_check_73 : decode b_C_check 73 = .ok (.invokevirtual 177, 3) := by decide +kernel
theorem d_C_check_76 : decode b_C_check 76 = .ok (.putfield 63, 3) := by decide +kernel
theorem d_C_check_79 : decode b_C_check 79 = .ok (.iinc 2 1, 3) := by decide +kernel
theorem d_C_check_82 : decode b_C_check 82 = .ok (.goto (-24), 3) := by decide +kernel
theorem d_C_check_85 : decode b_C_check 85 = .ok (.aload_n 0, 1) := by decide +kernel
theorem d_C_check_86 : decode b_C_check 86 = .ok (.getfield 63, 3) := by decide +kernel
theorem d_C_check_89 : decode b_C_check 89 = .ok (.ireturn, 1) := by decide +kernel
set_option maxHeartbeats 4000000 in
set_option maxRecDepth 100000 in
theorem c_C_check (l : Launch) (D : va_G) (g : Nat → ClassId) (a : Nat → Nat) (P : Nat → Nat → Int32) (I : Nat → Int32) (F : Nat → Nat → Int32) (B0 B1 : BS) {n k : Nat} (hp : PWF P n k) (h5 : I 5 = nI n) {ll : Nat} (h14 : I 14 = nI ll) (hl4 : ll ≤ 400) {dn : Bool} (h17 : I 17 = bZ dn) {lk : Bool} (h27 : I 27 = bZ lk) {q0 : Int32 × Nat × List ND} (hv : lk = false → I 29 = 2) (hq0 : lk = true → I 29 = q0.1 ∧ (q0.1 = 2 → RC3 P n (limC (F 3 (ll - 2))) q0.2.1 q0.2.2 I F B1 ∧ 2 ≤ ll)) (f : Int32) : Ct l D g y_C_check b_C_check 3 (some .int) 7 [.ref (a 0), .int f] (CW a g P I F B0 B1) (fun r w => (dn = false ∧ r = some (.int (-3)) ∧ w = CW a g P I F B0 B1) ∨ (dn = true ∧ ¬ okF f ∧ r = some (.int (-1)) ∧ w = CW a g P I F B0 B1) ∨ (dn = true ∧ okF f ∧ ∃ I2 F2 B2, r = some (.int (chkA P n (F 3) ll f.toNatClampNeg (cond lk q0 (lookA P n (F 3) ll))).1) ∧ w = CW a g P I2 F2 B0 B2 ∧ I2 27 = bZ true ∧ I2 29 = (chkA P n (F 3) ll f.toNatClampNeg (cond lk q0 (lookA P n (F 3) ll))).1 ∧ ((chkA P n (F 3) ll f.toNatClampNeg (cond lk q0 (lookA P n (F 3) ll))).1 = 2 → RC3 P n (limC (F 3 (ll - 2))) (chkA P n (F 3) ll f.toNatClampNeg (cond lk q0 (lookA P n (F 3) ll))).2.1 (chkA P n (F 3) ll f.toNatClampNeg (cond lk q0 (lookA P n (F 3) ll))).2.2 I2 F2 B2 ∧ 2 ≤ ll) ∧ FrI [24, 25, 26, 27, 28, 29] I I2 ∧ FrF [4, 5, 6] F F2)) := by
  refine Ct.of (lv := [(0, _), (1, _)]) (by decide) rfl (Nat.le_of_ble_eq_true rfl) rfl ?_
  intro G K
  have J85 : ∀ (q : Int32 × Nat × List ND) (I2 : Nat → Int32) (F2 : Nat → Nat → Int32) (B2 : BS), (okF f) → (dn = true) → (q = (chkA P n (F 3) ll f.toNatClampNeg (cond lk q0 (lookA P n (F 3) ll)))) → (I2 27 = bZ true) → (I2 29 = q.1) → ((q.1 = 2 → RC3 P n (limC (F 3 (ll - 2))) q.2.1 q.2.2 I2 F2 B2 ∧ 2 ≤ ll)) → (FrI [24, 25, 26, 27, 28, 29] I I2) → (FrF [4, 5, 6] F F2) → G 85 [(0, .ref (a 0))] [] (CW a g P I2 F2 B0 B2) := by
    intro q I2 F2 B2 hok hdn hr h242 h232 hR2 hIr hFr
    refine g_aload_n K 0 d_C_check_85 rfl ?_
    refine gC_get K 29 fl_C_63 (by decide) rfl d_C_check_86 ?_
    refine g_iret K d_C_check_89 (Or.inr (Or.inr ⟨hdn, hok, I2, F2, B2, ?_, rfl, h242, ?_, ?_, hIr, hFr⟩))
    · rw [← hr, h232]
    · rw [← hr]; exact h232
    · rw [← hr]; exact hR2
  have J58 : ∀ (N : Nat) (j : Nat) (q : Int32 × Nat × List ND) (I2 : Nat → Int32) (F2 : Nat → Nat → Int32) (B2 : BS), f.toNatClampNeg - j < N → (okF f) → (dn = true) → (f = nI f.toNatClampNeg) → (j ≤ 2000) → (chkA P n (F 3) ll (f.toNatClampNeg - j) q = (chkA P n (F 3) ll f.toNatClampNeg (cond lk q0 (lookA P n (F 3) ll)))) → (I2 27 = bZ true) → (I2 29 = q.1) → ((q.1 = 2 → RC3 P n (limC (F 3 (ll - 2))) q.2.1 q.2.2 I2 F2 B2 ∧ 2 ≤ ll)) → (FrI [24, 25, 26, 27, 28, 29] I I2) → (FrF [4, 5, 6] F F2) → G 58 [(0, .ref (a 0)), (1, .int f), (2, .int (nI j))] [] (CW a g P I2 F2 B0 B2) := by
    intro N
    induction N with
    | zero => intro j q I2 F2 B2 hm; exact absurd hm (Nat.not_lt_zero _)
    | succ N ih58 =>
      intro j q I2 F2 B2 hm58 hok hdn hf2 hj hr h242 h232 hR2 hIr hFr
      have hf1 := nat_i (i := f) (by have := hok.1; omega)
      have hf3 : f.toNatClampNeg ≤ 2000 := by have := hok.2; omega
      refine g_iload_n K 2 d_C_check_58 rfl ?_
      refine g_iload_n K 1 d_C_check_59 rfl ?_
      refine g_top K hf2 ?_
      refine g_icmp_ge K (tgt := 85) d_C_check_60 (by decide) (fun c60 => ?_) (fun c60 => ?_)
      · have h60 := (nI_leI (by omega) (by omega)).mp c60
        refine g_lv K [0] rfl (J85 q I2 F2 B2 hok hdn (by rw [← hr, Nat.sub_eq_zero_of_le h60]; rfl) h242 h232 hR2 hIr hFr)
      · have h60 : j < f.toNatClampNeg := Nat.lt_of_not_le (fun h => c60 ((nI_leI (by omega) (by omega)).mpr h))
        refine g_aload_n K 0 d_C_check_63 rfl ?_
        refine gC_get K 29 fl_C_63 (by decide) rfl d_C_check_64 ?_
        refine g_iconst K (v := 2) d_C_check_67 (by decide) ?_
        refine g_icmp_ne K (tgt := 85) d_C_check_68 (by decide) (fun c68 => ?_) (fun c68 => ?_)
        · have z0 : ¬ q.1 = 2 := fun h => c68 (h232.trans h)
          refine g_lv K [0] rfl (J85 q I2 F2 B2 hok hdn (by rw [← hr, sub_s h60]; exact (if_neg z0).symm) h242 h232 hR2 hIr hFr)
        · have z0 : q.1 = 2 := h232.symm.trans c68
          obtain ⟨z1, z2⟩ := hR2 z0
          have hF22 : F2 3 = F 3 := hFr 3 (by decide)
          refine g_aload_n K 0 d_C_check_71 rfl ?_
          refine g_aload_n K 0 d_C_check_72 rfl ?_
          refine g_callW (q0 := 0) K (c_C_word l D g a P I2 F2 B0 B2 hp ((hIr 5 (by decide)).trans h5) ((hIr 14 (by decide)).trans h14) hl4 z2 (hF22 ▸ z1)) mf_C_word im_C_word se_C_word ml_C_177 (by decide) rfl rfl (Nat.le_of_ble_eq_true rfl) d_C_check_73 (fun v w1 hq => ?_) rfl
          obtain ⟨rfl, I3, F3, B3, rfl, w2, w3, w4⟩ := hq
          rw [hF22] at w2
          rw [hF22]
          refine g_ri ?_
          refine gC_put_verdict K fl_C_63 d_C_check_76 ?_
          refine g_iinc (v := nI (j + 1)) (lv' := [(2, _), (0, _), (1, _)]) K 2 d_C_check_79 rfl (nI_1 j) (by decide) rfl ?_
          refine g_goto K (tgt := 58) d_C_check_82 (by decide) ?_
          refine g_lv K [1, 2, 0] rfl (ih58 (j + 1) (wordA P n (F 3) ll q.2.1 q.2.2) _ F3 B3 (by omega) hok hdn hf2 (by omega) (by rw [← hr, sub_s h60]; exact (if_pos z0).symm) ((w3 27 (by decide)).trans h242) rfl (fun e => ⟨w2 e, z2⟩) ((hIr.t (w3.m (by decide))).u (by decide)) (hFr.t w4))
  have J56 : ∀ (I2 : Nat → Int32) (B2 : BS), (okF f) → (dn = true) → (I2 27 = bZ true) → (I2 29 = (cond lk q0 (lookA P n (F 3) ll)).1) → (((cond lk q0 (lookA P n (F 3) ll)).1 = 2 → RC3 P n (limC (F 3 (ll - 2))) (cond lk q0 (lookA P n (F 3) ll)).2.1 (cond lk q0 (lookA P n (F 3) ll)).2.2 I2 F B2 ∧ 2 ≤ ll)) → (FrI [24, 25, 26, 27, 28, 29] I I2) → G 56 [(0, .ref (a 0)), (1, .int f)] [] (CW a g P I2 F B0 B2) := by
    intro I2 B2 hok hdn h242 h232 hR2 hIr
    have hf1 := nat_i (i := f) (by have := hok.1; omega)
    have hf2 : f = nI f.toNatClampNeg := nI_nat (by have := hok.1; omega)
    refine g_iconst K (v := 0) d_C_check_56 (by decide) ?_
    refine g_top K nI_0' ?_
    refine g_istore_n (lv' := [(2, _), (0, _), (1, _)]) K d_C_check_57 (by decide) rfl ?_
    refine g_lv K [1, 2, 0] rfl (J58 _ 0 _ I2 F B2 (Nat.lt_succ_self _) hok hdn hf2 (Nat.zero_le _) rfl h242 h232 hR2 hIr FrF.rf)
  have J22 : (dn = true) → (¬ okF f) → G 22 [(0, .ref (a 0)), (1, .int f)] [] (CW a g P I F B0 B1) := by
    intro  hdn hok
    refine g_iconst K (v := -1) d_C_check_22 (by decide) ?_
    refine g_iret K d_C_check_23 (Or.inr (Or.inl ⟨hdn, hok, rfl, rfl⟩))
  refine g_aload_n K 0 d_C_check_0 rfl ?_
  refine gC_get K 17 fl_C_90 (by decide) rfl d_C_check_1 ?_
  refine g_if_ne K (tgt := 10) d_C_check_4 (by decide) (fun c4 => ?_) (fun c4 => ?_)
  · have hdn : dn = true := bZ_t (fun h => c4 (h17.trans h))
    refine g_iload_n K 1 d_C_check_10 rfl ?_
    refine g_iconst K (v := 1) d_C_check_11 (by decide) ?_
    refine g_icmp_lt K (tgt := 22) d_C_check_12 (by decide) (fun c12 => ?_) (fun c12 => ?_)
    · have hok : ¬ okF f := by rw [i_lt, i_1] at c12; exact fun h => by have := h.1; omega
      refine g_lv K [0, 1] rfl (J22 hdn hok)
    · have e12 : 1 ≤ f.toInt := by rw [i_lt, i_1] at c12; omega
      refine g_iload_n K 1 d_C_check_15 rfl ?_
      refine g_sipush K (v := 2000) d_C_check_16 (by decide) ?_
      refine g_icmp_le K (tgt := 24) d_C_check_19 (by decide) (fun c19 => ?_) (fun c19 => ?_)
      · have hok : okF f := ⟨e12, by rw [i_le, k_2000] at c19; exact c19⟩
        refine g_aload_n K 0 d_C_check_24 rfl ?_
        refine gC_get K 29 fl_C_63 (by decide) rfl d_C_check_25 ?_
        refine g_iconst K (v := 2) d_C_check_28 (by decide) ?_
        refine g_icmp_eq K (tgt := 37) d_C_check_29 (by decide) (fun c29 => ?_) (fun c29 => ?_)
        · refine g_aload_n K 0 d_C_check_37 rfl ?_
          refine gC_get K 27 fl_C_143 (by decide) rfl d_C_check_38 ?_
          refine g_if_ne K (tgt := 56) d_C_check_41 (by decide) (fun c41 => ?_) (fun c41 => ?_)
          · have elk : lk = true := bZ_t (fun h => c41 (h27.trans h))
            refine g_lv K [0, 1] rfl (J56 I B1 hok hdn (by rw [h27, elk]) (by rw [elk]; exact (hq0 elk).1) (by rw [elk]; exact (hq0 elk).2) FrI.rf)
          · have elk : lk = false := bZ_f (h27.symm.trans c41)
            refine g_aload_n K 0 d_C_check_44 rfl ?_
            refine g_callW (q0 := 0) K (c_C_begin l D g a P I F B0 B1 hp h5 h14 hl4) mf_C_begin im_C_begin se_C_begin ml_C_175 (by decide) rfl rfl (Nat.le_of_ble_eq_true rfl) d_C_check_45 (fun v w1 hq => ?_) rfl
            obtain ⟨rfl, I2, B2, rfl, w1, w2, w3⟩ := hq
            refine g_ri ?_
            refine g_if_ne K (tgt := 56) d_C_check_48 (by decide) (fun c48 => ?_) (fun c48 => ?_)
            · have e48 := of_decide_eq_true (bZ_t c48)
              refine g_lv K [0, 1] rfl (J56 I2 B2 hok hdn w1 (by rw [elk]; exact ((w3 29 (by decide)).trans (hv elk)).trans e48.symm) (by rw [elk]; exact fun e => ⟨w2 e, (lookA_2 e).1⟩) (w3.m (by decide)))
            · have e48 := (lookA_c P n (F 3) ll).resolve_left (of_decide_eq_false (bZ_f c48))
              refine g_aload_n K 0 d_C_check_51 rfl ?_
              refine g_iconst K (v := 0) d_C_check_52 (by decide) ?_
              refine gC_put_verdict K fl_C_63 d_C_check_53 ?_
              refine g_lv K [0, 1] rfl (J56 _ B2 hok hdn w1 (by rw [elk]; exact e48.symm) (by rw [elk]; exact fun e => absurd (e48.symm.trans e) (by decide)) ((w3.m (by decide)).u (by decide)))
        · have elk : lk = true := by cases e : lk; exact absurd (hv e) c29; rfl
          have hf9 := nat_i (i := f) (by have := hok.1; omega)
          have h3 : f.toNatClampNeg = f.toNatClampNeg - 1 + 1 := by have := hok.1; omega
          have hq1 : (chkA P n (F 3) ll f.toNatClampNeg (cond lk q0 (lookA P n (F 3) ll))) = q0 := by rw [elk, h3]; exact if_neg (fun z => c29 ((hq0 elk).1.trans z))
          refine g_aload_n K 0 d_C_check_32 rfl ?_
          refine gC_get K 29 fl_C_63 (by decide) rfl d_C_check_33 ?_
          refine g_iret K d_C_check_36 (Or.inr (Or.inr ⟨hdn, hok, I, F, B1, by rw [hq1, (hq0 elk).1], rfl, by rw [h27, elk], by rw [hq1]; exact (hq0 elk).1, by rw [hq1]; exact (hq0 elk).2, FrI.rf, FrF.rf⟩))
      · have hok : ¬ okF f := fun h => c19 (by rw [i_le, k_2000]; exact h.2)
        refine g_lv K [0, 1] rfl (J22 hdn hok)
  · have hdn : dn = false := bZ_f (h17.symm.trans c4)
    refine g_bipush K (v := -3) d_C_check_7 (by decide) ?_
    refine g_iret K d_C_check_9 (Or.inl ⟨hdn, rfl, rfl⟩)
end
section
/-! the machine of a method that makes cells: k cells and n slots were made so far -/
abbrev GN : Type := Nat → List (Nat × Value) → List Value → va_W → Nat → Nat → Prop
def Scr (scr : Option (Nat × Nat × (Nat → Int32))) (s : State) (A : Nat → Prop) : Prop := match scr with
  | none => True
  | some (b, L, xs) => va_X b L xs s s.heap ∧ b < s.heap.size ∧ ¬ A b
def Cn (l : Launch) (D : va_G) (g : Nat → ClassId) (own : String) (cc : ByteArray) (nL : Nat) (R : Room) (ini : Bool) (scr : Option (Nat × Nat × (Nat → Int32))) (A : Nat → Prop) (G : GN) : Prop :=
  ∃ (p : Program) (e : Env) (s : State) (m : MethodId) (args : Array Value) (below : List Frame) (meth : Method) (c : Code) (Qw : State → Prop), (p.tables.exec = Jvm.exec ∧ c.code = cc ∧ c.maxLocals = nL ∧ s.vm.findClass own = some m.cls ∧ (∀ w ∈ lw_ok, w.before args s = true) ∧ va_K D classes (TY g) s ∧ (∀ w ∈ lw_nest, va_Nw w s)) ∧ (ini = true → meth.name = "<init>") ∧ (∀ q, s.heap.size ≤ q → A q) ∧ Scr scr s A ∧
    G = fun pc lv st ws k n => ∀ (H : Heap) (locs : List Loc) (ls : Array Slot), va_P D classes ws H → va_D A ws → va_S A s.heap H locs → lv_has ls nL lv → W p l e R s m args below meth c H locs k n Qw (F0 m pc ls st)
section NROWS
variable {l : Launch} {D : va_G} {g : Nat → ClassId} {own : String} {cc : ByteArray} {nL : Nat} {R : Room} {ini : Bool} {scr : Option (Nat × Nat × (Nat → Int32))} {A : Nat → Prop} {G : GN} {pc k n : Nat} {lv lv' : List (Nat × Value)} {st st0 : List Value} {ws ws' : va_W}
theorem n_iconst (K : Cn l D g own cc nL R ini scr A G) {z : Int} {v : Int32} (d : decode cc pc = .ok (.iconst z, 1)) (hz : Int32.ofInt z = v) (kk : G (pc + 1) lv (.int v :: st) ws k n) : G pc lv (st) ws k n := by
  obtain ⟨p, e, s, m, args, below, meth, c, Qw, X, hi, hA, hscr, rfl⟩ := K
  exact fun H locs ls hP hD hS hv => lv_iconst X.1 X.2.1 d hz (kk H locs ls hP hD hS hv)
theorem n_bipush (K : Cn l D g own cc nL R ini scr A G) {z : Int} {v : Int32} (d : decode cc pc = .ok (.bipush z, 2)) (hz : (Int8.ofInt z).toInt32 = v) (kk : G (pc + 2) lv (.int v :: st) ws k n) : G pc lv (st) ws k n := by
  obtain ⟨p, e, s, m, args, below, meth, c, Qw, X, hi, hA, hscr, rfl⟩ := K
  exact fun H locs ls hP hD hS hv => lv_bipush X.1 X.2.1 d hz (kk H locs ls hP hD hS hv)
theorem n_sipush (K : Cn l D g own cc nL R ini scr A G) {z : Int} {v : Int32} (d : decode cc pc = .ok (.sipush z, 3)) (hz : (Int16.ofInt z).toInt32 = v) (kk : G (pc + 3) lv (.int v :: st) ws k n) : G pc lv (st) ws k n := by
  obtain ⟨p, e, s, m, args, below, meth, c, Qw, X, hi, hA, hscr, rfl⟩ := K
  exact fun H locs ls hP hD hS hv => lv_sipush X.1 X.2.1 d hz (kk H locs ls hP hD hS hv)
theorem n_iadd (K : Cn l D g own cc nL R ini scr A G) {x y : Int32} (d : decode cc pc = .ok (.iadd, 1))  (kk : G (pc + 1) lv (.int (x + y) :: st) ws k n) : G pc lv (.int y :: .int x :: st) ws k n := by
  obtain ⟨p, e, s, m, args, below, meth, c, Qw, X, hi, hA, hscr, rfl⟩ := K
  exact fun H locs ls hP hD hS hv => lv_iadd X.1 X.2.1 d  (kk H locs ls hP hD hS hv)
theorem n_isub (K : Cn l D g own cc nL R ini scr A G) {x y : Int32} (d : decode cc pc = .ok (.isub, 1))  (kk : G (pc + 1) lv (.int (x - y) :: st) ws k n) : G pc lv (.int y :: .int x :: st) ws k n := by
  obtain ⟨p, e, s, m, args, below, meth, c, Qw, X, hi, hA, hscr, rfl⟩ := K
  exact fun H locs ls hP hD hS hv => lv_isub X.1 X.2.1 d  (kk H locs ls hP hD hS hv)
theorem n_iand (K : Cn l D g own cc nL R ini scr A G) {x y : Int32} (d : decode cc pc = .ok (.iand, 1))  (kk : G (pc + 1) lv (.int (x &&& y) :: st) ws k n) : G pc lv (.int y :: .int x :: st) ws k n := by
  obtain ⟨p, e, s, m, args, below, meth, c, Qw, X, hi, hA, hscr, rfl⟩ := K
  exact fun H locs ls hP hD hS hv => lv_iand X.1 X.2.1 d  (kk H locs ls hP hD hS hv)
theorem n_dup (K : Cn l D g own cc nL R ini scr A G) {va : Value} (d : decode cc pc = .ok (.dup, 1)) (hva : va.category = 1) (kk : G (pc + 1) lv (va :: va :: st) ws k n) : G pc lv (va :: st) ws k n := by
  obtain ⟨p, e, s, m, args, below, meth, c, Qw, X, hi, hA, hscr, rfl⟩ := K
  exact fun H locs ls hP hD hS hv => lv_dup X.1 X.2.1 d hva (kk H locs ls hP hD hS hv)
theorem n_iload_n (K : Cn l D g own cc nL R ini scr A G) (j : Nat) {i : Fin 4} {x : Int32} (d : decode cc pc = .ok (.iload_n i, 1)) (hj : lv[j]? = some ((i : Nat), .int x)) (kk : G (pc + 1) lv (.int x :: st) ws k n) : G pc lv st ws k n := by
  obtain ⟨p, e, s, m, args, below, meth, c, Qw, X, hi, hA, hscr, rfl⟩ := K
  exact fun H locs ls hP hD hS hv => lv_iload_n X.1 X.2.1 d rfl (lv_at hv j hj) (kk H locs ls hP hD hS hv)
theorem n_aload_n (K : Cn l D g own cc nL R ini scr A G) (j : Nat) {i : Fin 4} {x : Nat} (d : decode cc pc = .ok (.aload_n i, 1)) (hj : lv[j]? = some ((i : Nat), .ref x)) (kk : G (pc + 1) lv (.ref x :: st) ws k n) : G pc lv st ws k n := by
  obtain ⟨p, e, s, m, args, below, meth, c, Qw, X, hi, hA, hscr, rfl⟩ := K
  exact fun H locs ls hP hD hS hv => lv_aload_n X.1 X.2.1 d rfl (lv_at hv j hj) (kk H locs ls hP hD hS hv)
theorem n_istore_n (K : Cn l D g own cc nL R ini scr A G) {i : Fin 4} {x : Int32} (d : decode cc pc = .ok (.istore_n i, 1)) (hn : (i : Nat) < nL) (hl : ((i : Nat), Value.int x) :: lv.filter (fun q => !(q.1 == (i : Nat)) && !(q.1 + 1 == (i : Nat) && q.2.category == 2)) = lv') (kk : G (pc + 1) lv' st ws k n) : G pc lv (.int x :: st) ws k n := by
  obtain ⟨p, e, s, m, args, below, meth, c, Qw, X, hi, hA, hscr, rfl⟩ := K
  exact fun H locs ls hP hD hS hv => lv_istore_n X.1 X.2.1 d rfl hv hn hl (fun ls hv => kk H locs ls hP hD hS hv)
theorem n_astore_n (K : Cn l D g own cc nL R ini scr A G) {i : Fin 4} {x : Nat} (d : decode cc pc = .ok (.astore_n i, 1)) (hn : (i : Nat) < nL) (hl : ((i : Nat), Value.ref x) :: lv.filter (fun q => !(q.1 == (i : Nat)) && !(q.1 + 1 == (i : Nat) && q.2.category == 2)) = lv') (kk : G (pc + 1) lv' st ws k n) : G pc lv (.ref x :: st) ws k n := by
  obtain ⟨p, e, s, m, args, below, meth, c, Qw, X, hi, hA, hscr, rfl⟩ := K
  exact fun H locs ls hP hD hS hv => lv_astore_n X.1 X.2.1 d rfl hv hn hl (fun ls hv => kk H locs ls hP hD hS hv)
theorem n_iinc (K : Cn l D g own cc nL R ini scr A G) (j : Nat) {i : Nat} {z : Int} {x v : Int32} (d : decode cc pc = .ok (.iinc i z, 3)) (hj : lv[j]? = some (i, .int x)) (hz : x + Int32.ofInt z = v) (hn : i < nL) (hl : (i, Value.int v) :: lv.filter (fun q => !(q.1 == i) && !(q.1 + 1 == i && q.2.category == 2)) = lv') (kk : G (pc + 3) lv' st ws k n) : G pc lv st ws k n := by
  obtain ⟨p, e, s, m, args, below, meth, c, Qw, X, hi, hA, hscr, rfl⟩ := K
  exact fun H locs ls hP hD hS hv => lv_iinc X.1 X.2.1 d hv hj hz hn hl (fun ls hv => kk H locs ls hP hD hS hv)
theorem n_icmp_eq (K : Cn l D g own cc nL R ini scr A G) {x y : Int32} {off : Int} {tgt : Nat} (d : decode cc pc = .ok (.if_icmp .eq off, 3)) (ht : (pc : Int) + off = (tgt : Int)) (kt : x = y → G tgt lv st ws k n) (kf : ¬ x = y → G (pc + 3) lv st ws k n) : G pc lv (.int y :: .int x :: st) ws k n := by
  obtain ⟨p, e, s, m, args, below, meth, c, Qw, X, hi, hA, hscr, rfl⟩ := K
  exact fun H locs ls hP hD hS hv => lv_icmp_eq X.1 X.2.1 d ht (fun z => kt z H locs ls hP hD hS hv) (fun z => kf z H locs ls hP hD hS hv)
theorem n_icmp_gt (K : Cn l D g own cc nL R ini scr A G) {x y : Int32} {off : Int} {tgt : Nat} (d : decode cc pc = .ok (.if_icmp .gt off, 3)) (ht : (pc : Int) + off = (tgt : Int)) (kt : y < x → G tgt lv st ws k n) (kf : ¬ y < x → G (pc + 3) lv st ws k n) : G pc lv (.int y :: .int x :: st) ws k n := by
  obtain ⟨p, e, s, m, args, below, meth, c, Qw, X, hi, hA, hscr, rfl⟩ := K
  exact fun H locs ls hP hD hS hv => lv_icmp_gt X.1 X.2.1 d ht (fun z => kt z H locs ls hP hD hS hv) (fun z => kf z H locs ls hP hD hS hv)
theorem n_goto (K : Cn l D g own cc nL R ini scr A G) {off : Int} {tgt : Nat} (d : decode cc pc = .ok (.goto off, 3)) (ht : (pc : Int) + off = (tgt : Int)) (kk : G tgt lv st ws k n) : G pc lv st ws k n := by
  obtain ⟨p, e, s, m, args, below, meth, c, Qw, X, hi, hA, hscr, rfl⟩ := K
  exact fun H locs ls hP hD hS hv => lv_goto X.1 X.2.1 d ht (kk H locs ls hP hD hS hv)
theorem n_lv (K : Cn l D g own cc nL R ini scr A G) (ks : List Nat) (hl : lv_pick lv ks = lv') (kk : G pc lv' st ws k n) : G pc lv st ws k n := by
  obtain ⟨p, e, s, m, args, below, meth, c, Qw, X, hi, hA, hscr, rfl⟩ := K
  exact fun H locs ls hP hD hS hv => kk H locs ls hP hD hS (lv_sub hv ks hl)
theorem n_top (K : Cn l D g own cc nL R ini scr A G) {x y : Int32} (h : x = y) (kk : G pc lv (.int y :: st) ws k n) : G pc lv (.int x :: st) ws k n := h ▸ kk
theorem n_wd (K : Cn l D g own cc nL R ini scr A G) {k2 n2 : Nat} (h1 : k = k2) (h2 : n = n2) (kk : G pc lv st ws k2 n2) : G pc lv st ws k n := by subst h1 h2; exact kk
theorem n_tab (K : Cn l D g own cc nL R ini scr A G) {dflt lo hi' : Int} {offs : Array Int} {len : Nat} {x : Int32} {off : Int} {tgt : Nat} (d : decode cc pc = .ok (.tableswitch dflt lo hi' offs, len)) (h1 : ¬ x.toInt < lo) (h2 : ¬ hi' < x.toInt) (ho : offs[(x.toInt - lo).toNat]? = some off) (ht : (pc : Int) + off = (tgt : Int)) (kk : G tgt lv st ws k n) : G pc lv (.int x :: st) ws k n := by
  obtain ⟨p, e, s, m, args, below, meth, c, Qw, X, hi, hA, hscr, rfl⟩ := K
  exact fun H locs ls hP hD hS hv => lv_tableIn X.1 X.2.1 d h1 h2 ho ht (kk H locs ls hP hD hS hv)
theorem n_tabO (K : Cn l D g own cc nL R ini scr A G) {dflt lo hi' : Int} {offs : Array Int} {len : Nat} {x : Int32} {tgt : Nat} (d : decode cc pc = .ok (.tableswitch dflt lo hi' offs, len)) (h1 : x.toInt < lo ∨ hi' < x.toInt) (ht : (pc : Int) + dflt = (tgt : Int)) (kk : G tgt lv st ws k n) : G pc lv (.int x :: st) ws k n := by
  obtain ⟨p, e, s, m, args, below, meth, c, Qw, X, hi, hA, hscr, rfl⟩ := K
  exact fun H locs ls hP hD hS hv => lv_tableOut X.1 X.2.1 d h1 ht (kk H locs ls hP hD hS hv)
theorem n_sld {b L : Nat} {xs : Nat → Int32} (K : Cn l D g own cc nL R ini (some (b, L, xs)) A G) (j : Nat) {i : Int32} (hi0 : i = nI j) (hj : j < L) (hL : L < 2 ^ 31) (d : decode cc pc = .ok (.iaload, 1)) (kk : G (pc + 1) lv (.int (xs j) :: st) ws k n) : G pc lv (.int i :: .ref b :: st) ws k n := by
  obtain ⟨p, e, s, m, args, below, meth, c, Qw, X, hi, hA, hscr, rfl⟩ := K
  subst hi0
  exact fun H locs ls hP hD hS hv => va_sld X.1 X.2.1 hscr.1 hscr.2.1 hscr.2.2 hS (vp_in_nI hj hL) d (by rw [nI_clamp (Nat.lt_trans hj hL)]; exact kk H locs ls hP hD hS hv)
theorem n_slen {b L : Nat} {xs : Nat → Int32} (K : Cn l D g own cc nL R ini (some (b, L, xs)) A G) (d : decode cc pc = .ok (.arraylength, 1)) (kk : G (pc + 1) lv (.int (nI L) :: st) ws k n) : G pc lv (.ref b :: st) ws k n := by
  obtain ⟨p, e, s, m, args, below, meth, c, Qw, X, hi, hA, hscr, rfl⟩ := K
  exact fun H locs ls hP hD hS hv => va_slen X.1 X.2.1 hscr.1 hscr.2.1 hscr.2.2 hS d (kk H locs ls hP hD hS hv)
theorem tyI (g : Nat → ClassId) {s : State} (hK : va_K D classes (TY g) s) {cA : ClassId} (i : Nat) {ty : FieldType} (hi : (TY g)[i]? = some (g i, ty)) (hr : va_RA s cA ty) (ho : ∀ C, ty ≠ .object C) : cA = g i := by
  have h2 := (hK.2 i _ hi).2
  cases ty with
  | object C => exact absurd rfl (ho C)
  | _ => exact Option.some.inj (Eq.trans (Eq.symm hr) h2)
theorem n_newa (K : Cn l D g own cc nL R ini scr A G) (i : Nat) {at0 : ArrayType} {ty : FieldType} (hac : Cond.arrayClass ty ∈ lw_ok) (hty : newarray.typeOf at0 = ty) (hi : (TY g)[i]? = some (g i, ty)) (ho : ∀ C, ty ≠ .object C) {z : Int32} {N : Nat} {a0 : vp_A} (ha : ∀ cA : ClassId, vp_cell cA a0 = arrV cA N (fun _ => defaultValue ty)) (hn : ¬ z < 0) (hN : z.toNatClampNeg = N) (hb : N * componentBytes ty ≤ 536870912) (hk : k + 1 ≤ R.cells) (hs : n + N ≤ R.slots) (d : decode cc pc = .ok (.newarray at0, 2))
    (kk : ∀ q : Nat, G (pc + 2) lv (.ref q :: st) (ws ++ [(q, .inl (g i, a0))]) (k + 1) (n + N)) : G pc lv (.int z :: st) ws k n := by
  obtain ⟨p, e, s, m, args, below, meth, c, Qw, X, hi9, hA, hscr, rfl⟩ := K
  intro H locs ls hP hD hS hv
  refine va_newa X.1 X.2.1 (by rw [hty]; exact X.2.2.2.2.1 _ hac) hty X.2.2.2.2.2.1 hP hD hS hA ha hn hN hb hk hs d (fun q cA H1 hK1 hP1 hD1 hS1 => ?_)
  have e1 : cA = g i := tyI g X.2.2.2.2.2.1 i hi (hK1.2 3 (cA, ty) rfl).2 ho
  subst e1
  exact kk q H1 locs ls hP1 hD1 hS1 hv
theorem n_putF (K : Cn l D g own cc nL R true scr A G) (q0 : Nat) {ci j idx x : Nat} {fs : List Value} {C : String} {T : u_T} {N : Nat} {v : Value} {ty : FieldType} {ty0 : Nat → FieldType} (hin : ∀ w ∈ u_ws C T N, w ∈ lw_ok) (hty : ∀ k, k < N → parseFieldDescriptor (T k).2.2.1 = some (ty0 k)) (hnm : ∀ a, a < N → ∀ b, b < N → a ≠ b → (T a).2.1 ≠ (T b).2.1) (he : ws[q0]? = some (x, .inr (ci, fs))) (hc : classes[ci]? = some (C, T, N)) (hk : j < N) (hlink : Cond.fieldLink own idx (T j).1 (T j).2.1 (T j).2.2.1 ∈ lw_ok) (hfin : (T j).2.2.2 = true) (hdecl : (T j).1 = own) (hd : ty0 j = ty) (hn : narrow ty v = v) (hfit : fits ty v = true) (hlen : j < fs.length) (d : decode cc pc = .ok (.putfield idx, 3)) (hw : ws.set q0 (x, .inr (ci, fs.set j v)) = ws') (kk : G (pc + 3) lv st ws' k n) : G pc lv (v :: .ref x :: st) ws k n := by
  obtain ⟨p, e, s, m, args, below, meth, c, Qw, X, hi, hA, hscr, rfl⟩ := K
  subst hw
  exact fun H locs ls hP hD hS hv => va_putF X.1 X.2.1 X.2.2.2.2.1 hin ty0 hty hnm X.2.2.2.1 X.2.2.2.2.2.1 hP hD hS q0 he hc j hk (X.2.2.2.2.1 _ hlink) (fun _ h9 => h9) hfin (hi rfl) hdecl (hd ▸ hty j hk) hn hfit hlen d (fun H locs hP hD hS => kk H locs ls hP hD hS hv)
theorem n_put (K : Cn l D g own cc nL R ini scr A G) (q0 : Nat) {ci j idx x : Nat} {fs : List Value} {C : String} {T : u_T} {N : Nat} {v : Value} {ty : FieldType} {ty0 : Nat → FieldType} (hin : ∀ w ∈ u_ws C T N, w ∈ lw_ok) (hty : ∀ k, k < N → parseFieldDescriptor (T k).2.2.1 = some (ty0 k)) (hnm : ∀ a, a < N → ∀ b, b < N → a ≠ b → (T a).2.1 ≠ (T b).2.1) (he : ws[q0]? = some (x, .inr (ci, fs))) (hc : classes[ci]? = some (C, T, N)) (hk : j < N) (hlink : Cond.fieldLink own idx (T j).1 (T j).2.1 (T j).2.2.1 ∈ lw_ok) (hfin : (T j).2.2.2 = false) (hd : ty0 j = ty) (hn : narrow ty v = v) (hfit : fits ty v = true) (hlen : j < fs.length) (d : decode cc pc = .ok (.putfield idx, 3)) (hw : ws.set q0 (x, .inr (ci, fs.set j v)) = ws') (kk : G (pc + 3) lv st ws' k n) : G pc lv (v :: .ref x :: st) ws k n := by
  obtain ⟨p, e, s, m, args, below, meth, c, Qw, X, hi, hA, hscr, rfl⟩ := K
  subst hw
  exact fun H locs ls hP hD hS hv => va_put X.1 X.2.1 X.2.2.2.2.1 hin ty0 hty hnm X.2.2.2.1 X.2.2.2.2.2.1 hP hD hS q0 he hc j hk (X.2.2.2.2.1 _ hlink) (fun _ h9 => h9) hfin (hd ▸ hty j hk) hn hfit hlen d (fun H locs hP hD hS => kk H locs ls hP hD hS hv)
theorem n_new (K : Cn l D g own cc nL R ini scr A G) {ci idx : Nat} {fs : List Value} {C : String} {T : u_T} {N : Nat} {ty0 : Nat → FieldType} (hin : ∀ w ∈ u_ws C T N, w ∈ lw_ok) (hty : ∀ k, k < N → parseFieldDescriptor (T k).2.2.1 = some (ty0 k)) (hcl : Cond.classLink own idx C ∈ lw_ok) (hins : Cond.instantiable C N ∈ lw_ok) (hini : Cond.initialized C ∈ lw_ok) (hc : classes[ci]? = some (C, T, N)) (hfs : ∀ j, j < N → defaultValue (ty0 j) = vp_V fs j) (hk : k + 1 ≤ R.cells) (hs : n + N ≤ R.slots) (d : decode cc pc = .ok (.new idx, 3)) (kk : ∀ q : Nat, G (pc + 3) lv (.ref q :: st) (ws ++ [(q, .inr (ci, fs))]) (k + 1) (n + N)) : G pc lv st ws k n := by
  obtain ⟨p, e, s, m, args, below, meth, c, Qw, X, hi, hA, hscr, rfl⟩ := K
  exact fun H locs ls hP hD hS hv => va_new X.1 X.2.1 X.2.2.2.2.1 hin ty0 hty X.2.2.2.1 (X.2.2.2.2.1 _ hcl) (X.2.2.2.2.1 _ hins) (X.2.2.2.2.1 _ hini) X.2.2.2.2.2.1 hP hD hS hA hc hfs hk hs d (fun q H hP hD hS => kk q H locs ls hP hD hS hv)
theorem n_obj (K : Cn l D g own cc nL R ini scr A G) {idx x : Nat} (hml : Cond.methodLink own idx objectInit ∈ lw_ok) (hfr : 1 ≤ R.frames) (hlo : (st.map fun v => v.category).sum + 12 ≤ R.locals) (d : decode cc pc = .ok (.invokespecial idx, 3)) (kk : G (pc + 3) lv st ws k n) : G pc lv (.ref x :: st) ws k n := by
  obtain ⟨p, e, s, m, args, below, meth, c, Qw, X, hi, hA, hscr, rfl⟩ := K
  intro H locs ls hP hD hS hv
  refine W.objInit X.1 X.2.1 X.2.2.2.1 (X.2.2.2.2.1 _ hml) (X.2.2.2.2.1 _ im_obj) (X.2.2.2.2.1 _ k_obj) rfl (by rw [X.2.2.1]; exact hv.1) rfl d hfr (by show 2 * 0 + _ + 12 ≤ _; omega) ?_
  exact kk H locs ls hP hD hS hv
/-! contracts of constructors -/
def QN (D : va_G) (ws0 : va_W) (Q : va_W → Prop) (sz : Nat) : Array Value → State → Outcome → State → Prop := fun _ st oc t => (∃ ws' : va_W, oc = .returned none ∧ Q ws' ∧ va_P D classes ws' t.heap ∧ va_D (va_A ws0 sz) ws') ∧ va_F (va_A ws0 sz) st t
def CtN (l : Launch) (D : va_G) (g : Nat → ClassId) (y : MethodName) (b : ByteArray) (nL fr lo mc ms : Nat) (av : List Value) (ws : va_W) (Q : va_W → Prop) : Prop :=
  ∀ sz : Nat, Met l y (w_all y b nL none) { frames := fr, cells := mc, slots := ms, locals := lo } (PP D g av ws sz) (QN D ws Q sz) mc ms (va_A ws sz)
theorem CtN.of {y : MethodName} {b : ByteArray} {fr lo mc ms : Nat} {av : List Value} {Q : va_W → Prop} (hy : plainName y.cls = true) (ho : y.cls = own) (hnm : y.name = "<init>") (hn : (lg_sl av).length ≤ nL) (hlv : lv_args 0 av = lv)
    (h : ∀ (A : Nat → Prop) (G : GN), Cn l D g own b nL { frames := fr, cells := mc, slots := ms, locals := lo } true none A G → (∀ pc lv ws', decode b pc = .ok (.return_, 1) → Q ws' → G pc lv [] ws' mc ms) → G 0 lv [] ws 0 0) : CtN l D g y b nL fr lo mc ms av ws Q := by
  intro sz
  refine Met.ofW (cc := b) (maxL := nL) (ret := none) hy rfl ?_
  intro p e s m args below meth c s₁ B hml hv
  obtain ⟨rfl, hsz, hP, hK, hD0, hN⟩ := hv
  have hts := atoms_spec (ws := w_all y b nL none) B.pre
  have hown : s.vm.findClass own = some m.cls := ho ▸ findClass_of_methodNamed B.named
  subst hsz
  have hl := lv_entry av (n := nL) hn
  rw [lg_entry_eq]
  rw [hlv] at hl
  refine h (va_A ws s.heap.size) _ ⟨p, e, s, m, _, below, meth, c, _, ⟨B.exec, B.bytes, hml, hown, fun w hw => hts w (List.mem_cons_of_mem _ hw), hK, hN⟩, fun _ => (name_of_methodNamed B.named B.method).1.trans hnm, fun q hq => Or.inr hq, trivial, rfl⟩ ?_ s.heap [] _ hP hD0.self va_S.rf hl
  intro pc lv ws' d hq H locs ls hP hD hS hv
  exact W.vret B.exec B.bytes B.returns (fun t ht hW => ⟨⟨ws', rfl, hq, by rw [ht]; exact hP, hD⟩, hS.F ht⟩) hS.2.2 d B.notSynchronized
/-- a constructor called on a cell that was just made, the last of the world -/
theorem n_ctor (K : Cn l D g own cc nL R ini scr A G) {y : MethodName} {b : ByteArray} {nC fr lo mc ms idx x ci : Nat} {fs As : List Value} {Q2 : va_W → Prop} {wr : va_W} {C : String} (hC : CtN l D g y b nC fr lo mc ms (.ref x :: As) [(x, .inr (ci, fs))] Q2) (hk0 : Cond.code y b nC none ∈ lw_ok) (hini : Cond.initialized C ∈ lw_ok) (hd : y.cls = C ∧ y.cls ≠ "java/lang/invoke/MethodHandle" ∧ y.cls ≠ "java/lang/invoke/VarHandle" ∧ (parseMethodDescriptor y.desc).map (fun d => d.parameters.length) = some As.length) (hnm : y.name = "<init>") (him : Cond.instanceMethod y ∈ lw_ok) (hml : Cond.methodLink own idx y ∈ lw_ok) (hR : fr + 1 ≤ R.frames ∧ 8 + (nC + 11) + lo ≤ R.locals) (hroom : k + mc ≤ R.cells ∧ n + ms ≤ R.slots) (hws : ws = wr ++ [(x, .inr (ci, fs))]) (hst : (st.map fun v => v.category).sum ≤ 8) (d : decode cc pc = .ok (.invokespecial idx, 3))
    (kk : ∀ w1 : va_W, Q2 w1 → G (pc + 3) lv st (wr ++ w1) (k + mc) (n + ms)) (hs0 : st0 = As.reverse ++ .ref x :: st) : G pc lv st0 ws k n := by
  subst hs0
  subst hws
  obtain ⟨p, e, s, m, args, below, meth, c, Qw, X, hi, hA, hscr, rfl⟩ := K
  intro H locs ls hP hD hS hv
  have hts := X.2.2.2.2.1
  have hK := X.2.2.2.2.2.1
  have hmap : [wr.length].map (fun i => (wr ++ [(x, Sum.inr (ci, fs))] : va_W)[i]?) = ([(x, .inr (ci, fs))] : va_W).map some := by simp
  have hPc : va_P D classes [(x, .inr (ci, fs))] H := hP.sub [wr.length] (by simp)
  have hDc : va_D A [(x, .inr (ci, fs))] := hD.sub [wr.length] (by rfl) hmap
  have hFc := va_free hD hS hA [wr.length] hmap
  have hr := va_runI (l := l) (R := R) (below := below) (meth := meth) (locs := locs) (cells := k) (slots := n) (As := As) (rest := st) (g := F0 m pc ls (As.reverse ++ .ref x :: st)) (e := e) ⟨X.1, X.2.1, X.2.2.1, X.2.2.2.1, hts⟩ (hC H.size) ⟨callB_of As.length hts (gd_in hk0) rfl rfl rfl (by rw [hd.1]; exact hts _ hini) (hts _ hml) hd.2 hR, hnm, hts _ him⟩ ⟨pp_blind _ _ _ _ _, fun U hU hW => ⟨rfl, by rw [hU], by rw [hU]; exact hPc, va_K.moved hW.alike hK, hDc.weaken (fun _ _ _ _ => trivial), fun w hw => lw_warm hw hW (X.2.2.2.2.2.2 w hw)⟩⟩ rfl rfl hv.1 rfl (lv_room hst) d hroom
  intro T hT XX
  obtain ⟨v, st₀, t, T', L, h0, X', hL, e1, e2, ⟨⟨w1, hv9, hq, hb, hD1⟩, hz, hk9⟩, stp⟩ := hr T hT XX
  cases hv9
  rw [h0] at hz hk9
  have hisR : (List.range wr.length).map (fun i => (wr ++ [(x, Sum.inr (ci, fs))] : va_W)[i]?) = wr.map some := by
    apply List.ext_getElem?
    intro i
    rw [List.getElem?_map, List.getElem?_map]
    by_cases hi9 : i < wr.length
    · rw [List.getElem?_range hi9, List.getElem?_eq_getElem hi9]
      show some ((wr ++ [(x, Sum.inr (ci, fs))] : va_W)[i]?) = some (some wr[i])
      rw [List.getElem?_append_left hi9, List.getElem?_eq_getElem hi9]
    · rw [List.getElem?_eq_none (by simpa using hi9), List.getElem?_eq_none (by omega)]; rfl
  have hnd : ∀ (l9 : List Nat), l9.Pairwise (· ≠ ·) → va_nd l9 = true := by
    intro l9 h9
    induction l9 with
    | nil => rfl
    | cons a9 t9 ih9 =>
      rw [List.pairwise_cons] at h9
      simp only [va_nd, Bool.and_eq_true, decide_eq_true_eq]
      exact ⟨fun z => h9.1 a9 z rfl, ih9 h9.2⟩
  obtain ⟨hPj, hDj⟩ := va_join (wr := wr) (w1 := w1) (H1 := t.heap) hP hD [wr.length] (List.range wr.length) hmap hisR (hnd _ (List.nodup_range)) (fun i hi9 z => by rw [List.mem_range] at hi9; rw [List.mem_singleton] at z; omega) (fun q h1 h2 => hk9 q h1 h2) hFc hb hD1
  obtain ⟨t2, a1, b1⟩ := kk w1 hq T'.heap (locs ++ L) ls (by rw [e1]; exact hPj) hDj
    ⟨Nat.le_trans hS.1 (by rw [e1]; exact hz), fun q h1 h2 => by rw [e1, hk9 q (Nat.lt_of_lt_of_le h1 hS.1) (fun z => h2 (hFc q z))]; exact hS.2.1 q h1 h2, fun q hq => by
      rcases List.mem_append.mp hq with h | h
      · exact hS.2.2 q h
      · exact hFc _ (hL q h)⟩ hv T' rfl X'
  exact ⟨t2, stp t2 a1, b1⟩
/-- a call on a part of the world -/
theorem n_callV (K : Cn l D g own cc nL R ini scr A G) {y : MethodName} {b : ByteArray} {nC d2 idx q0 ci x : Nat} {r : Option FieldType} {As : List Value} {wc : va_W} {Q2 : Option Value → va_W → Prop} {C : String} {T : u_T} {N : Nat} {fs : List Value} (hC : Ct l D g y b nC r d2 (.ref x :: As) wc Q2) (hf : Mf y b nC r C As.length) (him : Cond.instanceMethod y ∈ lw_ok) (hse : Cond.selects C y y ∈ lw_ok) (hml : Cond.methodLink own idx y ∈ lw_ok) (hR : d2 + 1 ≤ R.frames ∧ 8 + (nC + 11) + 30 * d2 ≤ R.locals) (hroom : k ≤ R.cells ∧ n ≤ R.slots)
    (hrc : wc[q0]? = some (x, .inr (ci, fs))) (hcl : classes[ci]? = some (C, T, N)) (isC isR : List Nat) (hnd : va_nd isC = true) (hwc : isC.map (fun i => ws[i]?) = wc.map some) (hdis : ∀ i ∈ isR, i ∉ isC) (hst : (st.map fun v => v.category).sum ≤ 8) (d : decode cc pc = .ok (.invokevirtual idx, 3))
    (kk : ∀ (v : Option Value) (w1 : va_W), Q2 v w1 → w1.map Prod.fst = wc.map Prod.fst → ∃ ws' : va_W, ws'.map Prod.fst = ws.map Prod.fst ∧ isC.map (fun i => ws'[i]?) = w1.map some ∧ (∀ i ∈ isR, ws'[i]? = ws[i]?) ∧ (∀ k, k < ws'.length → k ∈ isC ∨ k ∈ isR) ∧ G (pc + 3) lv (v.toList ++ st) ws' k n) (hs0 : st0 = As.reverse ++ .ref x :: st) : G pc lv st0 ws k n := by
  subst hs0
  obtain ⟨p, e, s, m, args, below, meth, c, Qw, X, hi, hA, hscr, rfl⟩ := K
  intro H locs ls hP hD hS hv
  have hts := X.2.2.2.2.1
  have hK := X.2.2.2.2.2.1
  have hPc : va_P D classes wc H := by
    intro k q hq
    have h1 : (isC.map (fun i => ws[i]?))[k]? = some (some q) := by rw [hwc, List.getElem?_map, hq]; rfl
    rw [List.getElem?_map] at h1
    cases hi : isC[k]? with
    | none => rw [hi] at h1; cases h1
    | some i => rw [hi] at h1; exact hP i q (Option.some.inj h1)
  have hDc := hD.sub isC hnd hwc
  have hFc := va_free hD hS hA isC hwc
  have hr := va_runV (l := l) (R := R) (below := below) (meth := meth) (locs := locs) (cells := k) (slots := n) (As := As) (rest := st) (g := F0 m pc ls (As.reverse ++ .ref x :: st)) (e := e) ⟨X.1, X.2.1, X.2.2.1, X.2.2.2.1, hts⟩ (hC H.size) (C := C) ⟨callB_of As.length hts (gd_in hf.1) rfl rfl rfl (by rw [hf.2.2.2.1]; exact hts _ hf.2.1) (hts _ hml) hf.2.2.2.2 hR, hts _ him, hts _ hse⟩ ⟨pp_blind _ _ _ _ _, va_recv hK hPc hcl hrc, fun U hU hW => ⟨rfl, by rw [hU], by rw [hU]; exact hPc, va_K.moved hW.alike hK, hDc.weaken (fun _ _ _ _ => trivial), fun w hw => lw_warm hw hW (X.2.2.2.2.2.2 w hw)⟩⟩ rfl rfl hv.1 rfl (lv_room hst) d hroom
  intro T hT XX
  obtain ⟨v, st₀, t, T', L, h0, X', hL, e1, e2, ⟨⟨r9, w1, hv9, hq, hw1, hb⟩, hz, hk9⟩, stp⟩ := hr T hT XX
  cases hv9
  rw [h0] at hz hk9
  obtain ⟨ws', f1, f2, f3, f4, kk2⟩ := kk v w1 hq hw1
  obtain ⟨t2, a1, b1⟩ := kk2 T'.heap (locs ++ L) ls (g_joinw isC isR hP hD hwc f2 f3 f4 hdis (fun q h1 h2 => by rw [e1]; exact hk9 q h1 h2) (by rw [e1]; exact hb)) (dd_of f1 hD)
    ⟨Nat.le_trans hS.1 (by rw [e1]; exact hz), fun q h1 h2 => by rw [e1, hk9 q (Nat.lt_of_lt_of_le h1 hS.1) (fun z => h2 (hFc q z))]; exact hS.2.1 q h1 h2, fun q hq => by
      rcases List.mem_append.mp hq with h | h
      · exact hS.2.2 q h
      · exact hFc _ (hL q h)⟩ hv T' rfl X'
  exact ⟨t2, stp t2 a1, b1⟩
end NROWS
end
section
def BZ : BS := (fun _ => 0, fun _ => 0, fun _ => 0, fun _ => 0, fun _ => 0)
def PZ : Nat → Nat → Int32 := fun _ _ => 0
def IC0 : Nat → Int32 := fun i => if i = 15 then -1 else if i = 29 then 2 else 0
def IM0 : Nat → Int32 := fun i => if i = 18 then -1 else if i = 23 then 2 else 0
def FZ (k : Nat → FieldType) (n : Nat) : List Value := (List.range n).map fun i => defaultValue (k i)
theorem d_B_init_0 : decode b_B_init 0 = .ok (.aload_n 0, 1) := by decide +kernel
theorem d_B_init_1 : decode b_B_init 1 = .ok (.invokespecial 3, 3) := by decide +kernel
theorem d_B_init_4 : decode b_B_init 4 = .ok (.aload_n 0, 1) := by decide +kernel
theorem d_B_init_5 : decode b_B_init 5 = .ok (.bipush 17, 2) := by decide +kernel
theorem d_B_init_7 : decode b_B_init 7 = .ok (.newarray .int, 2) := by decide +kernel
theorem d_B_init_9 : decode b_B_init 9 = .ok (.putfield 9, 3) := by decide +kernel
theorem d_B_init_12 : decode b_B_init 12 = .ok (.aload_n 0, 1) := by decide +kernel
theorem d_B_init_13 : decode b_B_init 13 = .ok (.bipush 16, 2) := by decide +kernel
theorem d_B_init_15 : decode b_B_init 15 = .ok (.newarray .int, 2) := by decide +kernel
theorem d_B_init_17 : decode b_B_init 17 = .ok (.putfield 15, 3) := by decide +kernel
theorem d_B_init_20 : decode b_B_init 20 = .ok (.aload_n 0, 1) := by decide +kernel
theorem d_B_init_21 : decode b_B_init 21 = .ok (.bipush 20, 2) := by decide +kernel
theorem d_B_init_23 : decode b_B_init 23 = .ok (.newarray .long, 2) := by decide +kernel
theorem d_B_init_25 : decode b_B_init 25 = .ok (.putfield 18, 3) := by decide +kernel
theorem d_B_init_28 : decode b_B_init 28 = .ok (.aload_n 0, 1) := by decide +kernel
theorem d_B_init_29 : decode b_B_init 29 = .ok (.aload_n 1, 1) := by decide +kernel
theorem d_B_init_30 : decode b_B_init 30 = .ok (.putfield 22, 3) := by decide +kernel
theorem d_B_init_33 : decode b_B_init 33 = .ok (.return_, 1) := by decide +kernel
theorem d_C_init_0 : decode b_C_init 0 = .ok (.aload_n 0, 1) := by decide +kernel
theorem d_C_init_1 : decode b_C_init 1 = .ok (.invokespecial 1, 3) := by decide +kernel
theorem d_C_init_4 : decode b_C_init 4 = .ok (.aload_n 0, 1) := by decide +kernel
theorem d_C_init_5 : decode b_C_init 5 = .ok (.bipush 17, 2) := by decide +kernel
theorem d_C_init_7 : decode b_C_init 7 = .ok (.newarray .int, 2) := by decide +kernel
theorem d_C_init_9 : decode b_C_init 9 = .ok (.putfield 9, 3) := by decide +kernel
theorem d_C_init_12 : decode b_C_init 12 = .ok (.aload_n 0, 1) := by decide +kernel
theorem d_C_init_13 : decode b_C_init 13 = .ok (.bipush 22, 2) := by decide +kernel
theorem d_C_init_15 : decode b_C_init 15 = .ok (.newarray .int, 2) := by decide +kernel
theorem d_C_init_17 : decode b_C_init 17 = .ok (.putfield 13, 3) := by decide +kernel
theorem d_C_init_20 : decode b_C_init 20 = .ok (.aload_n 0, 1) := by decide +kernel
theorem d_C_init_21 : decode b_C_init 21 = .ok (.bipush 20, 2) := by decide +kernel
theorem d_C_init_23 : decode b_C_init 23 = .ok (.newarray .int, 2) := by decide +kernel
theorem d_C_init_25 : decode b_C_init 25 = .ok (.putfield 16, 3) := by decide +kernel
theorem d_C_init_28 : decode b_C_init 28 = .ok (.aload_n 0, 1) := by decide +kernel
theorem d_C_init_29 : decode b_C_init 29 = .ok (.bipush 120, 2) := by decide +kernel
theorem d_C_init_31 : decode b_C_init 31 = .ok (.newarray .int, 2) := by decide +kernel
theorem d_C_init_33 : decode b_C_init 33 = .ok (.putfield 19, 3) := by decide +kernel
theorem d_C_init_36 : decode b_C_init 36 = .ok (.aload_n 0, 1) := by decide +kernel
theorem d_C_init_37 : decode b_C_init 37 = .ok (.bipush 120, 2) := by decide +kernel
theorem d_C_init_39 : decode b_C_init 39 = .ok (.newarray .int, 2) := by decide +kernel
theorem d_C_init_41 : decode b_C_init 41 = .ok (.putfield 22, 3) := by decide +kernel
theorem d_C_init_44 : decode b_C_init 44 = .ok (.aload_n 0, 1) := by decide +kernel
theorem d_C_init_45 : decode b_C_init 45 = .ok (.new 25, 3) := by decide +kernel
theorem d_C_init_48 : decode b_C_init 48 = .ok (.dup, 1) := by decide +kernel
theorem d_C_init_49 : decode b_C_init 49 = .ok (.aload_n 0, 1) := by decide +kernel
theorem d_C_init_50 : decode b_C_init 50 = .ok (.invokespecial 27, 3) := by decide +kernel
theorem d_C_init_53 : decode b_C_init 53 = .ok (.putfield 30, 3) := by decide +kernel
theorem d_C_init_56 : decode b_C_init 56 = .ok (.aload_n 0, 1) := by decide +kernel
theorem d_C_init_57 : decode b_C_init 57 = .ok (.bipush 16, 2) := by decide +kernel
theorem d_C_init_59 : decode b_C_init 59 = .ok (.newarray .int, 2) := by decide +kernel
theorem d_C_init_61 : decode b_C_init 61 = .ok (.putfield 34, 3) := by decide +kernel
theorem d_C_init_64 : decode b_C_init 64 = .ok (.aload_n 0, 1) := by decide +kernel
theorem d_C_init_65 : decode b_C_init 65 = .ok (.bipush 16, 2) := by decide +kernel
theorem d_C_init_67 : decode b_C_init 67 = .ok (.newarray .boolean, 2) := by decide +kernel
theorem d_C_init_69 : decode b_C_init 69 = .ok (.putfield 37, 3) := by decide +kernel
theorem d_C_init_72 : decode b_C_init 72 = .ok (.aload_n 0, 1) := by decide +kernel
theorem d_C_init_73 : decode b_C_init 73 = .ok (.bipush 16, 2) := by decide +kernel
theorem d_C_init_75 : decode b_C_init 75 = .ok (.newarray .int, 2) := by decide +kernel
theorem d_C_init_77 : decode b_C_init 77 = .ok (.putfield 41, 3) := by decide +kernel
theorem d_C_init_80 : decode b_C_init 80 = .ok (.aload_n 0, 1) := by decide +kernel
theorem d_C_init_81 : decode b_C_init 81 = .ok (.sipush 400, 3) := by decide +kernel
theorem d_C_init_84 : decode b_C_init 84 = .ok (.newarray .int, 2) := by decide +kernel
theorem d_C_init_86 : decode b_C_init 86 = .ok (.putfield 44, 3) := by decide +kernel
theorem d_C_init_89 : decode b_C_init 89 = .ok (.aload_n 0, 1) := by decide +kernel
theorem d_C_init_90 : decode b_C_init 90 = .ok (.iconst (-1), 1) := by decide +kernel
theorem d_C_init_91 : decode b_C_init 91 = .ok (.putfield 47, 3) := by decide +kernel
theorem d_C_init_94 : decode b_C_init 94 = .ok (.aload_n 0, 1) := by decide +kernel
theorem d_C_init_95 : decode b_C_init 95 = .ok (.new 25, 3) := by decide +kernel
theorem d_C_init_98 : decode b_C_init 98 = .ok (.dup, 1) := by decide +kernel
theorem d_C_init_99 : decode b_C_init 99 = .ok (.aload_n 0, 1) := by decide +kernel
theorem d_C_init_100 : decode b_C_init 100 = .ok (.invokespecial 27, 3) := by decide +kernel
theorem d_C_init_103 : decode b_C_init 103 = .ok (.putfield 51, 3) := by decide +kernel
theorem d_C_init_106 : decode b_C_init 106 = .ok (.aload_n 0, 1) := by decide +kernel
theorem d_C_init_107 : decode b_C_init 107 = .ok (.sipush 400, 3) := by decide +kernel
theorem d_C_init_110 : decode b_C_init 110 = .ok (.newarray .int, 2) := by decide +kernel
theorem d_C_init_112 : decode b_C_init 112 = .ok (.putfield 54, 3) := by decide +kernel
theorem d_C_init_115 : decode b_C_init 115 = .ok (.aload_n 0, 1) := by decide +kernel
theorem d_C_init_116 : decode b_C_init 116 = .ok (.sipush 400, 3) := by decide +kernel
theorem d_C_init_119 : decode b_C_init 119 = .ok (.newarray .int, 2) := by decide +kernel
theorem d_C_init_121 : decode b_C_init 121 = .ok (.putfield 57, 3) := by decide +kernel
theorem d_C_init_124 : decode b_C_init 124 = .ok (.aload_n 0, 1) := by decide +kernel
theorem d_C_init_125 : decode b_C_init 125 = .ok (.sipush 400, 3) := by decide +kernel
theorem d_C_init_128 : decode b_C_init 128 = .ok (.newarray .boolean, 2) := by decide +kernel
theorem d_C_init_130 : decode b_C_init 130 = .ok (.putfield 60, 3) := by decide +kernel
theorem d_C_init_133 : decode b_C_init 133 = .ok (.aload_n 0, 1) := by decide +kernel
theorem d_C_init_134 : decode b_C_init 134 = .ok (.iconst 2, 1) := by decide +kernel
theorem d_C_init_135 : decode b_C_init 135 = .ok (.putfield 63, 3) := by decide +kernel
theorem d_C_init_138 : decode b_C_init 138 = .ok (.return_, 1) := by decide +kernel
theorem d_M_init_0 : decode b_M_init 0 = .ok (.aload_n 0, 1) := by decide +kernel
theorem d_M_init_1 : decode b_M_init 1 = .ok (.invokespecial 1, 3) := by decide +kernel
theorem d_M_init_4 : decode b_M_init 4 = .ok (.aload_n 0, 1) := by decide +kernel
theorem d_M_init_5 : decode b_M_init 5 = .ok (.bipush 17, 2) := by decide +kernel
theorem d_M_init_7 : decode b_M_init 7 = .ok (.newarray .int, 2) := by decide +kernel
theorem d_M_init_9 : decode b_M_init 9 = .ok (.putfield 7, 3) := by decide +kernel
theorem d_M_init_12 : decode b_M_init 12 = .ok (.aload_n 0, 1) := by decide +kernel
theorem d_M_init_13 : decode b_M_init 13 = .ok (.bipush 120, 2) := by decide +kernel
theorem d_M_init_15 : decode b_M_init 15 = .ok (.newarray .int, 2) := by decide +kernel
theorem d_M_init_17 : decode b_M_init 17 = .ok (.putfield 13, 3) := by decide +kernel
theorem d_M_init_20 : decode b_M_init 20 = .ok (.aload_n 0, 1) := by decide +kernel
theorem d_M_init_21 : decode b_M_init 21 = .ok (.bipush 120, 2) := by decide +kernel
theorem d_M_init_23 : decode b_M_init 23 = .ok (.newarray .int, 2) := by decide +kernel
theorem d_M_init_25 : decode b_M_init 25 = .ok (.putfield 16, 3) := by decide +kernel
theorem d_M_init_28 : decode b_M_init 28 = .ok (.aload_n 0, 1) := by decide +kernel
theorem d_M_init_29 : decode b_M_init 29 = .ok (.bipush 22, 2) := by decide +kernel
theorem d_M_init_31 : decode b_M_init 31 = .ok (.newarray .int, 2) := by decide +kernel
theorem d_M_init_33 : decode b_M_init 33 = .ok (.putfield 19, 3) := by decide +kernel
theorem d_M_init_36 : decode b_M_init 36 = .ok (.aload_n 0, 1) := by decide +kernel
theorem d_M_init_37 : decode b_M_init 37 = .ok (.bipush 21, 2) := by decide +kernel
theorem d_M_init_39 : decode b_M_init 39 = .ok (.newarray .int, 2) := by decide +kernel
theorem d_M_init_41 : decode b_M_init 41 = .ok (.putfield 22, 3) := by decide +kernel
theorem d_M_init_44 : decode b_M_init 44 = .ok (.aload_n 0, 1) := by decide +kernel
theorem d_M_init_45 : decode b_M_init 45 = .ok (.bipush 16, 2) := by decide +kernel
theorem d_M_init_47 : decode b_M_init 47 = .ok (.newarray .int, 2) := by decide +kernel
theorem d_M_init_49 : decode b_M_init 49 = .ok (.putfield 25, 3) := by decide +kernel
theorem d_M_init_52 : decode b_M_init 52 = .ok (.aload_n 0, 1) := by decide +kernel
theorem d_M_init_53 : decode b_M_init 53 = .ok (.bipush 16, 2) := by decide +kernel
theorem d_M_init_55 : decode b_M_init 55 = .ok (.newarray .boolean, 2) := by decide +kernel
theorem d_M_init_57 : decode b_M_init 57 = .ok (.putfield 28, 3) := by decide +kernel
theorem d_M_init_60 : decode b_M_init 60 = .ok (.aload_n 0, 1) := by decide +kernel
theorem d_M_init_61 : decode b_M_init 61 = .ok (.iconst (-1), 1) := by decide +kernel
theorem d_M_init_62 : decode b_M_init 62 = .ok (.putfield 32, 3) := by decide +kernel
theorem d_M_init_65 : decode b_M_init 65 = .ok (.aload_n 0, 1) := by decide +kernel
theorem d_M_init_66 : decode b_M_init 66 = .ok (.sipush 401, 3) := by decide +kernel
theorem d_M_init_69 : decode b_M_init 69 = .ok (.newarray .int, 2) := by decide +kernel
theorem d_M_init_71 : decode b_M_init 71 = .ok (.putfield 36, 3) := by decide +kernel
theorem d_M_init_74 : decode b_M_init 74 = .ok (.aload_n 0, 1) := by decide +kernel
theorem d_M_init_75 : decode b_M_init 75 = .ok (.iconst 2, 1) := by decide +kernel
theorem d_M_init_76 : decode b_M_init 76 = .ok (.putfield 39, 3) := by decide +kernel
theorem d_M_init_79 : decode b_M_init 79 = .ok (.aload_n 0, 1) := by decide +kernel
theorem d_M_init_80 : decode b_M_init 80 = .ok (.sipush 402, 3) := by decide +kernel
theorem d_M_init_83 : decode b_M_init 83 = .ok (.newarray .int, 2) := by decide +kernel
theorem d_M_init_85 : decode b_M_init 85 = .ok (.putfield 42, 3) := by decide +kernel
theorem d_M_init_88 : decode b_M_init 88 = .ok (.aload_n 0, 1) := by decide +kernel
theorem d_M_init_89 : decode b_M_init 89 = .ok (.sipush 402, 3) := by decide +kernel
theorem d_M_init_92 : decode b_M_init 92 = .ok (.newarray .int, 2) := by decide +kernel
theorem d_M_init_94 : decode b_M_init 94 = .ok (.putfield 45, 3) := by decide +kernel
theorem d_M_init_97 : decode b_M_init 97 = .ok (.aload_n 0, 1) := by decide +kernel
theorem d_M_init_98 : decode b_M_init 98 = .ok (.sipush 402, 3) := by decide +kernel
theorem d_M_init_101 : decode b_M_init 101 = .ok (.newarray .boolean, 2) := by decide +kernel
theorem d_M_init_103 : decode b_M_init 103 = .ok (.putfield 48, 3) := by decide +kernel
theorem d_M_init_106 : decode b_M_init 106 = .ok (.return_, 1) := by decide +kernel
theorem mh_B : y_B_init.cls = R_B ∧ y_B_init.cls ≠ "java/lang/invoke/MethodHandle" ∧ y_B_init.cls ≠ "java/lang/invoke/VarHandle" ∧ (parseMethodDescriptor y_B_init.desc).map (fun d => d.parameters.length) = some 1 := by decide +kernel
theorem mh_C : y_C_init.cls = R_C ∧ y_C_init.cls ≠ "java/lang/invoke/MethodHandle" ∧ y_C_init.cls ≠ "java/lang/invoke/VarHandle" ∧ (parseMethodDescriptor y_C_init.desc).map (fun d => d.parameters.length) = some 0 := by decide +kernel
theorem mh_M : y_M_init.cls = R_M ∧ y_M_init.cls ≠ "java/lang/invoke/MethodHandle" ∧ y_M_init.cls ≠ "java/lang/invoke/VarHandle" ∧ (parseMethodDescriptor y_M_init.desc).map (fun d => d.parameters.length) = some 0 := by decide +kernel
section INITS
variable {l : Launch} {D : va_G} {g : Nat → ClassId}
set_option maxHeartbeats 4000000 in
set_option maxRecDepth 100000 in
theorem c_B_init (b o : Nat) : CtN l D g y_B_init b_B_init 2 1 12 3 53 [.ref b, .ref o] [(b, .inr (0, [.null, .null, .null, .int 0, .null, .long 0, .long 0, .int 0, .int 0]))] (fun ws => ∃ q1 q2 q3 : Nat, ws = [(b, .inr (0, BF o q1 q2 q3 BZ)), (q1, .inl (g 0, 17, .inl (fun _ => 0))), (q2, .inl (g 0, 16, .inl (fun _ => 0))), (q3, .inl (g 2, 20, .inr (.inl (fun _ => 0))))]) := by
  refine CtN.of (own := R_B) (lv := [(0, .ref b), (1, .ref o)]) (by decide) rfl rfl (Nat.le_of_ble_eq_true rfl) rfl ?_
  intro A G K hret
  refine n_aload_n K 0 d_B_init_0 rfl ?_
  refine n_obj K oi_B (Nat.le_of_ble_eq_true rfl) (Nat.le_of_ble_eq_true rfl) d_B_init_1 ?_
  refine n_aload_n K 0 d_B_init_4 rfl ?_
  refine n_bipush K (v := 17) d_B_init_5 (by decide) ?_
  refine n_newa K 0 (N := 17) (a0 := (17, .inl (fun _ => 0))) ac_int rfl rfl (fun _ => FieldType.noConfusion) (fun _ => rfl) (by decide) (by decide) (by decide) (Nat.le_of_ble_eq_true rfl) (Nat.le_of_ble_eq_true rfl) d_B_init_7 (fun q1 => ?_)
  refine n_putF (ci := 0) (j := 1) (ty := .array .int) (ws' := [(b, .inr (0, [.null, .ref q1, .null, .int 0, .null, .long 0, .long 0, .int 0, .int 0])), (q1, .inl (g 0, 17, .inl (fun _ => 0)))]) K 0 i_B t_B_ok n_B rfl rfl (by decide) fl_B_9 rfl rfl rfl rfl rfl (by decide : 1 < 9) d_B_init_9 rfl ?_
  refine n_aload_n K 0 d_B_init_12 rfl ?_
  refine n_bipush K (v := 16) d_B_init_13 (by decide) ?_
  refine n_newa K 0 (N := 16) (a0 := (16, .inl (fun _ => 0))) ac_int rfl rfl (fun _ => FieldType.noConfusion) (fun _ => rfl) (by decide) (by decide) (by decide) (Nat.le_of_ble_eq_true rfl) (Nat.le_of_ble_eq_true rfl) d_B_init_15 (fun q2 => ?_)
  refine n_putF (ci := 0) (j := 2) (ty := .array .int) (ws' := [(b, .inr (0, [.null, .ref q1, .ref q2, .int 0, .null, .long 0, .long 0, .int 0, .int 0])), (q1, .inl (g 0, 17, .inl (fun _ => 0))), (q2, .inl (g 0, 16, .inl (fun _ => 0)))]) K 0 i_B t_B_ok n_B rfl rfl (by decide) fl_B_15 rfl rfl rfl rfl rfl (by decide : 2 < 9) d_B_init_17 rfl ?_
  refine n_aload_n K 0 d_B_init_20 rfl ?_
  refine n_bipush K (v := 20) d_B_init_21 (by decide) ?_
  refine n_newa K 2 (N := 20) (a0 := (20, .inr (.inl (fun _ => 0)))) ac_long rfl rfl (fun _ => FieldType.noConfusion) (fun _ => rfl) (by decide) (by decide) (by decide) (Nat.le_of_ble_eq_true rfl) (Nat.le_of_ble_eq_true rfl) d_B_init_23 (fun q3 => ?_)
  refine n_putF (ci := 0) (j := 4) (ty := .array .long) (ws' := [(b, .inr (0, [.null, .ref q1, .ref q2, .int 0, .ref q3, .long 0, .long 0, .int 0, .int 0])), (q1, .inl (g 0, 17, .inl (fun _ => 0))), (q2, .inl (g 0, 16, .inl (fun _ => 0))), (q3, .inl (g 2, 20, .inr (.inl (fun _ => 0))))]) K 0 i_B t_B_ok n_B rfl rfl (by decide) fl_B_18 rfl rfl rfl rfl rfl (by decide : 4 < 9) d_B_init_25 rfl ?_
  refine n_aload_n K 0 d_B_init_28 rfl ?_
  refine n_aload_n K 1 d_B_init_29 rfl ?_
  refine n_putF (ci := 0) (j := 0) (ty := .object "LeastCost") (ws' := [(b, .inr (0, [.ref o, .ref q1, .ref q2, .int 0, .ref q3, .long 0, .long 0, .int 0, .int 0])), (q1, .inl (g 0, 17, .inl (fun _ => 0))), (q2, .inl (g 0, 16, .inl (fun _ => 0))), (q3, .inl (g 2, 20, .inr (.inl (fun _ => 0))))]) K 0 i_B t_B_ok n_B rfl rfl (by decide) fl_B_22 rfl rfl rfl rfl rfl (by decide : 0 < 9) d_B_init_30 rfl ?_
  exact hret _ _ _ d_B_init_33 ⟨q1, q2, q3, rfl⟩
set_option maxHeartbeats 4000000 in
set_option maxRecDepth 100000 in
theorem c_C_init (x : Nat) : CtN l D g y_C_init b_C_init 1 2 33 20 2071 [.ref x] [(x, .inr (1, [.null, .null, .null, .null, .null, .int 0, .int 0, .int 0, .null, .null, .null, .null, .int 0, .null, .int 0, .int 0, .int 0, .int 0, .int 0, .int 0, .null, .null, .null, .null, .int 0, .int 0, .int 0, .int 0, .int 0, .int 0]))] (fun ws => ∃ a : Nat → Nat, a 0 = x ∧ ws = CW a g PZ IC0 PZ BZ BZ) := by
  refine CtN.of (own := R_C) (lv := [(0, .ref x)]) (by decide) rfl rfl (Nat.le_of_ble_eq_true rfl) rfl ?_
  intro A G K hret
  refine n_aload_n K 0 d_C_init_0 rfl ?_
  refine n_obj K oi_C (Nat.le_of_ble_eq_true rfl) (Nat.le_of_ble_eq_true rfl) d_C_init_1 ?_
  refine n_aload_n K 0 d_C_init_4 rfl ?_
  refine n_bipush K (v := 17) d_C_init_5 (by decide) ?_
  refine n_newa K 0 (N := 17) (a0 := (17, .inl (fun _ => 0))) ac_int rfl rfl (fun _ => FieldType.noConfusion) (fun _ => rfl) (by decide) (by decide) (by decide) (Nat.le_of_ble_eq_true rfl) (Nat.le_of_ble_eq_true rfl) d_C_init_7 (fun q1 => ?_)
  refine n_putF (ci := 1) (j := 0) (ty := .array .int) (ws' := [(x, .inr (1, [.ref q1, .null, .null, .null, .null, .int 0, .int 0, .int 0, .null, .null, .null, .null, .int 0, .null, .int 0, .int 0, .int 0, .int 0, .int 0, .int 0, .null, .null, .null, .null, .int 0, .int 0, .int 0, .int 0, .int 0, .int 0])), (q1, .inl (g 0, 17, .inl (fun _ => 0)))]) K 0 i_C t_C_ok n_C rfl rfl (by decide) fl_C_9 rfl rfl rfl rfl rfl (by decide : 0 < 30) d_C_init_9 rfl ?_
  refine n_aload_n K 0 d_C_init_12 rfl ?_
  refine n_bipush K (v := 22) d_C_init_13 (by decide) ?_
  refine n_newa K 0 (N := 22) (a0 := (22, .inl (fun _ => 0))) ac_int rfl rfl (fun _ => FieldType.noConfusion) (fun _ => rfl) (by decide) (by decide) (by decide) (Nat.le_of_ble_eq_true rfl) (Nat.le_of_ble_eq_true rfl) d_C_init_15 (fun q2 => ?_)
  refine n_putF (ci := 1) (j := 1) (ty := .array .int) (ws' := [(x, .inr (1, [.ref q1, .ref q2, .null, .null, .null, .int 0, .int 0, .int 0, .null, .null, .null, .null, .int 0, .null, .int 0, .int 0, .int 0, .int 0, .int 0, .int 0, .null, .null, .null, .null, .int 0, .int 0, .int 0, .int 0, .int 0, .int 0])), (q1, .inl (g 0, 17, .inl (fun _ => 0))), (q2, .inl (g 0, 22, .inl (fun _ => 0)))]) K 0 i_C t_C_ok n_C rfl rfl (by decide) fl_C_13 rfl rfl rfl rfl rfl (by decide : 1 < 30) d_C_init_17 rfl ?_
  refine n_aload_n K 0 d_C_init_20 rfl ?_
  refine n_bipush K (v := 20) d_C_init_21 (by decide) ?_
  refine n_newa K 0 (N := 20) (a0 := (20, .inl (fun _ => 0))) ac_int rfl rfl (fun _ => FieldType.noConfusion) (fun _ => rfl) (by decide) (by decide) (by decide) (Nat.le_of_ble_eq_true rfl) (Nat.le_of_ble_eq_true rfl) d_C_init_23 (fun q3 => ?_)
  refine n_putF (ci := 1) (j := 2) (ty := .array .int) (ws' := [(x, .inr (1, [.ref q1, .ref q2, .ref q3, .null, .null, .int 0, .int 0, .int 0, .null, .null, .null, .null, .int 0, .null, .int 0, .int 0, .int 0, .int 0, .int 0, .int 0, .null, .null, .null, .null, .int 0, .int 0, .int 0, .int 0, .int 0, .int 0])), (q1, .inl (g 0, 17, .inl (fun _ => 0))), (q2, .inl (g 0, 22, .inl (fun _ => 0))), (q3, .inl (g 0, 20, .inl (fun _ => 0)))]) K 0 i_C t_C_ok n_C rfl rfl (by decide) fl_C_16 rfl rfl rfl rfl rfl (by decide : 2 < 30) d_C_init_25 rfl ?_
  refine n_aload_n K 0 d_C_init_28 rfl ?_
  refine n_bipush K (v := 120) d_C_init_29 (by decide) ?_
  refine n_newa K 0 (N := 120) (a0 := (120, .inl (fun _ => 0))) ac_int rfl rfl (fun _ => FieldType.noConfusion) (fun _ => rfl) (by decide) (by decide) (by decide) (Nat.le_of_ble_eq_true rfl) (Nat.le_of_ble_eq_true rfl) d_C_init_31 (fun q4 => ?_)
  refine n_putF (ci := 1) (j := 3) (ty := .array .int) (ws' := [(x, .inr (1, [.ref q1, .ref q2, .ref q3, .ref q4, .null, .int 0, .int 0, .int 0, .null, .null, .null, .null, .int 0, .null, .int 0, .int 0, .int 0, .int 0, .int 0, .int 0, .null, .null, .null, .null, .int 0, .int 0, .int 0, .int 0, .int 0, .int 0])), (q1, .inl (g 0, 17, .inl (fun _ => 0))), (q2, .inl (g 0, 22, .inl (fun _ => 0))), (q3, .inl (g 0, 20, .inl (fun _ => 0))), (q4, .inl (g 0, 120, .inl (fun _ => 0)))]) K 0 i_C t_C_ok n_C rfl rfl (by decide) fl_C_19 rfl rfl rfl rfl rfl (by decide : 3 < 30) d_C_init_33 rfl ?_
  refine n_aload_n K 0 d_C_init_36 rfl ?_
  refine n_bipush K (v := 120) d_C_init_37 (by decide) ?_
  refine n_newa K 0 (N := 120) (a0 := (120, .inl (fun _ => 0))) ac_int rfl rfl (fun _ => FieldType.noConfusion) (fun _ => rfl) (by decide) (by decide) (by decide) (Nat.le_of_ble_eq_true rfl) (Nat.le_of_ble_eq_true rfl) d_C_init_39 (fun q5 => ?_)
  refine n_putF (ci := 1) (j := 4) (ty := .array .int) (ws' := [(x, .inr (1, [.ref q1, .ref q2, .ref q3, .ref q4, .ref q5, .int 0, .int 0, .int 0, .null, .null, .null, .null, .int 0, .null, .int 0, .int 0, .int 0, .int 0, .int 0, .int 0, .null, .null, .null, .null, .int 0, .int 0, .int 0, .int 0, .int 0, .int 0])), (q1, .inl (g 0, 17, .inl (fun _ => 0))), (q2, .inl (g 0, 22, .inl (fun _ => 0))), (q3, .inl (g 0, 20, .inl (fun _ => 0))), (q4, .inl (g 0, 120, .inl (fun _ => 0))), (q5, .inl (g 0, 120, .inl (fun _ => 0)))]) K 0 i_C t_C_ok n_C rfl rfl (by decide) fl_C_22 rfl rfl rfl rfl rfl (by decide : 4 < 30) d_C_init_41 rfl ?_
  refine n_aload_n K 0 d_C_init_44 rfl ?_
  refine n_new K (ci := 0) (fs := [.null, .null, .null, .int 0, .null, .long 0, .long 0, .int 0, .int 0]) i_B t_B_ok cl_C_25 in_B ini_B rfl (by decide) (Nat.le_of_ble_eq_true rfl) (Nat.le_of_ble_eq_true rfl) d_C_init_45 (fun q6 => ?_)
  refine n_dup K d_C_init_48 rfl ?_
  refine n_aload_n K 0 d_C_init_49 rfl ?_
  refine n_ctor (C := R_B) K (c_B_init q6 x) k_B_init ini_B mh_B rfl im_B_init ml_C_27 (by decide) (by decide) rfl (Nat.le_of_ble_eq_true rfl) d_C_init_50 (fun w1 hq => ?_) rfl
  obtain ⟨q7, q8, q9, rfl⟩ := hq
  refine n_putF (ci := 1) (j := 8) (ty := .object "LeastCost$Board") (ws' := [(x, .inr (1, [.ref q1, .ref q2, .ref q3, .ref q4, .ref q5, .int 0, .int 0, .int 0, .ref q6, .null, .null, .null, .int 0, .null, .int 0, .int 0, .int 0, .int 0, .int 0, .int 0, .null, .null, .null, .null, .int 0, .int 0, .int 0, .int 0, .int 0, .int 0])), (q1, .inl (g 0, 17, .inl (fun _ => 0))), (q2, .inl (g 0, 22, .inl (fun _ => 0))), (q3, .inl (g 0, 20, .inl (fun _ => 0))), (q4, .inl (g 0, 120, .inl (fun _ => 0))), (q5, .inl (g 0, 120, .inl (fun _ => 0))), (q6, .inr (0, BF x q7 q8 q9 BZ)), (q7, .inl (g 0, 17, .inl (fun _ => 0))), (q8, .inl (g 0, 16, .inl (fun _ => 0))), (q9, .inl (g 2, 20, .inr (.inl (fun _ => 0))))]) K 0 i_C t_C_ok n_C rfl rfl (by decide) fl_C_30 rfl rfl rfl rfl rfl (by decide : 8 < 30) d_C_init_53 rfl ?_
  refine n_aload_n K 0 d_C_init_56 rfl ?_
  refine n_bipush K (v := 16) d_C_init_57 (by decide) ?_
  refine n_newa K 0 (N := 16) (a0 := (16, .inl (fun _ => 0))) ac_int rfl rfl (fun _ => FieldType.noConfusion) (fun _ => rfl) (by decide) (by decide) (by decide) (Nat.le_of_ble_eq_true rfl) (Nat.le_of_ble_eq_true rfl) d_C_init_59 (fun q10 => ?_)
  refine n_putF (ci := 1) (j := 9) (ty := .array .int) (ws' := [(x, .inr (1, [.ref q1, .ref q2, .ref q3, .ref q4, .ref q5, .int 0, .int 0, .int 0, .ref q6, .ref q10, .null, .null, .int 0, .null, .int 0, .int 0, .int 0, .int 0, .int 0, .int 0, .null, .null, .null, .null, .int 0, .int 0, .int 0, .int 0, .int 0, .int 0])), (q1, .inl (g 0, 17, .inl (fun _ => 0))), (q2, .inl (g 0, 22, .inl (fun _ => 0))), (q3, .inl (g 0, 20, .inl (fun _ => 0))), (q4, .inl (g 0, 120, .inl (fun _ => 0))), (q5, .inl (g 0, 120, .inl (fun _ => 0))), (q6, .inr (0, BF x q7 q8 q9 BZ)), (q7, .inl (g 0, 17, .inl (fun _ => 0))), (q8, .inl (g 0, 16, .inl (fun _ => 0))), (q9, .inl (g 2, 20, .inr (.inl (fun _ => 0)))), (q10, .inl (g 0, 16, .inl (fun _ => 0)))]) K 0 i_C t_C_ok n_C rfl rfl (by decide) fl_C_34 rfl rfl rfl rfl rfl (by decide : 9 < 30) d_C_init_61 rfl ?_
  refine n_aload_n K 0 d_C_init_64 rfl ?_
  refine n_bipush K (v := 16) d_C_init_65 (by decide) ?_
  refine n_newa K 1 (N := 16) (a0 := (16, .inl (fun _ => 0))) ac_boolean rfl rfl (fun _ => FieldType.noConfusion) (fun _ => rfl) (by decide) (by decide) (by decide) (Nat.le_of_ble_eq_true rfl) (Nat.le_of_ble_eq_true rfl) d_C_init_67 (fun q11 => ?_)
  refine n_putF (ci := 1) (j := 10) (ty := .array .boolean) (ws' := [(x, .inr (1, [.ref q1, .ref q2, .ref q3, .ref q4, .ref q5, .int 0, .int 0, .int 0, .ref q6, .ref q10, .ref q11, .null, .int 0, .null, .int 0, .int 0, .int 0, .int 0, .int 0, .int 0, .null, .null, .null, .null, .int 0, .int 0, .int 0, .int 0, .int 0, .int 0])), (q1, .inl (g 0, 17, .inl (fun _ => 0))), (q2, .inl (g 0, 22, .inl (fun _ => 0))), (q3, .inl (g 0, 20, .inl (fun _ => 0))), (q4, .inl (g 0, 120, .inl (fun _ => 0))), (q5, .inl (g 0, 120, .inl (fun _ => 0))), (q6, .inr (0, BF x q7 q8 q9 BZ)), (q7, .inl (g 0, 17, .inl (fun _ => 0))), (q8, .inl (g 0, 16, .inl (fun _ => 0))), (q9, .inl (g 2, 20, .inr (.inl (fun _ => 0)))), (q10, .inl (g 0, 16, .inl (fun _ => 0))), (q11, .inl (g 1, 16, .inl (fun _ => 0)))]) K 0 i_C t_C_ok n_C rfl rfl (by decide) fl_C_37 rfl rfl rfl rfl rfl (by decide : 10 < 30) d_C_init_69 rfl ?_
  refine n_aload_n K 0 d_C_init_72 rfl ?_
  refine n_bipush K (v := 16) d_C_init_73 (by decide) ?_
  refine n_newa K 0 (N := 16) (a0 := (16, .inl (fun _ => 0))) ac_int rfl rfl (fun _ => FieldType.noConfusion) (fun _ => rfl) (by decide) (by decide) (by decide) (Nat.le_of_ble_eq_true rfl) (Nat.le_of_ble_eq_true rfl) d_C_init_75 (fun q12 => ?_)
  refine n_putF (ci := 1) (j := 11) (ty := .array .int) (ws' := [(x, .inr (1, [.ref q1, .ref q2, .ref q3, .ref q4, .ref q5, .int 0, .int 0, .int 0, .ref q6, .ref q10, .ref q11, .ref q12, .int 0, .null, .int 0, .int 0, .int 0, .int 0, .int 0, .int 0, .null, .null, .null, .null, .int 0, .int 0, .int 0, .int 0, .int 0, .int 0])), (q1, .inl (g 0, 17, .inl (fun _ => 0))), (q2, .inl (g 0, 22, .inl (fun _ => 0))), (q3, .inl (g 0, 20, .inl (fun _ => 0))), (q4, .inl (g 0, 120, .inl (fun _ => 0))), (q5, .inl (g 0, 120, .inl (fun _ => 0))), (q6, .inr (0, BF x q7 q8 q9 BZ)), (q7, .inl (g 0, 17, .inl (fun _ => 0))), (q8, .inl (g 0, 16, .inl (fun _ => 0))), (q9, .inl (g 2, 20, .inr (.inl (fun _ => 0)))), (q10, .inl (g 0, 16, .inl (fun _ => 0))), (q11, .inl (g 1, 16, .inl (fun _ => 0))), (q12, .inl (g 0, 16, .inl (fun _ => 0)))]) K 0 i_C t_C_ok n_C rfl rfl (by decide) fl_C_41 rfl rfl rfl rfl rfl (by decide : 11 < 30) d_C_init_77 rfl ?_
  refine n_aload_n K 0 d_C_init_80 rfl ?_
  refine n_sipush K (v := 400) d_C_init_81 (by decide) ?_
  refine n_newa K 0 (N := 400) (a0 := (400, .inl (fun _ => 0))) ac_int rfl rfl (fun _ => FieldType.noConfusion) (fun _ => rfl) (by decide) (by decide) (by decide) (Nat.le_of_ble_eq_true rfl) (Nat.le_of_ble_eq_true rfl) d_C_init_84 (fun q13 => ?_)
  refine n_putF (ci := 1) (j := 13) (ty := .array .int) (ws' := [(x, .inr (1, [.ref q1, .ref q2, .ref q3, .ref q4, .ref q5, .int 0, .int 0, .int 0, .ref q6, .ref q10, .ref q11, .ref q12, .int 0, .ref q13, .int 0, .int 0, .int 0, .int 0, .int 0, .int 0, .null, .null, .null, .null, .int 0, .int 0, .int 0, .int 0, .int 0, .int 0])), (q1, .inl (g 0, 17, .inl (fun _ => 0))), (q2, .inl (g 0, 22, .inl (fun _ => 0))), (q3, .inl (g 0, 20, .inl (fun _ => 0))), (q4, .inl (g 0, 120, .inl (fun _ => 0))), (q5, .inl (g 0, 120, .inl (fun _ => 0))), (q6, .inr (0, BF x q7 q8 q9 BZ)), (q7, .inl (g 0, 17, .inl (fun _ => 0))), (q8, .inl (g 0, 16, .inl (fun _ => 0))), (q9, .inl (g 2, 20, .inr (.inl (fun _ => 0)))), (q10, .inl (g 0, 16, .inl (fun _ => 0))), (q11, .inl (g 1, 16, .inl (fun _ => 0))), (q12, .inl (g 0, 16, .inl (fun _ => 0))), (q13, .inl (g 0, 400, .inl (fun _ => 0)))]) K 0 i_C t_C_ok n_C rfl rfl (by decide) fl_C_44 rfl rfl rfl rfl rfl (by decide : 13 < 30) d_C_init_86 rfl ?_
  refine n_aload_n K 0 d_C_init_89 rfl ?_
  refine n_iconst K (v := -1) d_C_init_90 (by decide) ?_
  refine n_put (ci := 1) (j := 15) (ty := .int) (ws' := [(x, .inr (1, [.ref q1, .ref q2, .ref q3, .ref q4, .ref q5, .int 0, .int 0, .int 0, .ref q6, .ref q10, .ref q11, .ref q12, .int 0, .ref q13, .int 0, .int (-1), .int 0, .int 0, .int 0, .int 0, .null, .null, .null, .null, .int 0, .int 0, .int 0, .int 0, .int 0, .int 0])), (q1, .inl (g 0, 17, .inl (fun _ => 0))), (q2, .inl (g 0, 22, .inl (fun _ => 0))), (q3, .inl (g 0, 20, .inl (fun _ => 0))), (q4, .inl (g 0, 120, .inl (fun _ => 0))), (q5, .inl (g 0, 120, .inl (fun _ => 0))), (q6, .inr (0, BF x q7 q8 q9 BZ)), (q7, .inl (g 0, 17, .inl (fun _ => 0))), (q8, .inl (g 0, 16, .inl (fun _ => 0))), (q9, .inl (g 2, 20, .inr (.inl (fun _ => 0)))), (q10, .inl (g 0, 16, .inl (fun _ => 0))), (q11, .inl (g 1, 16, .inl (fun _ => 0))), (q12, .inl (g 0, 16, .inl (fun _ => 0))), (q13, .inl (g 0, 400, .inl (fun _ => 0)))]) K 0 i_C t_C_ok n_C rfl rfl (by decide) fl_C_47 rfl rfl rfl rfl (by decide : 15 < 30) d_C_init_91 rfl ?_
  refine n_aload_n K 0 d_C_init_94 rfl ?_
  refine n_new K (ci := 0) (fs := [.null, .null, .null, .int 0, .null, .long 0, .long 0, .int 0, .int 0]) i_B t_B_ok cl_C_25 in_B ini_B rfl (by decide) (Nat.le_of_ble_eq_true rfl) (Nat.le_of_ble_eq_true rfl) d_C_init_95 (fun q14 => ?_)
  refine n_dup K d_C_init_98 rfl ?_
  refine n_aload_n K 0 d_C_init_99 rfl ?_
  refine n_ctor (C := R_B) K (c_B_init q14 x) k_B_init ini_B mh_B rfl im_B_init ml_C_27 (by decide) (by decide) rfl (Nat.le_of_ble_eq_true rfl) d_C_init_100 (fun w1 hq => ?_) rfl
  obtain ⟨q15, q16, q17, rfl⟩ := hq
  refine n_putF (ci := 1) (j := 20) (ty := .object "LeastCost$Board") (ws' := [(x, .inr (1, [.ref q1, .ref q2, .ref q3, .ref q4, .ref q5, .int 0, .int 0, .int 0, .ref q6, .ref q10, .ref q11, .ref q12, .int 0, .ref q13, .int 0, .int (-1), .int 0, .int 0, .int 0, .int 0, .ref q14, .null, .null, .null, .int 0, .int 0, .int 0, .int 0, .int 0, .int 0])), (q1, .inl (g 0, 17, .inl (fun _ => 0))), (q2, .inl (g 0, 22, .inl (fun _ => 0))), (q3, .inl (g 0, 20, .inl (fun _ => 0))), (q4, .inl (g 0, 120, .inl (fun _ => 0))), (q5, .inl (g 0, 120, .inl (fun _ => 0))), (q6, .inr (0, BF x q7 q8 q9 BZ)), (q7, .inl (g 0, 17, .inl (fun _ => 0))), (q8, .inl (g 0, 16, .inl (fun _ => 0))), (q9, .inl (g 2, 20, .inr (.inl (fun _ => 0)))), (q10, .inl (g 0, 16, .inl (fun _ => 0))), (q11, .inl (g 1, 16, .inl (fun _ => 0))), (q12, .inl (g 0, 16, .inl (fun _ => 0))), (q13, .inl (g 0, 400, .inl (fun _ => 0))), (q14, .inr (0, BF x q15 q16 q17 BZ)), (q15, .inl (g 0, 17, .inl (fun _ => 0))), (q16, .inl (g 0, 16, .inl (fun _ => 0))), (q17, .inl (g 2, 20, .inr (.inl (fun _ => 0))))]) K 0 i_C t_C_ok n_C rfl rfl (by decide) fl_C_51 rfl rfl rfl rfl rfl (by decide : 20 < 30) d_C_init_103 rfl ?_
  refine n_aload_n K 0 d_C_init_106 rfl ?_
  refine n_sipush K (v := 400) d_C_init_107 (by decide) ?_
  refine n_newa K 0 (N := 400) (a0 := (400, .inl (fun _ => 0))) ac_int rfl rfl (fun _ => FieldType.noConfusion) (fun _ => rfl) (by decide) (by decide) (by decide) (Nat.le_of_ble_eq_true rfl) (Nat.le_of_ble_eq_true rfl) d_C_init_110 (fun q18 => ?_)
  refine n_putF (ci := 1) (j := 21) (ty := .array .int) (ws' := [(x, .inr (1, [.ref q1, .ref q2, .ref q3, .ref q4, .ref q5, .int 0, .int 0, .int 0, .ref q6, .ref q10, .ref q11, .ref q12, .int 0, .ref q13, .int 0, .int (-1), .int 0, .int 0, .int 0, .int 0, .ref q14, .ref q18, .null, .null, .int 0, .int 0, .int 0, .int 0, .int 0, .int 0])), (q1, .inl (g 0, 17, .inl (fun _ => 0))), (q2, .inl (g 0, 22, .inl (fun _ => 0))), (q3, .inl (g 0, 20, .inl (fun _ => 0))), (q4, .inl (g 0, 120, .inl (fun _ => 0))), (q5, .inl (g 0, 120, .inl (fun _ => 0))), (q6, .inr (0, BF x q7 q8 q9 BZ)), (q7, .inl (g 0, 17, .inl (fun _ => 0))), (q8, .inl (g 0, 16, .inl (fun _ => 0))), (q9, .inl (g 2, 20, .inr (.inl (fun _ => 0)))), (q10, .inl (g 0, 16, .inl (fun _ => 0))), (q11, .inl (g 1, 16, .inl (fun _ => 0))), (q12, .inl (g 0, 16, .inl (fun _ => 0))), (q13, .inl (g 0, 400, .inl (fun _ => 0))), (q14, .inr (0, BF x q15 q16 q17 BZ)), (q15, .inl (g 0, 17, .inl (fun _ => 0))), (q16, .inl (g 0, 16, .inl (fun _ => 0))), (q17, .inl (g 2, 20, .inr (.inl (fun _ => 0)))), (q18, .inl (g 0, 400, .inl (fun _ => 0)))]) K 0 i_C t_C_ok n_C rfl rfl (by decide) fl_C_54 rfl rfl rfl rfl rfl (by decide : 21 < 30) d_C_init_112 rfl ?_
  refine n_aload_n K 0 d_C_init_115 rfl ?_
  refine n_sipush K (v := 400) d_C_init_116 (by decide) ?_
  refine n_newa K 0 (N := 400) (a0 := (400, .inl (fun _ => 0))) ac_int rfl rfl (fun _ => FieldType.noConfusion) (fun _ => rfl) (by decide) (by decide) (by decide) (Nat.le_of_ble_eq_true rfl) (Nat.le_of_ble_eq_true rfl) d_C_init_119 (fun q19 => ?_)
  refine n_putF (ci := 1) (j := 22) (ty := .array .int) (ws' := [(x, .inr (1, [.ref q1, .ref q2, .ref q3, .ref q4, .ref q5, .int 0, .int 0, .int 0, .ref q6, .ref q10, .ref q11, .ref q12, .int 0, .ref q13, .int 0, .int (-1), .int 0, .int 0, .int 0, .int 0, .ref q14, .ref q18, .ref q19, .null, .int 0, .int 0, .int 0, .int 0, .int 0, .int 0])), (q1, .inl (g 0, 17, .inl (fun _ => 0))), (q2, .inl (g 0, 22, .inl (fun _ => 0))), (q3, .inl (g 0, 20, .inl (fun _ => 0))), (q4, .inl (g 0, 120, .inl (fun _ => 0))), (q5, .inl (g 0, 120, .inl (fun _ => 0))), (q6, .inr (0, BF x q7 q8 q9 BZ)), (q7, .inl (g 0, 17, .inl (fun _ => 0))), (q8, .inl (g 0, 16, .inl (fun _ => 0))), (q9, .inl (g 2, 20, .inr (.inl (fun _ => 0)))), (q10, .inl (g 0, 16, .inl (fun _ => 0))), (q11, .inl (g 1, 16, .inl (fun _ => 0))), (q12, .inl (g 0, 16, .inl (fun _ => 0))), (q13, .inl (g 0, 400, .inl (fun _ => 0))), (q14, .inr (0, BF x q15 q16 q17 BZ)), (q15, .inl (g 0, 17, .inl (fun _ => 0))), (q16, .inl (g 0, 16, .inl (fun _ => 0))), (q17, .inl (g 2, 20, .inr (.inl (fun _ => 0)))), (q18, .inl (g 0, 400, .inl (fun _ => 0))), (q19, .inl (g 0, 400, .inl (fun _ => 0)))]) K 0 i_C t_C_ok n_C rfl rfl (by decide) fl_C_57 rfl rfl rfl rfl rfl (by decide : 22 < 30) d_C_init_121 rfl ?_
  refine n_aload_n K 0 d_C_init_124 rfl ?_
  refine n_sipush K (v := 400) d_C_init_125 (by decide) ?_
  refine n_newa K 1 (N := 400) (a0 := (400, .inl (fun _ => 0))) ac_boolean rfl rfl (fun _ => FieldType.noConfusion) (fun _ => rfl) (by decide) (by decide) (by decide) (Nat.le_of_ble_eq_true rfl) (Nat.le_of_ble_eq_true rfl) d_C_init_128 (fun q20 => ?_)
  refine n_putF (ci := 1) (j := 23) (ty := .array .boolean) (ws' := [(x, .inr (1, [.ref q1, .ref q2, .ref q3, .ref q4, .ref q5, .int 0, .int 0, .int 0, .ref q6, .ref q10, .ref q11, .ref q12, .int 0, .ref q13, .int 0, .int (-1), .int 0, .int 0, .int 0, .int 0, .ref q14, .ref q18, .ref q19, .ref q20, .int 0, .int 0, .int 0, .int 0, .int 0, .int 0])), (q1, .inl (g 0, 17, .inl (fun _ => 0))), (q2, .inl (g 0, 22, .inl (fun _ => 0))), (q3, .inl (g 0, 20, .inl (fun _ => 0))), (q4, .inl (g 0, 120, .inl (fun _ => 0))), (q5, .inl (g 0, 120, .inl (fun _ => 0))), (q6, .inr (0, BF x q7 q8 q9 BZ)), (q7, .inl (g 0, 17, .inl (fun _ => 0))), (q8, .inl (g 0, 16, .inl (fun _ => 0))), (q9, .inl (g 2, 20, .inr (.inl (fun _ => 0)))), (q10, .inl (g 0, 16, .inl (fun _ => 0))), (q11, .inl (g 1, 16, .inl (fun _ => 0))), (q12, .inl (g 0, 16, .inl (fun _ => 0))), (q13, .inl (g 0, 400, .inl (fun _ => 0))), (q14, .inr (0, BF x q15 q16 q17 BZ)), (q15, .inl (g 0, 17, .inl (fun _ => 0))), (q16, .inl (g 0, 16, .inl (fun _ => 0))), (q17, .inl (g 2, 20, .inr (.inl (fun _ => 0)))), (q18, .inl (g 0, 400, .inl (fun _ => 0))), (q19, .inl (g 0, 400, .inl (fun _ => 0))), (q20, .inl (g 1, 400, .inl (fun _ => 0)))]) K 0 i_C t_C_ok n_C rfl rfl (by decide) fl_C_60 rfl rfl rfl rfl rfl (by decide : 23 < 30) d_C_init_130 rfl ?_
  refine n_aload_n K 0 d_C_init_133 rfl ?_
  refine n_iconst K (v := 2) d_C_init_134 (by decide) ?_
  refine n_put (ci := 1) (j := 29) (ty := .int) (ws' := [(x, .inr (1, [.ref q1, .ref q2, .ref q3, .ref q4, .ref q5, .int 0, .int 0, .int 0, .ref q6, .ref q10, .ref q11, .ref q12, .int 0, .ref q13, .int 0, .int (-1), .int 0, .int 0, .int 0, .int 0, .ref q14, .ref q18, .ref q19, .ref q20, .int 0, .int 0, .int 0, .int 0, .int 0, .int (2)])), (q1, .inl (g 0, 17, .inl (fun _ => 0))), (q2, .inl (g 0, 22, .inl (fun _ => 0))), (q3, .inl (g 0, 20, .inl (fun _ => 0))), (q4, .inl (g 0, 120, .inl (fun _ => 0))), (q5, .inl (g 0, 120, .inl (fun _ => 0))), (q6, .inr (0, BF x q7 q8 q9 BZ)), (q7, .inl (g 0, 17, .inl (fun _ => 0))), (q8, .inl (g 0, 16, .inl (fun _ => 0))), (q9, .inl (g 2, 20, .inr (.inl (fun _ => 0)))), (q10, .inl (g 0, 16, .inl (fun _ => 0))), (q11, .inl (g 1, 16, .inl (fun _ => 0))), (q12, .inl (g 0, 16, .inl (fun _ => 0))), (q13, .inl (g 0, 400, .inl (fun _ => 0))), (q14, .inr (0, BF x q15 q16 q17 BZ)), (q15, .inl (g 0, 17, .inl (fun _ => 0))), (q16, .inl (g 0, 16, .inl (fun _ => 0))), (q17, .inl (g 2, 20, .inr (.inl (fun _ => 0)))), (q18, .inl (g 0, 400, .inl (fun _ => 0))), (q19, .inl (g 0, 400, .inl (fun _ => 0))), (q20, .inl (g 1, 400, .inl (fun _ => 0)))]) K 0 i_C t_C_ok n_C rfl rfl (by decide) fl_C_63 rfl rfl rfl rfl (by decide : 29 < 30) d_C_init_135 rfl ?_
  exact hret _ _ _ d_C_init_138 ⟨fun i => [x, q1, q2, q3, q4, q5, q6, q7, q8, q9, q10, q11, q12, q13, q14, q15, q16, q17, q18, q19, q20].getD i 0, rfl, rfl⟩
set_option maxHeartbeats 4000000 in
set_option maxRecDepth 100000 in
theorem c_M_init (x : Nat) : CtN l D g y_M_init b_M_init 1 1 12 11 1939 [.ref x] [(x, .inr (2, [.int 0, .null, .null, .null, .null, .null, .int 0, .int 0, .int 0, .int 0, .int 0, .int 0, .int 0, .null, .null, .int 0, .int 0, .int 0, .int 0, .int 0, .int 0, .null, .int 0, .int 0, .int 0, .int 0, .int 0, .null, .null, .null]))] (fun ws => ∃ a : Nat → Nat, a 0 = x ∧ ws = MW a g PZ IM0 PZ) := by
  refine CtN.of (own := R_M) (lv := [(0, .ref x)]) (by decide) rfl rfl (Nat.le_of_ble_eq_true rfl) rfl ?_
  intro A G K hret
  refine n_aload_n K 0 d_M_init_0 rfl ?_
  refine n_obj K oi_M (Nat.le_of_ble_eq_true rfl) (Nat.le_of_ble_eq_true rfl) d_M_init_1 ?_
  refine n_aload_n K 0 d_M_init_4 rfl ?_
  refine n_bipush K (v := 17) d_M_init_5 (by decide) ?_
  refine n_newa K 0 (N := 17) (a0 := (17, .inl (fun _ => 0))) ac_int rfl rfl (fun _ => FieldType.noConfusion) (fun _ => rfl) (by decide) (by decide) (by decide) (Nat.le_of_ble_eq_true rfl) (Nat.le_of_ble_eq_true rfl) d_M_init_7 (fun q1 => ?_)
  refine n_putF (ci := 2) (j := 1) (ty := .array .int) (ws' := [(x, .inr (2, [.int 0, .ref q1, .null, .null, .null, .null, .int 0, .int 0, .int 0, .int 0, .int 0, .int 0, .int 0, .null, .null, .int 0, .int 0, .int 0, .int 0, .int 0, .int 0, .null, .int 0, .int 0, .int 0, .int 0, .int 0, .null, .null, .null])), (q1, .inl (g 0, 17, .inl (fun _ => 0)))]) K 0 i_M t_M_ok n_M rfl rfl (by decide) fl_M_7 rfl rfl rfl rfl rfl (by decide : 1 < 30) d_M_init_9 rfl ?_
  refine n_aload_n K 0 d_M_init_12 rfl ?_
  refine n_bipush K (v := 120) d_M_init_13 (by decide) ?_
  refine n_newa K 0 (N := 120) (a0 := (120, .inl (fun _ => 0))) ac_int rfl rfl (fun _ => FieldType.noConfusion) (fun _ => rfl) (by decide) (by decide) (by decide) (Nat.le_of_ble_eq_true rfl) (Nat.le_of_ble_eq_true rfl) d_M_init_15 (fun q2 => ?_)
  refine n_putF (ci := 2) (j := 2) (ty := .array .int) (ws' := [(x, .inr (2, [.int 0, .ref q1, .ref q2, .null, .null, .null, .int 0, .int 0, .int 0, .int 0, .int 0, .int 0, .int 0, .null, .null, .int 0, .int 0, .int 0, .int 0, .int 0, .int 0, .null, .int 0, .int 0, .int 0, .int 0, .int 0, .null, .null, .null])), (q1, .inl (g 0, 17, .inl (fun _ => 0))), (q2, .inl (g 0, 120, .inl (fun _ => 0)))]) K 0 i_M t_M_ok n_M rfl rfl (by decide) fl_M_13 rfl rfl rfl rfl rfl (by decide : 2 < 30) d_M_init_17 rfl ?_
  refine n_aload_n K 0 d_M_init_20 rfl ?_
  refine n_bipush K (v := 120) d_M_init_21 (by decide) ?_
  refine n_newa K 0 (N := 120) (a0 := (120, .inl (fun _ => 0))) ac_int rfl rfl (fun _ => FieldType.noConfusion) (fun _ => rfl) (by decide) (by decide) (by decide) (Nat.le_of_ble_eq_true rfl) (Nat.le_of_ble_eq_true rfl) d_M_init_23 (fun q3 => ?_)
  refine n_putF (ci := 2) (j := 3) (ty := .array .int) (ws' := [(x, .inr (2, [.int 0, .ref q1, .ref q2, .ref q3, .null, .null, .int 0, .int 0, .int 0, .int 0, .int 0, .int 0, .int 0, .null, .null, .int 0, .int 0, .int 0, .int 0, .int 0, .int 0, .null, .int 0, .int 0, .int 0, .int 0, .int 0, .null, .null, .null])), (q1, .inl (g 0, 17, .inl (fun _ => 0))), (q2, .inl (g 0, 120, .inl (fun _ => 0))), (q3, .inl (g 0, 120, .inl (fun _ => 0)))]) K 0 i_M t_M_ok n_M rfl rfl (by decide) fl_M_16 rfl rfl rfl rfl rfl (by decide : 3 < 30) d_M_init_25 rfl ?_
  refine n_aload_n K 0 d_M_init_28 rfl ?_
  refine n_bipush K (v := 22) d_M_init_29 (by decide) ?_
  refine n_newa K 0 (N := 22) (a0 := (22, .inl (fun _ => 0))) ac_int rfl rfl (fun _ => FieldType.noConfusion) (fun _ => rfl) (by decide) (by decide) (by decide) (Nat.le_of_ble_eq_true rfl) (Nat.le_of_ble_eq_true rfl) d_M_init_31 (fun q4 => ?_)
  refine n_putF (ci := 2) (j := 4) (ty := .array .int) (ws' := [(x, .inr (2, [.int 0, .ref q1, .ref q2, .ref q3, .ref q4, .null, .int 0, .int 0, .int 0, .int 0, .int 0, .int 0, .int 0, .null, .null, .int 0, .int 0, .int 0, .int 0, .int 0, .int 0, .null, .int 0, .int 0, .int 0, .int 0, .int 0, .null, .null, .null])), (q1, .inl (g 0, 17, .inl (fun _ => 0))), (q2, .inl (g 0, 120, .inl (fun _ => 0))), (q3, .inl (g 0, 120, .inl (fun _ => 0))), (q4, .inl (g 0, 22, .inl (fun _ => 0)))]) K 0 i_M t_M_ok n_M rfl rfl (by decide) fl_M_19 rfl rfl rfl rfl rfl (by decide : 4 < 30) d_M_init_33 rfl ?_
  refine n_aload_n K 0 d_M_init_36 rfl ?_
  refine n_bipush K (v := 21) d_M_init_37 (by decide) ?_
  refine n_newa K 0 (N := 21) (a0 := (21, .inl (fun _ => 0))) ac_int rfl rfl (fun _ => FieldType.noConfusion) (fun _ => rfl) (by decide) (by decide) (by decide) (Nat.le_of_ble_eq_true rfl) (Nat.le_of_ble_eq_true rfl) d_M_init_39 (fun q5 => ?_)
  refine n_putF (ci := 2) (j := 5) (ty := .array .int) (ws' := [(x, .inr (2, [.int 0, .ref q1, .ref q2, .ref q3, .ref q4, .ref q5, .int 0, .int 0, .int 0, .int 0, .int 0, .int 0, .int 0, .null, .null, .int 0, .int 0, .int 0, .int 0, .int 0, .int 0, .null, .int 0, .int 0, .int 0, .int 0, .int 0, .null, .null, .null])), (q1, .inl (g 0, 17, .inl (fun _ => 0))), (q2, .inl (g 0, 120, .inl (fun _ => 0))), (q3, .inl (g 0, 120, .inl (fun _ => 0))), (q4, .inl (g 0, 22, .inl (fun _ => 0))), (q5, .inl (g 0, 21, .inl (fun _ => 0)))]) K 0 i_M t_M_ok n_M rfl rfl (by decide) fl_M_22 rfl rfl rfl rfl rfl (by decide : 5 < 30) d_M_init_41 rfl ?_
  refine n_aload_n K 0 d_M_init_44 rfl ?_
  refine n_bipush K (v := 16) d_M_init_45 (by decide) ?_
  refine n_newa K 0 (N := 16) (a0 := (16, .inl (fun _ => 0))) ac_int rfl rfl (fun _ => FieldType.noConfusion) (fun _ => rfl) (by decide) (by decide) (by decide) (Nat.le_of_ble_eq_true rfl) (Nat.le_of_ble_eq_true rfl) d_M_init_47 (fun q6 => ?_)
  refine n_putF (ci := 2) (j := 13) (ty := .array .int) (ws' := [(x, .inr (2, [.int 0, .ref q1, .ref q2, .ref q3, .ref q4, .ref q5, .int 0, .int 0, .int 0, .int 0, .int 0, .int 0, .int 0, .ref q6, .null, .int 0, .int 0, .int 0, .int 0, .int 0, .int 0, .null, .int 0, .int 0, .int 0, .int 0, .int 0, .null, .null, .null])), (q1, .inl (g 0, 17, .inl (fun _ => 0))), (q2, .inl (g 0, 120, .inl (fun _ => 0))), (q3, .inl (g 0, 120, .inl (fun _ => 0))), (q4, .inl (g 0, 22, .inl (fun _ => 0))), (q5, .inl (g 0, 21, .inl (fun _ => 0))), (q6, .inl (g 0, 16, .inl (fun _ => 0)))]) K 0 i_M t_M_ok n_M rfl rfl (by decide) fl_M_25 rfl rfl rfl rfl rfl (by decide : 13 < 30) d_M_init_49 rfl ?_
  refine n_aload_n K 0 d_M_init_52 rfl ?_
  refine n_bipush K (v := 16) d_M_init_53 (by decide) ?_
  refine n_newa K 1 (N := 16) (a0 := (16, .inl (fun _ => 0))) ac_boolean rfl rfl (fun _ => FieldType.noConfusion) (fun _ => rfl) (by decide) (by decide) (by decide) (Nat.le_of_ble_eq_true rfl) (Nat.le_of_ble_eq_true rfl) d_M_init_55 (fun q7 => ?_)
  refine n_putF (ci := 2) (j := 14) (ty := .array .boolean) (ws' := [(x, .inr (2, [.int 0, .ref q1, .ref q2, .ref q3, .ref q4, .ref q5, .int 0, .int 0, .int 0, .int 0, .int 0, .int 0, .int 0, .ref q6, .ref q7, .int 0, .int 0, .int 0, .int 0, .int 0, .int 0, .null, .int 0, .int 0, .int 0, .int 0, .int 0, .null, .null, .null])), (q1, .inl (g 0, 17, .inl (fun _ => 0))), (q2, .inl (g 0, 120, .inl (fun _ => 0))), (q3, .inl (g 0, 120, .inl (fun _ => 0))), (q4, .inl (g 0, 22, .inl (fun _ => 0))), (q5, .inl (g 0, 21, .inl (fun _ => 0))), (q6, .inl (g 0, 16, .inl (fun _ => 0))), (q7, .inl (g 1, 16, .inl (fun _ => 0)))]) K 0 i_M t_M_ok n_M rfl rfl (by decide) fl_M_28 rfl rfl rfl rfl rfl (by decide : 14 < 30) d_M_init_57 rfl ?_
  refine n_aload_n K 0 d_M_init_60 rfl ?_
  refine n_iconst K (v := -1) d_M_init_61 (by decide) ?_
  refine n_put (ci := 2) (j := 18) (ty := .int) (ws' := [(x, .inr (2, [.int 0, .ref q1, .ref q2, .ref q3, .ref q4, .ref q5, .int 0, .int 0, .int 0, .int 0, .int 0, .int 0, .int 0, .ref q6, .ref q7, .int 0, .int 0, .int 0, .int (-1), .int 0, .int 0, .null, .int 0, .int 0, .int 0, .int 0, .int 0, .null, .null, .null])), (q1, .inl (g 0, 17, .inl (fun _ => 0))), (q2, .inl (g 0, 120, .inl (fun _ => 0))), (q3, .inl (g 0, 120, .inl (fun _ => 0))), (q4, .inl (g 0, 22, .inl (fun _ => 0))), (q5, .inl (g 0, 21, .inl (fun _ => 0))), (q6, .inl (g 0, 16, .inl (fun _ => 0))), (q7, .inl (g 1, 16, .inl (fun _ => 0)))]) K 0 i_M t_M_ok n_M rfl rfl (by decide) fl_M_32 rfl rfl rfl rfl (by decide : 18 < 30) d_M_init_62 rfl ?_
  refine n_aload_n K 0 d_M_init_65 rfl ?_
  refine n_sipush K (v := 401) d_M_init_66 (by decide) ?_
  refine n_newa K 0 (N := 401) (a0 := (401, .inl (fun _ => 0))) ac_int rfl rfl (fun _ => FieldType.noConfusion) (fun _ => rfl) (by decide) (by decide) (by decide) (Nat.le_of_ble_eq_true rfl) (Nat.le_of_ble_eq_true rfl) d_M_init_69 (fun q8 => ?_)
  refine n_putF (ci := 2) (j := 21) (ty := .array .int) (ws' := [(x, .inr (2, [.int 0, .ref q1, .ref q2, .ref q3, .ref q4, .ref q5, .int 0, .int 0, .int 0, .int 0, .int 0, .int 0, .int 0, .ref q6, .ref q7, .int 0, .int 0, .int 0, .int (-1), .int 0, .int 0, .ref q8, .int 0, .int 0, .int 0, .int 0, .int 0, .null, .null, .null])), (q1, .inl (g 0, 17, .inl (fun _ => 0))), (q2, .inl (g 0, 120, .inl (fun _ => 0))), (q3, .inl (g 0, 120, .inl (fun _ => 0))), (q4, .inl (g 0, 22, .inl (fun _ => 0))), (q5, .inl (g 0, 21, .inl (fun _ => 0))), (q6, .inl (g 0, 16, .inl (fun _ => 0))), (q7, .inl (g 1, 16, .inl (fun _ => 0))), (q8, .inl (g 0, 401, .inl (fun _ => 0)))]) K 0 i_M t_M_ok n_M rfl rfl (by decide) fl_M_36 rfl rfl rfl rfl rfl (by decide : 21 < 30) d_M_init_71 rfl ?_
  refine n_aload_n K 0 d_M_init_74 rfl ?_
  refine n_iconst K (v := 2) d_M_init_75 (by decide) ?_
  refine n_put (ci := 2) (j := 23) (ty := .int) (ws' := [(x, .inr (2, [.int 0, .ref q1, .ref q2, .ref q3, .ref q4, .ref q5, .int 0, .int 0, .int 0, .int 0, .int 0, .int 0, .int 0, .ref q6, .ref q7, .int 0, .int 0, .int 0, .int (-1), .int 0, .int 0, .ref q8, .int 0, .int (2), .int 0, .int 0, .int 0, .null, .null, .null])), (q1, .inl (g 0, 17, .inl (fun _ => 0))), (q2, .inl (g 0, 120, .inl (fun _ => 0))), (q3, .inl (g 0, 120, .inl (fun _ => 0))), (q4, .inl (g 0, 22, .inl (fun _ => 0))), (q5, .inl (g 0, 21, .inl (fun _ => 0))), (q6, .inl (g 0, 16, .inl (fun _ => 0))), (q7, .inl (g 1, 16, .inl (fun _ => 0))), (q8, .inl (g 0, 401, .inl (fun _ => 0)))]) K 0 i_M t_M_ok n_M rfl rfl (by decide) fl_M_39 rfl rfl rfl rfl (by decide : 23 < 30) d_M_init_76 rfl ?_
  refine n_aload_n K 0 d_M_init_79 rfl ?_
  refine n_sipush K (v := 402) d_M_init_80 (by decide) ?_
  refine n_newa K 0 (N := 402) (a0 := (402, .inl (fun _ => 0))) ac_int rfl rfl (fun _ => FieldType.noConfusion) (fun _ => rfl) (by decide) (by decide) (by decide) (Nat.le_of_ble_eq_true rfl) (Nat.le_of_ble_eq_true rfl) d_M_init_83 (fun q9 => ?_)
  refine n_putF (ci := 2) (j := 27) (ty := .array .int) (ws' := [(x, .inr (2, [.int 0, .ref q1, .ref q2, .ref q3, .ref q4, .ref q5, .int 0, .int 0, .int 0, .int 0, .int 0, .int 0, .int 0, .ref q6, .ref q7, .int 0, .int 0, .int 0, .int (-1), .int 0, .int 0, .ref q8, .int 0, .int (2), .int 0, .int 0, .int 0, .ref q9, .null, .null])), (q1, .inl (g 0, 17, .inl (fun _ => 0))), (q2, .inl (g 0, 120, .inl (fun _ => 0))), (q3, .inl (g 0, 120, .inl (fun _ => 0))), (q4, .inl (g 0, 22, .inl (fun _ => 0))), (q5, .inl (g 0, 21, .inl (fun _ => 0))), (q6, .inl (g 0, 16, .inl (fun _ => 0))), (q7, .inl (g 1, 16, .inl (fun _ => 0))), (q8, .inl (g 0, 401, .inl (fun _ => 0))), (q9, .inl (g 0, 402, .inl (fun _ => 0)))]) K 0 i_M t_M_ok n_M rfl rfl (by decide) fl_M_42 rfl rfl rfl rfl rfl (by decide : 27 < 30) d_M_init_85 rfl ?_
  refine n_aload_n K 0 d_M_init_88 rfl ?_
  refine n_sipush K (v := 402) d_M_init_89 (by decide) ?_
  refine n_newa K 0 (N := 402) (a0 := (402, .inl (fun _ => 0))) ac_int rfl rfl (fun _ => FieldType.noConfusion) (fun _ => rfl) (by decide) (by decide) (by decide) (Nat.le_of_ble_eq_true rfl) (Nat.le_of_ble_eq_true rfl) d_M_init_92 (fun q10 => ?_)
  refine n_putF (ci := 2) (j := 28) (ty := .array .int) (ws' := [(x, .inr (2, [.int 0, .ref q1, .ref q2, .ref q3, .ref q4, .ref q5, .int 0, .int 0, .int 0, .int 0, .int 0, .int 0, .int 0, .ref q6, .ref q7, .int 0, .int 0, .int 0, .int (-1), .int 0, .int 0, .ref q8, .int 0, .int (2), .int 0, .int 0, .int 0, .ref q9, .ref q10, .null])), (q1, .inl (g 0, 17, .inl (fun _ => 0))), (q2, .inl (g 0, 120, .inl (fun _ => 0))), (q3, .inl (g 0, 120, .inl (fun _ => 0))), (q4, .inl (g 0, 22, .inl (fun _ => 0))), (q5, .inl (g 0, 21, .inl (fun _ => 0))), (q6, .inl (g 0, 16, .inl (fun _ => 0))), (q7, .inl (g 1, 16, .inl (fun _ => 0))), (q8, .inl (g 0, 401, .inl (fun _ => 0))), (q9, .inl (g 0, 402, .inl (fun _ => 0))), (q10, .inl (g 0, 402, .inl (fun _ => 0)))]) K 0 i_M t_M_ok n_M rfl rfl (by decide) fl_M_45 rfl rfl rfl rfl rfl (by decide : 28 < 30) d_M_init_94 rfl ?_
  refine n_aload_n K 0 d_M_init_97 rfl ?_
  refine n_sipush K (v := 402) d_M_init_98 (by decide) ?_
  refine n_newa K 1 (N := 402) (a0 := (402, .inl (fun _ => 0))) ac_boolean rfl rfl (fun _ => FieldType.noConfusion) (fun _ => rfl) (by decide) (by decide) (by decide) (Nat.le_of_ble_eq_true rfl) (Nat.le_of_ble_eq_true rfl) d_M_init_101 (fun q11 => ?_)
  refine n_putF (ci := 2) (j := 29) (ty := .array .boolean) (ws' := [(x, .inr (2, [.int 0, .ref q1, .ref q2, .ref q3, .ref q4, .ref q5, .int 0, .int 0, .int 0, .int 0, .int 0, .int 0, .int 0, .ref q6, .ref q7, .int 0, .int 0, .int 0, .int (-1), .int 0, .int 0, .ref q8, .int 0, .int (2), .int 0, .int 0, .int 0, .ref q9, .ref q10, .ref q11])), (q1, .inl (g 0, 17, .inl (fun _ => 0))), (q2, .inl (g 0, 120, .inl (fun _ => 0))), (q3, .inl (g 0, 120, .inl (fun _ => 0))), (q4, .inl (g 0, 22, .inl (fun _ => 0))), (q5, .inl (g 0, 21, .inl (fun _ => 0))), (q6, .inl (g 0, 16, .inl (fun _ => 0))), (q7, .inl (g 1, 16, .inl (fun _ => 0))), (q8, .inl (g 0, 401, .inl (fun _ => 0))), (q9, .inl (g 0, 402, .inl (fun _ => 0))), (q10, .inl (g 0, 402, .inl (fun _ => 0))), (q11, .inl (g 1, 402, .inl (fun _ => 0)))]) K 0 i_M t_M_ok n_M rfl rfl (by decide) fl_M_48 rfl rfl rfl rfl rfl (by decide : 29 < 30) d_M_init_103 rfl ?_
  exact hret _ _ _ d_M_init_106 ⟨fun i => [x, q1, q2, q3, q4, q5, q6, q7, q8, q9, q10, q11].getD i 0, rfl, rfl⟩
end INITS
end
section
/-! what holds of the two objects between two calls of the script; the abstract state: P n k the problem, bg begun, z the search, c the count of steps, lk looked, q the check -/
abbrev dz (z : SA) : Bool := z.2.2.2.2.2.2.2.2.1
abbrev oz (z : SA) : Bool := z.2.2.2.2.2.2.2.2.2
abbrev lz (z : SA) : Nat := z.2.2.2.2.2.2.2.1
abbrev gz (z : SA) : Nat → Int32 := z.2.2.2.2.2.2.1
abbrev QT : Type := Int32 × Nat × List ND
def AI (P : Nat → Nat → Int32) (n k : Nat) (bg : Bool) (z : SA) (lk : Bool) : Prop := PWF P n k ∧ SI z ∧ (bg = false → dz z = false ∧ oz z = false) ∧ (lk = true → dz z = true)
def CI (P : Nat → Nat → Int32) (n k : Nat) (bg : Bool) (z : SA) (c : Int32) (lk : Bool) (q : QT) (I : Nat → Int32) (F : Nat → Nat → Int32) (B0 B1 : BS) : Prop := I 5 = nI n ∧ I 6 = nI k ∧ I 7 = bZ bg ∧ SC P n bg z I F B0 ∧ I 19 = c ∧ I 27 = bZ lk ∧ (lk = false → I 29 = 2) ∧ (lk = true → I 29 = q.1 ∧ (q.1 = 2 → RC3 P n (limC (F 3 (lz z - 2))) q.2.1 q.2.2 I F B1 ∧ 2 ≤ lz z))
def MI (P : Nat → Nat → Int32) (n k : Nat) (bg : Bool) (z : SA) (c : Int32) (lk : Bool) (q : QT) (I : Nat → Int32) (F : Nat → Nat → Int32) : Prop := I 6 = nI n ∧ (bg = false → I 7 = nI k) ∧ I 8 = bZ bg ∧ SM z (I 16) (I 17) I F ∧ I 20 = c ∧ I 24 = bZ lk ∧ (lk = false → I 23 = 2) ∧ (lk = true → I 23 = q.1 ∧ (q.1 = 2 → RM3 q.2.1 q.2.2 I F ∧ 2 ≤ lz z ∧ hld P n (F 2 (lz z - 2)) (F 2 (lz z - 1)) = true))
section INV
variable {P P' : Nat → Nat → Int32} {n k n' k' : Nat} {bg : Bool} {z : SA} {c : Int32} {lk : Bool} {q : QT} {I I' : Nat → Int32} {F F' : Nat → Nat → Int32} {B0 B1 B0' : BS}
theorem AI.nlk (h : AI P n k false z lk) : lk = false := by
  cases lk with
  | false => rfl
  | true => exact absurd ((h.2.2.1 rfl).1.symm.trans (h.2.2.2 rfl)) (by decide)
theorem CI.p (h : CI P n k false z c false q I F B0 B1) (h5 : I' 5 = nI n') (h6 : I' 6 = nI k') (hI : ∀ j, j ≠ 5 → j ≠ 6 → I' j = I j) : CI P' n' k' false z c false q I' F B0 B1 := by
  obtain ⟨-, -, h7, ⟨s1, s2, s3, s4, s5, s6, s7⟩, h19, h27, h29, -⟩ := h
  refine ⟨h5, h6, (hI 7 (by decide) (by decide)).trans h7, ⟨(hI 14 (by decide) (by decide)).trans s1, (hI 15 (by decide) (by decide)).trans s2, (hI 16 (by decide) (by decide)).trans s3, (hI 17 (by decide) (by decide)).trans s4, (hI 18 (by decide) (by decide)).trans s5, s6, fun a b => ?_⟩, (hI 19 (by decide) (by decide)).trans h19, (hI 27 (by decide) (by decide)).trans h27, fun a => (hI 29 (by decide) (by decide)).trans (h29 a), fun a => Bool.noConfusion a⟩
  obtain ⟨t1, t2, -, t4⟩ := s7 a b
  exact ⟨t1, t2, fun e => Bool.noConfusion e, fun e => ⟨(t4 e).1, (t4 e).2.1, (hI 12 (by decide) (by decide)).trans (t4 e).2.2.1, (t4 e).2.2.2⟩⟩
theorem MI.p (h : MI P n k false z c false q I F) (h6 : I' 6 = nI n') (h7 : I' 7 = nI k') (hI : ∀ j, j ≠ 6 → j ≠ 7 → I' j = I j) : MI P' n' k' false z c false q I' F := by
  obtain ⟨-, -, h8, ⟨s1, s2, s3, s4, s5, s6, s7⟩, h20, h24, h23, -⟩ := h
  refine ⟨h6, fun _ => h7, (hI 8 (by decide) (by decide)).trans h8, ⟨(hI 22 (by decide) (by decide)).trans s1, (hI 18 (by decide) (by decide)).trans s2, (hI 19 (by decide) (by decide)).trans s3, (hI 9 (by decide) (by decide)).trans s4, (hI 10 (by decide) (by decide)).trans s5, s6, fun a b => ?_⟩, (hI 20 (by decide) (by decide)).trans h20, (hI 24 (by decide) (by decide)).trans h24, fun a => (hI 23 (by decide) (by decide)).trans (h23 a), fun a => Bool.noConfusion a⟩
  obtain ⟨t1, t2, t3⟩ := s7 a b
  rw [hI 16 (by decide) (by decide), hI 17 (by decide) (by decide)]
  exact ⟨t1, (hI 15 (by decide) (by decide)).trans t2, t3⟩
theorem RC3.fr {lim : Option Int} {at' : Nat} {st : List ND} (h : RC3 P n lim at' st I F B1) (h24 : I' 24 = I 24) (h25 : I' 25 = I 25) (h26 : I' 26 = I 26) (h28 : I' 28 = I 28) (f4 : F' 4 = F 4) (f5 : F' 5 = F 5) (f6 : F' 6 = F 6) : RC3 P n lim at' st I' F' B1 := by
  unfold RC3
  rw [h24, h25, h26, h28, f4, f5, f6]
  exact h
theorem RM3.fr {at' : Nat} {st : List ND} (h : RM3 at' st I F) (h25 : I' 25 = I 25) (h26 : I' 26 = I 26) (f3 : F' 3 = F 3) (f4 : F' 4 = F 4) (f5 : F' 5 = F 5) : RM3 at' st I' F' := by
  unfold RM3
  rw [h25, h26, f3, f4, f5]
  exact h
theorem runA_d {f : Nat} (h : dz z = true) : runA P n f z c = (z, c) := by
  cases f with
  | zero => rfl
  | succ f => exact if_pos (Or.inl h)
theorem AI.run (h : AI P n k bg z lk) (f : Nat) (c : Int32) : AI P n k true (runA P n f z c).1 lk := ⟨h.1, SI.run h.1 f h.2.1, fun e => Bool.noConfusion e, fun e => by rw [runA_d (h.2.2.2 e)]; exact h.2.2.2 e⟩
theorem CI.run (hA : AI P n k bg z lk) (h : CI P n k bg z c lk q I F B0 B1) {f : Nat} (h1 : SC P n true (runA P n f z (I 19)).1 I' F' B0') (h2 : I' 19 = (runA P n f z (I 19)).2) (h3 : I' 7 = bZ true) (h4 : FrI [7, 12, 14, 15, 16, 17, 18, 19] I I') (h5 : FrF [0, 1, 2, 3] F F') : CI P n k true (runA P n f z c).1 (runA P n f z c).2 lk q I' F' B0' B1 := by
  obtain ⟨g5, g6, g7, gS, g19, g27, g29, gq⟩ := h
  rw [g19] at h1 h2
  refine ⟨(h4 5 (by decide)).trans g5, (h4 6 (by decide)).trans g6, h3, h1, h2, (h4 27 (by decide)).trans g27, fun e => (h4 29 (by decide)).trans (g29 e), fun e => ⟨(h4 29 (by decide)).trans (gq e).1, fun e2 => ?_⟩⟩
  have hd := hA.2.2.2 e
  have e3 : F' 3 = F 3 := by
    have := h1.2.2.2.2.2.1
    rw [runA_d hd] at this
    exact this.trans gS.2.2.2.2.2.1.symm
  rw [runA_d hd, e3]
  obtain ⟨a1, a2⟩ := (gq e).2 e2
  exact ⟨a1.fr (h4 24 (by decide)) (h4 25 (by decide)) (h4 26 (by decide)) (h4 28 (by decide)) (h5 4 (by decide)) (h5 5 (by decide)) (h5 6 (by decide)), a2⟩
theorem MI.run (hA : AI P n k bg z lk) (h : MI P n k bg z c lk q I F) {f : Nat} (h1 : SM (runA P n f z (I 20)).1 (I' 16) (I' 17) I' F') (h2 : I' 20 = (runA P n f z (I 20)).2) (h3 : I' 8 = bZ true) (h4 : FrI [7, 8, 9, 10, 11, 12, 15, 16, 17, 18, 19, 20, 22] I I') (h5 : FrF [0, 1, 2] F F') : MI P n k true (runA P n f z c).1 (runA P n f z c).2 lk q I' F' := by
  obtain ⟨g6, g7, g8, gS, g20, g24, g23, gq⟩ := h
  rw [g20] at h1 h2
  refine ⟨(h4 6 (by decide)).trans g6, fun e => Bool.noConfusion e, h3, h1, h2, (h4 24 (by decide)).trans g24, fun e => (h4 23 (by decide)).trans (g23 e), fun e => ⟨(h4 23 (by decide)).trans (gq e).1, fun e2 => ?_⟩⟩
  have hd := hA.2.2.2 e
  have e3 : F' 2 = F 2 := by
    have := h1.2.2.2.2.2.1
    rw [runA_d hd] at this
    exact this.trans gS.2.2.2.2.2.1.symm
  rw [runA_d hd, e3]
  obtain ⟨a1, a2⟩ := (gq e).2 e2
  exact ⟨a1.fr (h4 25 (by decide)) (h4 26 (by decide)) (h5 3 (by decide)) (h5 4 (by decide)) (h5 5 (by decide)), a2⟩
/-- the search with another log -/
def wz (z : SA) (log : Nat → Int32) (ll : Nat) : SA := (z.1, z.2.1, z.2.2.1, z.2.2.2.1, z.2.2.2.2.1, z.2.2.2.2.2.1, log, ll, dz z, oz z)
theorem AI.w (h : AI P n k bg z lk) {log : Nat → Int32} {ll : Nat} (hl : ll ≤ 400) : AI P n k bg (wz z log ll) false := ⟨h.1, ⟨h.2.1.1, hl⟩, h.2.2.1, fun e => Bool.noConfusion e⟩
theorem CI.w (h : CI P n k bg z c lk q I F B0 B1) (hd : dz z = true) {log : Nat → Int32} {ll : Nat} (h14 : I' 14 = nI ll) (h27 : I' 27 = bZ false) (h29 : I' 29 = 2) (h3 : F' 3 = log) (hI : ∀ j, j ≠ 14 → j ≠ 27 → j ≠ 29 → I' j = I j) : CI P n k bg (wz z log ll) c false q I' F' B0 B1 := by
  obtain ⟨g5, g6, g7, ⟨s1, s2, s3, s4, s5, s6, s7⟩, g19, -⟩ := h
  exact ⟨(hI 5 (by decide) (by decide) (by decide)).trans g5, (hI 6 (by decide) (by decide) (by decide)).trans g6, (hI 7 (by decide) (by decide) (by decide)).trans g7, ⟨h14, (hI 15 (by decide) (by decide) (by decide)).trans s2, (hI 16 (by decide) (by decide) (by decide)).trans s3, (hI 17 (by decide) (by decide) (by decide)).trans s4, (hI 18 (by decide) (by decide) (by decide)).trans s5, h3, fun e => absurd (hd.symm.trans e) (by decide)⟩, (hI 19 (by decide) (by decide) (by decide)).trans g19, h27, fun _ => h29, fun e => Bool.noConfusion e⟩
theorem MI.w (h : MI P n k bg z c lk q I F) (hd : dz z = true) {log : Nat → Int32} {ll : Nat} (h22 : I' 22 = nI ll) (h24 : I' 24 = bZ false) (h23 : I' 23 = 2) (h2 : F' 2 = log) (hI : ∀ j, j ≠ 22 → j ≠ 23 → j ≠ 24 → I' j = I j) : MI P n k bg (wz z log ll) c false q I' F' := by
  obtain ⟨g6, g7, g8, ⟨s1, s2, s3, s4, s5, s6, s7⟩, g20, -⟩ := h
  exact ⟨(hI 6 (by decide) (by decide) (by decide)).trans g6, fun e => (hI 7 (by decide) (by decide) (by decide)).trans (g7 e), (hI 8 (by decide) (by decide) (by decide)).trans g8, ⟨h22, (hI 18 (by decide) (by decide) (by decide)).trans s2, (hI 19 (by decide) (by decide) (by decide)).trans s3, (hI 9 (by decide) (by decide) (by decide)).trans s4, (hI 10 (by decide) (by decide) (by decide)).trans s5, h2, fun e => absurd (hd.symm.trans e) (by decide)⟩, (hI 20 (by decide) (by decide) (by decide)).trans g20, h24, fun _ => h23, fun e => Bool.noConfusion e⟩
theorem AI.ck (h : AI P n k bg z lk) (hd : dz z = true) : AI P n k bg z true := ⟨h.1, h.2.1, h.2.2.1, fun _ => hd⟩
theorem CI.ck (h : CI P n k bg z c lk q I F B0 B1) (hd : dz z = true) {q2 : QT} {B1' : BS} (h27 : I' 27 = bZ true) (h29 : I' 29 = q2.1) (hq : q2.1 = 2 → RC3 P n (limC (F 3 (lz z - 2))) q2.2.1 q2.2.2 I' F' B1' ∧ 2 ≤ lz z) (h4 : FrI [24, 25, 26, 27, 28, 29] I I') (h5 : FrF [4, 5, 6] F F') : CI P n k bg z c true q2 I' F' B0 B1' := by
  obtain ⟨g5, g6, g7, ⟨s1, s2, s3, s4, s5, s6, s7⟩, g19, -⟩ := h
  refine ⟨(h4 5 (by decide)).trans g5, (h4 6 (by decide)).trans g6, (h4 7 (by decide)).trans g7, ⟨(h4 14 (by decide)).trans s1, (h4 15 (by decide)).trans s2, (h4 16 (by decide)).trans s3, (h4 17 (by decide)).trans s4, (h4 18 (by decide)).trans s5, (h5 3 (by decide)).trans s6, fun e => absurd (hd.symm.trans e) (by decide)⟩, (h4 19 (by decide)).trans g19, h27, fun e => Bool.noConfusion e, fun _ => ⟨h29, fun e => ?_⟩⟩
  rw [h5 3 (by decide)]
  exact hq e
theorem MI.ck (h : MI P n k bg z c lk q I F) (hd : dz z = true) {q2 : QT} (h24 : I' 24 = bZ true) (h23 : I' 23 = q2.1) (hq : q2.1 = 2 → RM3 q2.2.1 q2.2.2 I' F' ∧ 2 ≤ lz z ∧ hld P n (F 2 (lz z - 2)) (F 2 (lz z - 1)) = true) (h4 : FrI [11, 12, 23, 24, 25, 26] I I') (h5 : FrF [3, 4, 5] F F') : MI P n k bg z c true q2 I' F' := by
  obtain ⟨g6, g7, g8, ⟨s1, s2, s3, s4, s5, s6, s7⟩, g20, -⟩ := h
  refine ⟨(h4 6 (by decide)).trans g6, fun e => (h4 7 (by decide)).trans (g7 e), (h4 8 (by decide)).trans g8, ⟨(h4 22 (by decide)).trans s1, (h4 18 (by decide)).trans s2, (h4 19 (by decide)).trans s3, (h4 9 (by decide)).trans s4, (h4 10 (by decide)).trans s5, (h5 2 (by decide)).trans s6, fun e => absurd (hd.symm.trans e) (by decide)⟩, (h4 20 (by decide)).trans g20, h24, fun e => Bool.noConfusion e, fun _ => ⟨h23, fun e => ?_⟩⟩
  rw [h5 2 (by decide)]
  exact hq e
end INV
/-- the state at the start -/
def z0 : SA := (fun _ => -1, fun _ => 0, fun _ => 0, 0, -1, 0, fun _ => 0, 0, false, false)
theorem AI.zero : AI PZ 0 0 false z0 false := by
  refine ⟨⟨by decide, by decide, fun c _ => ⟨rfl, Nat.le_of_eq rfl⟩, fun v _ => ⟨by show (0 : Int) ≤ (0 : Int32).toInt; decide, by show (0 : Int32).toInt ≤ 32767; decide⟩, fun c hc => absurd hc (Nat.not_lt_zero c), fun c hc => absurd hc (Nat.not_lt_zero c)⟩, ⟨Or.inl ⟨rfl, rfl⟩, Nat.zero_le _⟩, fun _ => ⟨rfl, rfl⟩, fun e => Bool.noConfusion e⟩
theorem CI.zero (q : QT) : CI PZ 0 0 false z0 0 false q IC0 PZ BZ BZ := by
  refine ⟨by decide, by decide, by decide, ⟨by decide, by decide, by decide, by decide, by decide, rfl, fun _ _ => ⟨fun _ => Or.inl rfl, rfl, fun e => Bool.noConfusion e, fun _ => ⟨rfl, rfl, by decide, by decide⟩⟩⟩, by decide, by decide, fun _ => by decide, fun e => Bool.noConfusion e⟩
theorem MI.zero (q : QT) : MI PZ 0 0 false z0 0 false q IM0 PZ := by
  refine ⟨by decide, fun _ => by decide, by decide, ⟨by decide, by decide, by decide, by decide, by decide, rfl, fun _ _ => ⟨?_, by decide, rfl, rfl, TI.none _, fun _ => Or.inl rfl⟩⟩, by decide, by decide, fun _ => by decide, fun e => Bool.noConfusion e⟩
  intro i hi
  have e : bt 0 i = false := by show (0#32).getLsbD i = false; simp
  exact ⟨e, e⟩
/-- the two answers of the search's numbers -/
theorem nI_2 (a : Nat) : nI a + 2 = nI (a + 2) := nI_add a 2
theorem nI_3 (a : Nat) : nI a + 3 = nI (a + 3) := nI_add a 3
theorem sw_in (x : Int32) : x = 0 ∨ x = 1 ∨ x = 2 ∨ x = 3 ∨ x = 4 ∨ x = 5 ∨ x = 6 ∨ x = 7 ∨ x = 8 ∨ x = 9 ∨ x = 10 ∨ x = 11 ∨ (x.toInt < 0 ∨ 11 < x.toInt) := by
  by_cases h : x.toInt < 0 ∨ 11 < x.toInt
  · simp only [h, or_true]
  · have e : x = Int32.ofInt x.toInt := (Int32.ofInt_toInt x).symm
    rcases (show x.toInt = 0 ∨ x.toInt = 1 ∨ x.toInt = 2 ∨ x.toInt = 3 ∨ x.toInt = 4 ∨ x.toInt = 5 ∨ x.toInt = 6 ∨ x.toInt = 7 ∨ x.toInt = 8 ∨ x.toInt = 9 ∨ x.toInt = 10 ∨ x.toInt = 11 by omega) with h | h | h | h | h | h | h | h | h | h | h | h <;> (rw [h] at e; subst e; decide)
theorem lp_c {L i : Nat} (hL : L ≤ 1536) (hi : i ≤ L) (h : ¬ nI L - 3 < nI i) : i + 3 ≤ L := by
  rw [i_lt, nI_toInt (by omega), show (3 : Int32) = nI 3 by decide, nI_ofInt, nI_ofInt, ← Int32.ofInt_sub, i_of (by omega) (by omega)] at h
  omega
end
section
theorem d_law_0 : decode code 0 = .ok (.new 7, 3) := by decide +kernel
theorem d_law_3 : decode code 3 = .ok (.dup, 1) := by decide +kernel
theorem d_law_4 : decode code 4 = .ok (.invokespecial 9, 3) := by decide +kernel
theorem d_law_7 : decode code 7 = .ok (.astore_n 1, 1) := by decide +kernel
theorem d_law_8 : decode code 8 = .ok (.new 10, 3) := by decide +kernel
theorem d_law_11 : decode code 11 = .ok (.dup, 1) := by decide +kernel
theorem d_law_12 : decode code 12 = .ok (.invokespecial 12, 3) := by decide +kernel
theorem d_law_15 : decode code 15 = .ok (.astore_n 2, 1) := by decide +kernel
theorem d_law_16 : decode code 16 = .ok (.iconst 0, 1) := by decide +kernel
theorem d_law_17 : decode code 17 = .ok (.istore_n 3, 1) := by decide +kernel
theorem d_law_18 : decode code 18 = .ok (.iload_n 3, 1) := by decide +kernel
theorem d_law_19 : decode code 19 = .ok (.aload_n 0, 1) := by decide +kernel
theorem d_law_20 : decode code 20 = .ok (.arraylength, 1) := by decide +kernel
theorem d_law_21 : decode code 21 = .ok (.iconst 3, 1) := by decide +kernel
theorem d_law_22 : decode code 22 = .ok (.isub, 1) := by decide +kernel
theorem d_law_23 : decode code 23 = .ok (.if_icmp .gt 355, 3) := by decide +kernel
theorem d_law_26 : decode code 26 = .ok (.aload_n 0, 1) := by decide +kernel
theorem d_law_27 : decode code 27 = .ok (.iload_n 3, 1) := by decide +kernel
theorem d_law_28 : decode code 28 = .ok (.iaload, 1) := by decide +kernel
theorem d_law_29 : decode code 29 = .ok (.bipush 15, 2) := by decide +kernel
theorem d_law_31 : decode code 31 = .ok (.iand, 1) := by decide +kernel
theorem d_law_32 : decode code 32 = .ok (.tableswitch 340 0 11 #[64, 97, 130, 153, 176, 189, 212, 225, 248, 281, 304, 327], 64) := by decide +kernel
theorem d_law_96 : decode code 96 = .ok (.aload_n 1, 1) := by decide +kernel
theorem d_law_97 : decode code 97 = .ok (.aload_n 0, 1) := by decide +kernel
theorem d_law_98 : decode code 98 = .ok (.iload_n 3, 1) := by decide +kernel
theorem d_law_99 : decode code 99 = .ok (.iconst 1, 1) := by decide +kernel
theorem d_law_100 : decode code 100 = .ok (.iadd, 1) := by decide +kernel
theorem d_law_101 : decode code 101 = .ok (.iaload, 1) := by decide +kernel
theorem d_law_102 : decode code 102 = .ok (.aload_n 0, 1) := by decide +kernel
theorem d_law_103 : decode code 103 = .ok (.iload_n 3, 1) := by decide +kernel
theorem d_law_104 : decode code 104 = .ok (.iconst 2, 1) := by decide +kernel
theorem d_law_105 : decode code 105 = .ok (.iadd, 1) := by decide +kernel
theorem d_law_106 : decode code 106 = .ok (.iaload, 1) := by decide +kernel
theorem d_law_107 : decode code 107 = .ok (.invokevirtual 13, 3) := by decide +kernel
theorem d_law_110 : decode code 110 = .ok (.aload_n 2, 1) := by decide +kernel
theorem d_law_111 : decode code 111 = .ok (.aload_n 0, 1) := by decide +kernel
theorem d_law_112 : decode code 112 = .ok (.iload_n 3, 1) := by decide +kernel
theorem d_law_113 : decode code 113 = .ok (.iconst 1, 1) := by decide +kernel
theorem d_law_114 : decode code 114 = .ok (.iadd, 1) := by decide +kernel
theorem d_law_115 : decode code 115 = .ok (.iaload, 1) := by decide +kernel
theorem d_law_116 : decode code 116 = .ok (.aload_n 0, 1) := by decide +kernel
theorem d_law_117 : decode code 117 = .ok (.iload_n 3, 1) := by decide +kernel
theorem d_law_118 : decode code 118 = .ok (.iconst 2, 1) := by decide +kernel
theorem d_law_119 : decode code 119 = .ok (.iadd, 1) := by decide +kernel
theorem d_law_120 : decode code 120 = .ok (.iaload, 1) := by decide +kernel
theorem d_law_121 : decode code 121 = .ok (.invokevirtual 17, 3) := by decide +kernel
theorem d_law_124 : decode code 124 = .ok (.if_icmp .eq 248, 3) := by decide +kernel
theorem d_law_127 : decode code 127 = .ok (.iconst 0, 1) := by decide +kernel
theorem d_law_128 : decode code 128 = .ok (.ireturn, 1) := by decide +kernel
theorem d_law_129 : decode code 129 = .ok (.aload_n 1, 1) := by decide +kernel
theorem d_law_130 : decode code 130 = .ok (.aload_n 0, 1) := by decide +kernel
theorem d_law_131 : decode code 131 = .ok (.iload_n 3, 1) := by decide +kernel
theorem d_law_132 : decode code 132 = .ok (.iconst 1, 1) := by decide +kernel
theorem d_law_133 : decode code 133 = .ok (.iadd, 1) := by decide +kernel
theorem d_law_134 : decode code 134 = .ok (.iaload, 1) := by decide +kernel
theorem d_law_135 : decode code 135 = .ok (.aload_n 0, 1) := by decide +kernel
theorem d_law_136 : decode code 136 = .ok (.iload_n 3, 1) := by decide +kernel
theorem d_law_137 : decode code 137 = .ok (.iconst 2, 1) := by decide +kernel
theorem d_law_138 : decode code 138 = .ok (.iadd, 1) := by decide +kernel
theorem d_law_139 : decode code 139 = .ok (.iaload, 1) := by decide +kernel
theorem d_law_140 : decode code 140 = .ok (.invokevirtual 18, 3) := by decide +kernel
theorem d_law_143 : decode code 143 = .ok (.aload_n 2, 1) := by decide +kernel
theorem d_law_144 : decode code 144 = .ok (.aload_n 0, 1) := by decide +kernel
theorem d_law_145 : decode code 145 = .ok (.iload_n 3, 1) := by decide +kernel
theorem d_law_146 : decode code 146 = .ok (.iconst 1, 1) := by decide +kernel
theorem d_law_147 : decode code 147 = .ok (.iadd, 1) := by decide +kernel
theorem d_law_148 : decode code 148 = .ok (.iaload, 1) := by decide +kernel
theorem d_law_149 : decode code 149 = .ok (.aload_n 0, 1) := by decide +kernel
theorem d_law_150 : decode code 150 = .ok (.iload_n 3, 1) := by decide +kernel
theorem d_law_151 : decode code 151 = .ok (.iconst 2, 1) := by decide +kernel
theorem d_law_152 : decode code 152 = .ok (.iadd, 1) := by decide +kernel
theorem d_law_153 : decode code 153 = .ok (.iaload, 1) := by decide +kernel
theorem d_law_154 : decode code 154 = .ok (.invokevirtual 21, 3) := by decide +kernel
theorem d_law_157 : decode code 157 = .ok (.if_icmp .eq 215, 3) := by decide +kernel
theorem d_law_160 : decode code 160 = .ok (.iconst 0, 1) := by decide +kernel
theorem d_law_161 : decode code 161 = .ok (.ireturn, 1) := by decide +kernel
theorem d_law_162 : decode code 162 = .ok (.aload_n 1, 1) := by decide +kernel
theorem d_law_163 : decode code 163 = .ok (.aload_n 0, 1) := by decide +kernel
theorem d_law_164 : decode code 164 = .ok (.iload_n 3, 1) := by decide +kernel
theorem d_law_165 : decode code 165 = .ok (.iconst 1, 1) := by decide +kernel
theorem d_law_166 : decode code 166 = .ok (.iadd, 1) := by decide +kernel
theorem d_law_167 : decode code 167 = .ok (.iaload, 1) := by decide +kernel
theorem d_law_168 : decode code 168 = .ok (.invokevirtual 22, 3) := by decide +kernel
theorem d_law_171 : decode code 171 = .ok (.aload_n 2, 1) := by decide +kernel
theorem d_law_172 : decode code 172 = .ok (.aload_n 0, 1) := by decide +kernel
theorem d_law_173 : decode code 173 = .ok (.iload_n 3, 1) := by decide +kernel
theorem d_law_174 : decode code 174 = .ok (.iconst 1, 1) := by decide +kernel
theorem d_law_175 : decode code 175 = .ok (.iadd, 1) := by decide +kernel
theorem d_law_176 : decode code 176 = .ok (.iaload, 1) := by decide +kernel
theorem d_law_177 : decode code 177 = .ok (.invokevirtual 26, 3) := by decide +kernel
theorem d_law_180 : decode code 180 = .ok (.if_icmp .eq 192, 3) := by decide +kernel
theorem d_law_183 : decode code 183 = .ok (.iconst 0, 1) := by decide +kernel
theorem d_law_184 : decode code 184 = .ok (.ireturn, 1) := by decide +kernel
theorem d_law_185 : decode code 185 = .ok (.aload_n 1, 1) := by decide +kernel
theorem d_law_186 : decode code 186 = .ok (.aload_n 0, 1) := by decide +kernel
theorem d_law_187 : decode code 187 = .ok (.iload_n 3, 1) := by decide +kernel
theorem d_law_188 : decode code 188 = .ok (.iconst 1, 1) := by decide +kernel
theorem d_law_189 : decode code 189 = .ok (.iadd, 1) := by decide +kernel
theorem d_law_190 : decode code 190 = .ok (.iaload, 1) := by decide +kernel
theorem d_law_191 : decode code 191 = .ok (.invokevirtual 27, 3) := by decide +kernel
theorem d_law_194 : decode code 194 = .ok (.aload_n 2, 1) := by decide +kernel
theorem d_law_195 : decode code 195 = .ok (.aload_n 0, 1) := by decide +kernel
theorem d_law_196 : decode code 196 = .ok (.iload_n 3, 1) := by decide +kernel
theorem d_law_197 : decode code 197 = .ok (.iconst 1, 1) := by decide +kernel
theorem d_law_198 : decode code 198 = .ok (.iadd, 1) := by decide +kernel
theorem d_law_199 : decode code 199 = .ok (.iaload, 1) := by decide +kernel
theorem d_law_200 : decode code 200 = .ok (.invokevirtual 30, 3) := by decide +kernel
theorem d_law_203 : decode code 203 = .ok (.if_icmp .eq 169, 3) := by decide +kernel
theorem d_law_206 : decode code 206 = .ok (.iconst 0, 1) := by decide +kernel
theorem d_law_207 : decode code 207 = .ok (.ireturn, 1) := by decide +kernel
theorem d_law_208 : decode code 208 = .ok (.aload_n 1, 1) := by decide +kernel
theorem d_law_209 : decode code 209 = .ok (.invokevirtual 31, 3) := by decide +kernel
theorem d_law_212 : decode code 212 = .ok (.aload_n 2, 1) := by decide +kernel
theorem d_law_213 : decode code 213 = .ok (.invokevirtual 35, 3) := by decide +kernel
theorem d_law_216 : decode code 216 = .ok (.if_icmp .eq 156, 3) := by decide +kernel
theorem d_law_219 : decode code 219 = .ok (.iconst 0, 1) := by decide +kernel
theorem d_law_220 : decode code 220 = .ok (.ireturn, 1) := by decide +kernel
theorem d_law_221 : decode code 221 = .ok (.aload_n 1, 1) := by decide +kernel
theorem d_law_222 : decode code 222 = .ok (.aload_n 0, 1) := by decide +kernel
theorem d_law_223 : decode code 223 = .ok (.iload_n 3, 1) := by decide +kernel
theorem d_law_224 : decode code 224 = .ok (.iconst 1, 1) := by decide +kernel
theorem d_law_225 : decode code 225 = .ok (.iadd, 1) := by decide +kernel
theorem d_law_226 : decode code 226 = .ok (.iaload, 1) := by decide +kernel
theorem d_law_227 : decode code 227 = .ok (.invokevirtual 36, 3) := by decide +kernel
theorem d_law_230 : decode code 230 = .ok (.aload_n 2, 1) := by decide +kernel
theorem d_law_231 : decode code 231 = .ok (.aload_n 0, 1) := by decide +kernel
theorem d_law_232 : decode code 232 = .ok (.iload_n 3, 1) := by decide +kernel
theorem d_law_233 : decode code 233 = .ok (.iconst 1, 1) := by decide +kernel
theorem d_law_234 : decode code 234 = .ok (.iadd, 1) := by decide +kernel
theorem d_law_235 : decode code 235 = .ok (.iaload, 1) := by decide +kernel
theorem d_law_236 : decode code 236 = .ok (.invokevirtual 39, 3) := by decide +kernel
theorem d_law_239 : decode code 239 = .ok (.if_icmp .eq 133, 3) := by decide +kernel
theorem d_law_242 : decode code 242 = .ok (.iconst 0, 1) := by decide +kernel
theorem d_law_243 : decode code 243 = .ok (.ireturn, 1) := by decide +kernel
theorem d_law_244 : decode code 244 = .ok (.aload_n 1, 1) := by decide +kernel
theorem d_law_245 : decode code 245 = .ok (.invokevirtual 40, 3) := by decide +kernel
theorem d_law_248 : decode code 248 = .ok (.aload_n 2, 1) := by decide +kernel
theorem d_law_249 : decode code 249 = .ok (.invokevirtual 43, 3) := by decide +kernel
theorem d_law_252 : decode code 252 = .ok (.if_icmp .eq 120, 3) := by decide +kernel
theorem d_law_255 : decode code 255 = .ok (.iconst 0, 1) := by decide +kernel
theorem d_law_256 : decode code 256 = .ok (.ireturn, 1) := by decide +kernel
theorem d_law_257 : decode code 257 = .ok (.aload_n 1, 1) := by decide +kernel
theorem d_law_258 : decode code 258 = .ok (.aload_n 0, 1) := by decide +kernel
theorem d_law_259 : decode code 259 = .ok (.iload_n 3, 1) := by decide +kernel
theorem d_law_260 : decode code 260 = .ok (.iconst 1, 1) := by decide +kernel
theorem d_law_261 : decode code 261 = .ok (.iadd, 1) := by decide +kernel
theorem d_law_262 : decode code 262 = .ok (.iaload, 1) := by decide +kernel
theorem d_law_263 : decode code 263 = .ok (.invokevirtual 44, 3) := by decide +kernel
theorem d_law_266 : decode code 266 = .ok (.aload_n 2, 1) := by decide +kernel
theorem d_law_267 : decode code 267 = .ok (.aload_n 0, 1) := by decide +kernel
theorem d_law_268 : decode code 268 = .ok (.iload_n 3, 1) := by decide +kernel
theorem d_law_269 : decode code 269 = .ok (.iconst 1, 1) := by decide +kernel
theorem d_law_270 : decode code 270 = .ok (.iadd, 1) := by decide +kernel
theorem d_law_271 : decode code 271 = .ok (.iaload, 1) := by decide +kernel
theorem d_law_272 : decode code 272 = .ok (.invokevirtual 47, 3) := by decide +kernel
theorem d_law_275 : decode code 275 = .ok (.if_icmp .eq 97, 3) := by decide +kernel
theorem d_law_278 : decode code 278 = .ok (.iconst 0, 1) := by decide +kernel
theorem d_law_279 : decode code 279 = .ok (.ireturn, 1) := by decide +kernel
theorem d_law_280 : decode code 280 = .ok (.aload_n 1, 1) := by decide +kernel
theorem d_law_281 : decode code 281 = .ok (.aload_n 0, 1) := by decide +kernel
theorem d_law_282 : decode code 282 = .ok (.iload_n 3, 1) := by decide +kernel
theorem d_law_283 : decode code 283 = .ok (.iconst 1, 1) := by decide +kernel
theorem d_law_284 : decode code 284 = .ok (.iadd, 1) := by decide +kernel
theorem d_law_285 : decode code 285 = .ok (.iaload, 1) := by decide +kernel
theorem d_law_286 : decode code 286 = .ok (.aload_n 0, 1) := by decide +kernel
theorem d_law_287 : decode code 287 = .ok (.iload_n 3, 1) := by decide +kernel
theorem d_law_288 : decode code 288 = .ok (.iconst 2, 1) := by decide +kernel
theorem d_law_289 : decode code 289 = .ok (.iadd, 1) := by decide +kernel
theorem d_law_290 : decode code 290 = .ok (.iaload, 1) := by decide +kernel
theorem d_law_291 : decode code 291 = .ok (.invokevirtual 48, 3) := by decide +kernel
theorem d_law_294 : decode code 294 = .ok (.aload_n 2, 1) := by decide +kernel
theorem d_law_295 : decode code 295 = .ok (.aload_n 0, 1) := by decide +kernel
theorem d_law_296 : decode code 296 = .ok (.iload_n 3, 1) := by decide +kernel
theorem d_law_297 : decode code 297 = .ok (.iconst 1, 1) := by decide +kernel
theorem d_law_298 : decode code 298 = .ok (.iadd, 1) := by decide +kernel
theorem d_law_299 : decode code 299 = .ok (.iaload, 1) := by decide +kernel
theorem d_law_300 : decode code 300 = .ok (.aload_n 0, 1) := by decide +kernel
theorem d_law_301 : decode code 301 = .ok (.iload_n 3, 1) := by decide +kernel
theorem d_law_302 : decode code 302 = .ok (.iconst 2, 1) := by decide +kernel
theorem d_law_303 : decode code 303 = .ok (.iadd, 1) := by decide +kernel
theorem d_law_304 : decode code 304 = .ok (.iaload, 1) := by decide +kernel
theorem d_law_305 : decode code 305 = .ok (.invokevirtual 51, 3) := by decide +kernel
theorem d_law_308 : decode code 308 = .ok (.if_icmp .eq 64, 3) := by decide +kernel
theorem d_law_311 : decode code 311 = .ok (.iconst 0, 1) := by decide +kernel
theorem d_law_312 : decode code 312 = .ok (.ireturn, 1) := by decide +kernel
theorem d_law_313 : decode code 313 = .ok (.aload_n 1, 1) := by decide +kernel
theorem d_law_314 : decode code 314 = .ok (.aload_n 0, 1) := by decide +kernel
theorem d_law_315 : decode code 315 = .ok (.iload_n 3, 1) := by decide +kernel
theorem d_law_316 : decode code 316 = .ok (.iconst 1, 1) := by decide +kernel
theorem d_law_317 : decode code 317 = .ok (.iadd, 1) := by decide +kernel
theorem d_law_318 : decode code 318 = .ok (.iaload, 1) := by decide +kernel
theorem d_law_319 : decode code 319 = .ok (.invokevirtual 52, 3) := by decide +kernel
theorem d_law_322 : decode code 322 = .ok (.aload_n 2, 1) := by decide +kernel
theorem d_law_323 : decode code 323 = .ok (.aload_n 0, 1) := by decide +kernel
theorem d_law_324 : decode code 324 = .ok (.iload_n 3, 1) := by decide +kernel
theorem d_law_325 : decode code 325 = .ok (.iconst 1, 1) := by decide +kernel
theorem d_law_326 : decode code 326 = .ok (.iadd, 1) := by decide +kernel
theorem d_law_327 : decode code 327 = .ok (.iaload, 1) := by decide +kernel
theorem d_law_328 : decode code 328 = .ok (.invokevirtual 55, 3) := by decide +kernel
theorem d_law_331 : decode code 331 = .ok (.if_icmp .eq 41, 3) := by decide +kernel
theorem d_law_334 : decode code 334 = .ok (.iconst 0, 1) := by decide +kernel
theorem d_law_335 : decode code 335 = .ok (.ireturn, 1) := by decide +kernel
theorem d_law_336 : decode code 336 = .ok (.aload_n 1, 1) := by decide +kernel
theorem d_law_337 : decode code 337 = .ok (.aload_n 0, 1) := by decide +kernel
theorem d_law_338 : decode code 338 = .ok (.iload_n 3, 1) := by decide +kernel
theorem d_law_339 : decode code 339 = .ok (.iconst 1, 1) := by decide +kernel
theorem d_law_340 : decode code 340 = .ok (.iadd, 1) := by decide +kernel
theorem d_law_341 : decode code 341 = .ok (.iaload, 1) := by decide +kernel
theorem d_law_342 : decode code 342 = .ok (.invokevirtual 56, 3) := by decide +kernel
theorem d_law_345 : decode code 345 = .ok (.aload_n 2, 1) := by decide +kernel
theorem d_law_346 : decode code 346 = .ok (.aload_n 0, 1) := by decide +kernel
theorem d_law_347 : decode code 347 = .ok (.iload_n 3, 1) := by decide +kernel
theorem d_law_348 : decode code 348 = .ok (.iconst 1, 1) := by decide +kernel
theorem d_law_349 : decode code 349 = .ok (.iadd, 1) := by decide +kernel
theorem d_law_350 : decode code 350 = .ok (.iaload, 1) := by decide +kernel
theorem d_law_351 : decode code 351 = .ok (.invokevirtual 59, 3) := by decide +kernel
theorem d_law_354 : decode code 354 = .ok (.if_icmp .eq 18, 3) := by decide +kernel
theorem d_law_357 : decode code 357 = .ok (.iconst 0, 1) := by decide +kernel
theorem d_law_358 : decode code 358 = .ok (.ireturn, 1) := by decide +kernel
theorem d_law_359 : decode code 359 = .ok (.aload_n 1, 1) := by decide +kernel
theorem d_law_360 : decode code 360 = .ok (.invokevirtual 60, 3) := by decide +kernel
theorem d_law_363 : decode code 363 = .ok (.aload_n 2, 1) := by decide +kernel
theorem d_law_364 : decode code 364 = .ok (.invokevirtual 63, 3) := by decide +kernel
theorem d_law_367 : decode code 367 = .ok (.if_icmp .eq 5, 3) := by decide +kernel
theorem d_law_370 : decode code 370 = .ok (.iconst 0, 1) := by decide +kernel
theorem d_law_371 : decode code 371 = .ok (.ireturn, 1) := by decide +kernel
theorem d_law_372 : decode code 372 = .ok (.iinc 3 3, 3) := by decide +kernel
theorem d_law_375 : decode code 375 = .ok (.goto (-357), 3) := by decide +kernel
theorem d_law_378 : decode code 378 = .ok (.iconst 1, 1) := by decide +kernel
theorem d_law_379 : decode code 379 = .ok (.ireturn, 1) := by decide +kernel
section LAW
variable {l : Launch} {D : va_G} {g : Nat → ClassId} {own : String} {cc : ByteArray} {nL : Nat} {R : Room} {ini : Bool} {scr : Option (Nat × Nat × (Nat → Int32))} {A : Nat → Prop} {G : GN} {pc kk9 nn9 : Nat} {lv : List (Nat × Value)} {st st0 : List Value} {a a2 : Nat → Nat} {P P2 : Nat → Nat → Int32} {I I2 : Nat → Int32} {F F2 : Nat → Nat → Int32} {B0 B1 : BS}
set_option maxRecDepth 100000 in
theorem n_callC (K : Cn l D g own cc nL R ini scr A G) {y : MethodName} {b : ByteArray} {nC d2 idx : Nat} {r : Option FieldType} {As : List Value} {Q2 : Option Value → va_W → Prop} (hC : Ct l D g y b nC r d2 (.ref (a 0) :: As) (CW a g P I F B0 B1) Q2) (hf : Mf y b nC r R_C As.length) (him : Cond.instanceMethod y ∈ lw_ok) (hse : Cond.selects R_C y y ∈ lw_ok) (hml : Cond.methodLink own idx y ∈ lw_ok) (hR : d2 + 1 ≤ R.frames ∧ 8 + (nC + 11) + 30 * d2 ≤ R.locals) (hroom : kk9 ≤ R.cells ∧ nn9 ≤ R.slots) (hst : (st.map fun v => v.category).sum ≤ 8) (d : decode cc pc = .ok (.invokevirtual idx, 3))
    (kk : ∀ (v : Option Value) (w1 : va_W), Q2 v w1 → ∃ (P' : Nat → Nat → Int32) (I' : Nat → Int32) (F' : Nat → Nat → Int32) (B0' B1' : BS), w1 = CW a g P' I' F' B0' B1' ∧ G (pc + 3) lv (v.toList ++ st) (CW a g P' I' F' B0' B1' ++ MW a2 g P2 I2 F2) kk9 nn9) (hs0 : st0 = As.reverse ++ .ref (a 0) :: st) : G pc lv st0 (CW a g P I F B0 B1 ++ MW a2 g P2 I2 F2) kk9 nn9 := by
  refine n_callV (q0 := 0) (ci := 1) (C := R_C) (T := F_C) (N := 30) K hC hf him hse hml hR hroom rfl rfl [0, 1, 2, 3, 4, 5, 6, 7, 8, 9, 10, 11, 12, 13, 14, 15, 16, 17, 18, 19, 20] [21, 22, 23, 24, 25, 26, 27, 28, 29, 30, 31, 32] (by decide) rfl (by decide) hst d (fun v w1 hq _ => ?_) hs0
  obtain ⟨P', I', F', B0', B1', rfl, hg⟩ := kk v w1 hq
  exact ⟨CW a g P' I' F' B0' B1' ++ MW a2 g P2 I2 F2, rfl, rfl, List.forall_mem_cons.mpr ⟨rfl, List.forall_mem_cons.mpr ⟨rfl, List.forall_mem_cons.mpr ⟨rfl, List.forall_mem_cons.mpr ⟨rfl, List.forall_mem_cons.mpr ⟨rfl, List.forall_mem_cons.mpr ⟨rfl, List.forall_mem_cons.mpr ⟨rfl, List.forall_mem_cons.mpr ⟨rfl, List.forall_mem_cons.mpr ⟨rfl, List.forall_mem_cons.mpr ⟨rfl, List.forall_mem_cons.mpr ⟨rfl, List.forall_mem_cons.mpr ⟨rfl, fun _ h => absurd h List.not_mem_nil⟩⟩⟩⟩⟩⟩⟩⟩⟩⟩⟩⟩, (by decide : ∀ k, k < 33 → k ∈ ([0, 1, 2, 3, 4, 5, 6, 7, 8, 9, 10, 11, 12, 13, 14, 15, 16, 17, 18, 19, 20] : List Nat) ∨ k ∈ ([21, 22, 23, 24, 25, 26, 27, 28, 29, 30, 31, 32] : List Nat)), hg⟩
set_option maxRecDepth 100000 in
theorem n_callM (K : Cn l D g own cc nL R ini scr A G) {y : MethodName} {b : ByteArray} {nC d2 idx : Nat} {r : Option FieldType} {As : List Value} {Q2 : Option Value → va_W → Prop} (hC : Ct l D g y b nC r d2 (.ref (a2 0) :: As) (MW a2 g P2 I2 F2) Q2) (hf : Mf y b nC r R_M As.length) (him : Cond.instanceMethod y ∈ lw_ok) (hse : Cond.selects R_M y y ∈ lw_ok) (hml : Cond.methodLink own idx y ∈ lw_ok) (hR : d2 + 1 ≤ R.frames ∧ 8 + (nC + 11) + 30 * d2 ≤ R.locals) (hroom : kk9 ≤ R.cells ∧ nn9 ≤ R.slots) (hst : (st.map fun v => v.category).sum ≤ 8) (d : decode cc pc = .ok (.invokevirtual idx, 3))
    (kk : ∀ (v : Option Value) (w1 : va_W), Q2 v w1 → ∃ (P' : Nat → Nat → Int32) (I' : Nat → Int32) (F' : Nat → Nat → Int32), w1 = MW a2 g P' I' F' ∧ G (pc + 3) lv (v.toList ++ st) (CW a g P I F B0 B1 ++ MW a2 g P' I' F') kk9 nn9) (hs0 : st0 = As.reverse ++ .ref (a2 0) :: st) : G pc lv st0 (CW a g P I F B0 B1 ++ MW a2 g P2 I2 F2) kk9 nn9 := by
  refine n_callV (q0 := 0) (ci := 2) (C := R_M) (T := F_M) (N := 30) K hC hf him hse hml hR hroom rfl rfl [21, 22, 23, 24, 25, 26, 27, 28, 29, 30, 31, 32] [0, 1, 2, 3, 4, 5, 6, 7, 8, 9, 10, 11, 12, 13, 14, 15, 16, 17, 18, 19, 20] (by decide) rfl (by decide) hst d (fun v w1 hq _ => ?_) hs0
  obtain ⟨P', I', F', rfl, hg⟩ := kk v w1 hq
  exact ⟨CW a g P I F B0 B1 ++ MW a2 g P' I' F', rfl, rfl, List.forall_mem_cons.mpr ⟨rfl, List.forall_mem_cons.mpr ⟨rfl, List.forall_mem_cons.mpr ⟨rfl, List.forall_mem_cons.mpr ⟨rfl, List.forall_mem_cons.mpr ⟨rfl, List.forall_mem_cons.mpr ⟨rfl, List.forall_mem_cons.mpr ⟨rfl, List.forall_mem_cons.mpr ⟨rfl, List.forall_mem_cons.mpr ⟨rfl, List.forall_mem_cons.mpr ⟨rfl, List.forall_mem_cons.mpr ⟨rfl, List.forall_mem_cons.mpr ⟨rfl, List.forall_mem_cons.mpr ⟨rfl, List.forall_mem_cons.mpr ⟨rfl, List.forall_mem_cons.mpr ⟨rfl, List.forall_mem_cons.mpr ⟨rfl, List.forall_mem_cons.mpr ⟨rfl, List.forall_mem_cons.mpr ⟨rfl, List.forall_mem_cons.mpr ⟨rfl, List.forall_mem_cons.mpr ⟨rfl, List.forall_mem_cons.mpr ⟨rfl, fun _ h => absurd h List.not_mem_nil⟩⟩⟩⟩⟩⟩⟩⟩⟩⟩⟩⟩⟩⟩⟩⟩⟩⟩⟩⟩⟩, (by decide : ∀ k, k < 33 → k ∈ ([21, 22, 23, 24, 25, 26, 27, 28, 29, 30, 31, 32] : List Nat) ∨ k ∈ ([0, 1, 2, 3, 4, 5, 6, 7, 8, 9, 10, 11, 12, 13, 14, 15, 16, 17, 18, 19, 20] : List Nat)), hg⟩
theorem n_ri {ws : va_W} {x : Int32} (h : G pc lv (.int x :: st) ws kk9 nn9) : G pc lv ((some (Value.int x)).toList ++ st) ws kk9 nn9 := h
def JT (G : GN) (b i : Nat) (a a2 : Nat → Nat) (g : Nat → ClassId) : Prop := ∀ (P : Nat → Nat → Int32) (n k : Nat) (bg : Bool) (z : SA) (c : Int32) (lk : Bool) (q : QT) (IC : Nat → Int32) (FC : Nat → Nat → Int32) (B0 B1 : BS) (IM : Nat → Int32) (FM : Nat → Nat → Int32), AI P n k bg z lk → CI P n k bg z c lk q IC FC B0 B1 → MI P n k bg z c lk q IM FM → G 372 [(3, .int (nI i)), (2, .ref (a2 0)), (1, .ref (a 0)), (0, .ref b)] [] (CW a g P IC FC B0 B1 ++ MW a2 g P IM FM) 33 4070
theorem okC_s {bg : Bool} {v c : Int32} (h : okC bg v c = true) : bg = false ∧ 0 ≤ c.toInt ∧ c.toInt ≤ 32767 := by
  unfold okC at h
  rw [Bool.and_eq_true, decide_eq_true_eq, Bool.not_eq_true'] at h
  exact ⟨h.1, h.2.2⟩
theorem okE_s {bg : Bool} {n : Nat} {b : Int32} (h : okE bg n b = true) : bg = false ∧ n < 20 ∧ 0 ≤ b.toInt ∧ b.toInt ≤ 1073741824 := by
  unfold okE at h
  rw [Bool.and_eq_true, decide_eq_true_eq, Bool.not_eq_true'] at h
  exact h
theorem okT_s {P : Nat → Nat → Int32} {bg : Bool} {n k : Nat} {cf lit : Int32} (h : okT P bg n k cf lit = true) : bg = false ∧ n < 20 ∧ k < 120 ∧ (1 ≤ cf.toInt ∧ cf.toInt ≤ 32767) ∧ 1 ≤ vx lit ∧ vx lit ≤ 16 := by
  unfold okT at h
  rw [Bool.and_eq_true] at h
  have h := h.1
  unfold okT0 at h
  rw [Bool.and_eq_true, decide_eq_true_eq, Bool.not_eq_true'] at h
  exact h
theorem okP_s {dn : Bool} {ll : Nat} {i : Int32} (h : okP dn ll i = true) : dn = true ∧ 0 ≤ i.toInt ∧ i.toInt ≤ ll ∧ i.toInt < 400 := by
  unfold okP at h
  rw [Bool.and_eq_true, decide_eq_true_eq] at h
  exact h
theorem okK_s {dn : Bool} {ll : Nat} {i : Int32} (h : okK dn ll i = true) : dn = true ∧ 0 ≤ i.toInt ∧ i.toInt ≤ ll := by
  unfold okK at h
  rw [Bool.and_eq_true, decide_eq_true_eq] at h
  exact h
set_option maxHeartbeats 4000000 in
set_option maxRecDepth 100000 in
theorem law_op0 {b L i : Nat} {xs : Nat → Int32} {P : Nat → Nat → Int32} {n k : Nat} {bg : Bool} {z : SA} {c : Int32} {lk : Bool} {q : QT} {IC : Nat → Int32} {FC : Nat → Nat → Int32} {IM : Nat → Int32} {FM : Nat → Nat → Int32} (K : Cn l D g R_law code 4 room_1 false (some (b, L, xs)) A G) (hL : L ≤ 1536) (hi : i + 3 ≤ L) (J : JT G b i a a2 g) (hA : AI P n k bg z lk) (hC : CI P n k bg z c lk q IC FC B0 B1) (hM : MI P n k bg z c lk q IM FM) : G 96 [(3, .int (nI i)), (2, .ref (a2 0)), (1, .ref (a 0)), (0, .ref b)] [] (CW a g P IC FC B0 B1 ++ MW a2 g P IM FM) 33 4070 := by
  refine n_aload_n K 2 d_law_96 rfl ?_
  refine n_aload_n K 3 d_law_97 rfl ?_
  refine n_iload_n K 0 d_law_98 rfl ?_
  refine n_iconst K (v := 1) d_law_99 (by decide) ?_
  refine n_iadd K d_law_100 ?_
  refine n_sld K (i + 1) (nI_1 i) (by omega) (by omega) d_law_101 ?_
  refine n_aload_n K 3 d_law_102 rfl ?_
  refine n_iload_n K 0 d_law_103 rfl ?_
  refine n_iconst K (v := 2) d_law_104 (by decide) ?_
  refine n_iadd K d_law_105 ?_
  refine n_sld K (i + 2) (nI_2 i) (by omega) (by omega) d_law_106 ?_
  refine n_callC K (c_C_setCost l D g a P IC FC B0 B1 hC.2.2.1 (xs (i + 1)) (xs (i + 2))) mf_C_setCost im_C_setCost se_C_setCost ml_law_13 (by decide) (by decide) (Nat.le_of_ble_eq_true rfl) d_law_107 (fun v9 w9 hq9 => ?_) rfl
  rcases hq9 with ⟨h1, rfl, rfl⟩ | ⟨h1, rfl, rfl⟩
  · refine ⟨_, _, _, _, _, rfl, n_ri ?_⟩
    refine n_aload_n K 1 d_law_110 rfl ?_
    refine n_aload_n K 3 d_law_111 rfl ?_
    refine n_iload_n K 0 d_law_112 rfl ?_
    refine n_iconst K (v := 1) d_law_113 (by decide) ?_
    refine n_iadd K d_law_114 ?_
    refine n_sld K (i + 1) (nI_1 i) (by omega) (by omega) d_law_115 ?_
    refine n_aload_n K 3 d_law_116 rfl ?_
    refine n_iload_n K 0 d_law_117 rfl ?_
    refine n_iconst K (v := 2) d_law_118 (by decide) ?_
    refine n_iadd K d_law_119 ?_
    refine n_sld K (i + 2) (nI_2 i) (by omega) (by omega) d_law_120 ?_
    refine n_callM K (c_M_setCost l D g a2 P IM FM hM.2.2.1 (xs (i + 1)) (xs (i + 2))) mf_M_setCost im_M_setCost se_M_setCost ml_law_17 (by decide) (by decide) (Nat.le_of_ble_eq_true rfl) d_law_121 (fun v9 w9 hq9 => ?_) rfl
    rcases hq9 with ⟨h2, rfl, rfl⟩ | ⟨h2, rfl, rfl⟩
    · refine ⟨_, _, _, rfl, n_ri ?_⟩
      refine n_icmp_eq K (tgt := 372) d_law_124 (by decide) (fun _ => ?_) (fun c9 => absurd (rfl) c9)
      obtain ⟨rfl, w1⟩ := okC_s h1
      obtain rfl := hA.nlk
      exact J _ n k false z c false q _ _ _ _ _ _ ⟨hA.1.c w1, hA.2⟩ (hC.p hC.1 hC.2.1 (fun _ _ _ => rfl)) (hM.p hM.1 (hM.2.1 rfl) (fun _ _ _ => rfl))
    · exact absurd (h1.symm.trans h2) (by decide)
  · refine ⟨_, _, _, _, _, rfl, n_ri ?_⟩
    refine n_aload_n K 1 d_law_110 rfl ?_
    refine n_aload_n K 3 d_law_111 rfl ?_
    refine n_iload_n K 0 d_law_112 rfl ?_
    refine n_iconst K (v := 1) d_law_113 (by decide) ?_
    refine n_iadd K d_law_114 ?_
    refine n_sld K (i + 1) (nI_1 i) (by omega) (by omega) d_law_115 ?_
    refine n_aload_n K 3 d_law_116 rfl ?_
    refine n_iload_n K 0 d_law_117 rfl ?_
    refine n_iconst K (v := 2) d_law_118 (by decide) ?_
    refine n_iadd K d_law_119 ?_
    refine n_sld K (i + 2) (nI_2 i) (by omega) (by omega) d_law_120 ?_
    refine n_callM K (c_M_setCost l D g a2 P IM FM hM.2.2.1 (xs (i + 1)) (xs (i + 2))) mf_M_setCost im_M_setCost se_M_setCost ml_law_17 (by decide) (by decide) (Nat.le_of_ble_eq_true rfl) d_law_121 (fun v9 w9 hq9 => ?_) rfl
    rcases hq9 with ⟨h2, rfl, rfl⟩ | ⟨h2, rfl, rfl⟩
    · exact absurd (h1.symm.trans h2) (by decide)
    · refine ⟨_, _, _, rfl, n_ri ?_⟩
      refine n_icmp_eq K (tgt := 372) d_law_124 (by decide) (fun _ => ?_) (fun c9 => absurd (rfl) c9)
      exact J P n k bg z c lk q _ _ _ _ _ _ hA hC hM
set_option maxHeartbeats 4000000 in
set_option maxRecDepth 100000 in
theorem law_op1 {b L i : Nat} {xs : Nat → Int32} {P : Nat → Nat → Int32} {n k : Nat} {bg : Bool} {z : SA} {c : Int32} {lk : Bool} {q : QT} {IC : Nat → Int32} {FC : Nat → Nat → Int32} {IM : Nat → Int32} {FM : Nat → Nat → Int32} (K : Cn l D g R_law code 4 room_1 false (some (b, L, xs)) A G) (hL : L ≤ 1536) (hi : i + 3 ≤ L) (J : JT G b i a a2 g) (hA : AI P n k bg z lk) (hC : CI P n k bg z c lk q IC FC B0 B1) (hM : MI P n k bg z c lk q IM FM) : G 129 [(3, .int (nI i)), (2, .ref (a2 0)), (1, .ref (a 0)), (0, .ref b)] [] (CW a g P IC FC B0 B1 ++ MW a2 g P IM FM) 33 4070 := by
  refine n_aload_n K 2 d_law_129 rfl ?_
  refine n_aload_n K 3 d_law_130 rfl ?_
  refine n_iload_n K 0 d_law_131 rfl ?_
  refine n_iconst K (v := 1) d_law_132 (by decide) ?_
  refine n_iadd K d_law_133 ?_
  refine n_sld K (i + 1) (nI_1 i) (by omega) (by omega) d_law_134 ?_
  refine n_aload_n K 3 d_law_135 rfl ?_
  refine n_iload_n K 0 d_law_136 rfl ?_
  refine n_iconst K (v := 2) d_law_137 (by decide) ?_
  refine n_iadd K d_law_138 ?_
  refine n_sld K (i + 2) (nI_2 i) (by omega) (by omega) d_law_139 ?_
  refine n_callC K (c_C_term l D g a P IC FC B0 B1 hA.1 hC.2.2.1 hC.1 hC.2.1 (xs (i + 1)) (xs (i + 2))) mf_C_term im_C_term se_C_term ml_law_18 (by decide) (by decide) (Nat.le_of_ble_eq_true rfl) d_law_140 (fun v9 w9 hq9 => ?_) rfl
  rcases hq9 with ⟨h1, rfl, rfl⟩ | ⟨h1, rfl, rfl⟩
  · refine ⟨_, _, _, _, _, rfl, n_ri ?_⟩
    refine n_aload_n K 1 d_law_143 rfl ?_
    refine n_aload_n K 3 d_law_144 rfl ?_
    refine n_iload_n K 0 d_law_145 rfl ?_
    refine n_iconst K (v := 1) d_law_146 (by decide) ?_
    refine n_iadd K d_law_147 ?_
    refine n_sld K (i + 1) (nI_1 i) (by omega) (by omega) d_law_148 ?_
    refine n_aload_n K 3 d_law_149 rfl ?_
    refine n_iload_n K 0 d_law_150 rfl ?_
    refine n_iconst K (v := 2) d_law_151 (by decide) ?_
    refine n_iadd K d_law_152 ?_
    refine n_sld K (i + 2) (nI_2 i) (by omega) (by omega) d_law_153 ?_
    refine n_callM K (c_M_term l D g a2 P IM FM hA.1 hM.2.2.1 hM.1 hM.2.1 (xs (i + 1)) (xs (i + 2))) mf_M_term im_M_term se_M_term ml_law_21 (by decide) (by decide) (Nat.le_of_ble_eq_true rfl) d_law_154 (fun v9 w9 hq9 => ?_) rfl
    rcases hq9 with ⟨h2, rfl, rfl⟩ | ⟨h2, rfl, rfl⟩
    · refine ⟨_, _, _, rfl, n_ri ?_⟩
      refine n_icmp_eq K (tgt := 372) d_law_157 (by decide) (fun _ => ?_) (fun c9 => absurd (rfl) c9)
      obtain ⟨rfl, w1, w2, w3, w4⟩ := okT_s h1
      obtain rfl := hA.nlk
      exact J _ n (k + 1) false z c false q _ _ _ _ _ _ ⟨hA.1.tt w2 w3 w4, hA.2⟩ (hC.p ((upd_n (by decide)).trans hC.1) upd_s (fun _ _ x2 => upd_n x2)) (hM.p ((upd_n (by decide)).trans hM.1) upd_s (fun _ _ x2 => upd_n x2))
    · exact absurd (h1.symm.trans h2) (by decide)
  · refine ⟨_, _, _, _, _, rfl, n_ri ?_⟩
    refine n_aload_n K 1 d_law_143 rfl ?_
    refine n_aload_n K 3 d_law_144 rfl ?_
    refine n_iload_n K 0 d_law_145 rfl ?_
    refine n_iconst K (v := 1) d_law_146 (by decide) ?_
    refine n_iadd K d_law_147 ?_
    refine n_sld K (i + 1) (nI_1 i) (by omega) (by omega) d_law_148 ?_
    refine n_aload_n K 3 d_law_149 rfl ?_
    refine n_iload_n K 0 d_law_150 rfl ?_
    refine n_iconst K (v := 2) d_law_151 (by decide) ?_
    refine n_iadd K d_law_152 ?_
    refine n_sld K (i + 2) (nI_2 i) (by omega) (by omega) d_law_153 ?_
    refine n_callM K (c_M_term l D g a2 P IM FM hA.1 hM.2.2.1 hM.1 hM.2.1 (xs (i + 1)) (xs (i + 2))) mf_M_term im_M_term se_M_term ml_law_21 (by decide) (by decide) (Nat.le_of_ble_eq_true rfl) d_law_154 (fun v9 w9 hq9 => ?_) rfl
    rcases hq9 with ⟨h2, rfl, rfl⟩ | ⟨h2, rfl, rfl⟩
    · exact absurd (h1.symm.trans h2) (by decide)
    · refine ⟨_, _, _, rfl, n_ri ?_⟩
      refine n_icmp_eq K (tgt := 372) d_law_157 (by decide) (fun _ => ?_) (fun c9 => absurd (rfl) c9)
      exact J P n k bg z c lk q _ _ _ _ _ _ hA hC hM
set_option maxHeartbeats 4000000 in
set_option maxRecDepth 100000 in
theorem law_op2 {b L i : Nat} {xs : Nat → Int32} {P : Nat → Nat → Int32} {n k : Nat} {bg : Bool} {z : SA} {c : Int32} {lk : Bool} {q : QT} {IC : Nat → Int32} {FC : Nat → Nat → Int32} {IM : Nat → Int32} {FM : Nat → Nat → Int32} (K : Cn l D g R_law code 4 room_1 false (some (b, L, xs)) A G) (hL : L ≤ 1536) (hi : i + 3 ≤ L) (J : JT G b i a a2 g) (hA : AI P n k bg z lk) (hC : CI P n k bg z c lk q IC FC B0 B1) (hM : MI P n k bg z c lk q IM FM) : G 162 [(3, .int (nI i)), (2, .ref (a2 0)), (1, .ref (a 0)), (0, .ref b)] [] (CW a g P IC FC B0 B1 ++ MW a2 g P IM FM) 33 4070 := by
  refine n_aload_n K 2 d_law_162 rfl ?_
  refine n_aload_n K 3 d_law_163 rfl ?_
  refine n_iload_n K 0 d_law_164 rfl ?_
  refine n_iconst K (v := 1) d_law_165 (by decide) ?_
  refine n_iadd K d_law_166 ?_
  refine n_sld K (i + 1) (nI_1 i) (by omega) (by omega) d_law_167 ?_
  refine n_callC K (c_C_end l D g a P IC FC B0 B1 hA.1 hC.2.2.1 hC.1 hC.2.1 (xs (i + 1))) mf_C_end im_C_end se_C_end ml_law_22 (by decide) (by decide) (Nat.le_of_ble_eq_true rfl) d_law_168 (fun v9 w9 hq9 => ?_) rfl
  rcases hq9 with ⟨h1, rfl, rfl⟩ | ⟨h1, rfl, rfl⟩
  · refine ⟨_, _, _, _, _, rfl, n_ri ?_⟩
    refine n_aload_n K 1 d_law_171 rfl ?_
    refine n_aload_n K 3 d_law_172 rfl ?_
    refine n_iload_n K 0 d_law_173 rfl ?_
    refine n_iconst K (v := 1) d_law_174 (by decide) ?_
    refine n_iadd K d_law_175 ?_
    refine n_sld K (i + 1) (nI_1 i) (by omega) (by omega) d_law_176 ?_
    refine n_callM K (c_M_end l D g a2 P IM FM hA.1 hM.2.2.1 hM.1 hM.2.1 (xs (i + 1))) mf_M_end im_M_end se_M_end ml_law_26 (by decide) (by decide) (Nat.le_of_ble_eq_true rfl) d_law_177 (fun v9 w9 hq9 => ?_) rfl
    rcases hq9 with ⟨h2, rfl, rfl⟩ | ⟨h2, rfl, rfl⟩
    · refine ⟨_, _, _, rfl, n_ri ?_⟩
      refine n_icmp_eq K (tgt := 372) d_law_180 (by decide) (fun _ => ?_) (fun c9 => absurd (rfl) c9)
      obtain ⟨rfl, w1, w2⟩ := okE_s h1
      obtain rfl := hA.nlk
      exact J _ (n + 1) k false z c false q _ _ _ _ _ _ ⟨hA.1.e w1 w2, hA.2⟩ (hC.p upd_s ((upd_n (by decide)).trans hC.2.1) (fun _ x1 _ => upd_n x1)) (hM.p upd_s ((upd_n (by decide)).trans (hM.2.1 rfl)) (fun _ x1 _ => upd_n x1))
    · exact absurd (h1.symm.trans h2) (by decide)
  · refine ⟨_, _, _, _, _, rfl, n_ri ?_⟩
    refine n_aload_n K 1 d_law_171 rfl ?_
    refine n_aload_n K 3 d_law_172 rfl ?_
    refine n_iload_n K 0 d_law_173 rfl ?_
    refine n_iconst K (v := 1) d_law_174 (by decide) ?_
    refine n_iadd K d_law_175 ?_
    refine n_sld K (i + 1) (nI_1 i) (by omega) (by omega) d_law_176 ?_
    refine n_callM K (c_M_end l D g a2 P IM FM hA.1 hM.2.2.1 hM.1 hM.2.1 (xs (i + 1))) mf_M_end im_M_end se_M_end ml_law_26 (by decide) (by decide) (Nat.le_of_ble_eq_true rfl) d_law_177 (fun v9 w9 hq9 => ?_) rfl
    rcases hq9 with ⟨h2, rfl, rfl⟩ | ⟨h2, rfl, rfl⟩
    · exact absurd (h1.symm.trans h2) (by decide)
    · refine ⟨_, _, _, rfl, n_ri ?_⟩
      refine n_icmp_eq K (tgt := 372) d_law_180 (by decide) (fun _ => ?_) (fun c9 => absurd (rfl) c9)
      exact J P n k bg z c lk q _ _ _ _ _ _ hA hC hM
set_option maxHeartbeats 4000000 in
set_option maxRecDepth 100000 in
theorem law_op3 {b L i : Nat} {xs : Nat → Int32} {P : Nat → Nat → Int32} {n k : Nat} {bg : Bool} {z : SA} {c : Int32} {lk : Bool} {q : QT} {IC : Nat → Int32} {FC : Nat → Nat → Int32} {IM : Nat → Int32} {FM : Nat → Nat → Int32} (K : Cn l D g R_law code 4 room_1 false (some (b, L, xs)) A G) (hL : L ≤ 1536) (hi : i + 3 ≤ L) (J : JT G b i a a2 g) (hA : AI P n k bg z lk) (hC : CI P n k bg z c lk q IC FC B0 B1) (hM : MI P n k bg z c lk q IM FM) : G 185 [(3, .int (nI i)), (2, .ref (a2 0)), (1, .ref (a 0)), (0, .ref b)] [] (CW a g P IC FC B0 B1 ++ MW a2 g P IM FM) 33 4070 := by
  refine n_aload_n K 2 d_law_185 rfl ?_
  refine n_aload_n K 3 d_law_186 rfl ?_
  refine n_iload_n K 0 d_law_187 rfl ?_
  refine n_iconst K (v := 1) d_law_188 (by decide) ?_
  refine n_iadd K d_law_189 ?_
  refine n_sld K (i + 1) (nI_1 i) (by omega) (by omega) d_law_190 ?_
  refine n_callC K (c_C_run l D g a P IC FC B0 B1 hA.1 hC.2.2.1 hC.1 hC.2.2.2.1 hA.2.1 hA.2.2.1 (xs (i + 1))) mf_C_run im_C_run se_C_run ml_law_27 (by decide) (by decide) (Nat.le_of_ble_eq_true rfl) d_law_191 (fun v9 w9 hq9 => ?_) rfl
  rcases hq9 with ⟨h1, rfl, rfl⟩ | ⟨h1, I3, F3, B3, rfl, rfl, e1, e2, e3, e4, e5⟩
  · refine ⟨_, _, _, _, _, rfl, n_ri ?_⟩
    refine n_aload_n K 1 d_law_194 rfl ?_
    refine n_aload_n K 3 d_law_195 rfl ?_
    refine n_iload_n K 0 d_law_196 rfl ?_
    refine n_iconst K (v := 1) d_law_197 (by decide) ?_
    refine n_iadd K d_law_198 ?_
    refine n_sld K (i + 1) (nI_1 i) (by omega) (by omega) d_law_199 ?_
    refine n_callM K (c_M_run l D g a2 P IM FM hA.1 hM.2.2.1 hM.1 hM.2.2.2.1 hA.2.1 (xs (i + 1))) mf_M_run im_M_run se_M_run ml_law_30 (by decide) (by decide) (Nat.le_of_ble_eq_true rfl) d_law_200 (fun v9 w9 hq9 => ?_) rfl
    rcases hq9 with ⟨h2, rfl, rfl⟩ | ⟨h2, I4, F4, rfl, rfl, d1, d2, d3, d4, d5⟩
    · refine ⟨_, _, _, rfl, n_ri ?_⟩
      refine n_icmp_eq K (tgt := 372) d_law_203 (by decide) (fun _ => ?_) (fun c9 => absurd (rfl) c9)
      exact J P n k bg z c lk q _ _ _ _ _ _ hA hC hM
    · exact absurd h2 h1
  · refine ⟨_, _, _, _, _, rfl, n_ri ?_⟩
    refine n_aload_n K 1 d_law_194 rfl ?_
    refine n_aload_n K 3 d_law_195 rfl ?_
    refine n_iload_n K 0 d_law_196 rfl ?_
    refine n_iconst K (v := 1) d_law_197 (by decide) ?_
    refine n_iadd K d_law_198 ?_
    refine n_sld K (i + 1) (nI_1 i) (by omega) (by omega) d_law_199 ?_
    refine n_callM K (c_M_run l D g a2 P IM FM hA.1 hM.2.2.1 hM.1 hM.2.2.2.1 hA.2.1 (xs (i + 1))) mf_M_run im_M_run se_M_run ml_law_30 (by decide) (by decide) (Nat.le_of_ble_eq_true rfl) d_law_200 (fun v9 w9 hq9 => ?_) rfl
    rcases hq9 with ⟨h2, rfl, rfl⟩ | ⟨h2, I4, F4, rfl, rfl, d1, d2, d3, d4, d5⟩
    · exact absurd h1 h2
    · refine ⟨_, _, _, rfl, n_ri ?_⟩
      refine n_icmp_eq K (tgt := 372) d_law_203 (by decide) (fun _ => ?_) (fun c9 => absurd (by rw [hC.2.2.2.2.1, hM.2.2.2.2.1]) c9)
      exact J P n k true (runA P n (xs (i + 1)).toNatClampNeg z c).1 (runA P n (xs (i + 1)).toNatClampNeg z c).2 lk q _ _ _ _ _ _ (hA.run _ c) (CI.run hA hC e1 e2 e3 e4 e5) (MI.run hA hM d1 d2 d3 d4 d5)
set_option maxHeartbeats 4000000 in
set_option maxRecDepth 100000 in
theorem law_op4 {b L i : Nat} {xs : Nat → Int32} {P : Nat → Nat → Int32} {n k : Nat} {bg : Bool} {z : SA} {c : Int32} {lk : Bool} {q : QT} {IC : Nat → Int32} {FC : Nat → Nat → Int32} {IM : Nat → Int32} {FM : Nat → Nat → Int32} (K : Cn l D g R_law code 4 room_1 false (some (b, L, xs)) A G) (hL : L ≤ 1536) (hi : i + 3 ≤ L) (J : JT G b i a a2 g) (hA : AI P n k bg z lk) (hC : CI P n k bg z c lk q IC FC B0 B1) (hM : MI P n k bg z c lk q IM FM) : G 208 [(3, .int (nI i)), (2, .ref (a2 0)), (1, .ref (a 0)), (0, .ref b)] [] (CW a g P IC FC B0 B1 ++ MW a2 g P IM FM) 33 4070 := by
  refine n_aload_n K 2 d_law_208 rfl ?_
  refine n_callC K (c_C_optimum l D g a P IC FC B0 B1 hC.2.2.2.1.2.2.2.1) mf_C_optimum im_C_optimum se_C_optimum ml_law_31 (by decide) (by decide) (Nat.le_of_ble_eq_true rfl) d_law_209 (fun v9 w9 hq9 => ?_) rfl
  rcases hq9 with ⟨rfl, rfl⟩
  refine ⟨_, _, _, _, _, rfl, n_ri ?_⟩
  refine n_aload_n K 1 d_law_212 rfl ?_
  refine n_callM K (c_M_optimum l D g a2 P IM FM hM.2.2.2.1.2.2.2.1) mf_M_optimum im_M_optimum se_M_optimum ml_law_35 (by decide) (by decide) (Nat.le_of_ble_eq_true rfl) d_law_213 (fun v9 w9 hq9 => ?_) rfl
  rcases hq9 with ⟨rfl, rfl⟩
  refine ⟨_, _, _, rfl, n_ri ?_⟩
  refine n_icmp_eq K (tgt := 372) d_law_216 (by decide) (fun _ => ?_) (fun c9 => absurd (by rw [hC.2.2.2.1.2.1, hM.2.2.2.1.2.1]) c9)
  exact J P n k bg z c lk q _ _ _ _ _ _ hA hC hM
set_option maxHeartbeats 4000000 in
set_option maxRecDepth 100000 in
theorem law_op5 {b L i : Nat} {xs : Nat → Int32} {P : Nat → Nat → Int32} {n k : Nat} {bg : Bool} {z : SA} {c : Int32} {lk : Bool} {q : QT} {IC : Nat → Int32} {FC : Nat → Nat → Int32} {IM : Nat → Int32} {FM : Nat → Nat → Int32} (K : Cn l D g R_law code 4 room_1 false (some (b, L, xs)) A G) (hL : L ≤ 1536) (hi : i + 3 ≤ L) (J : JT G b i a a2 g) (hA : AI P n k bg z lk) (hC : CI P n k bg z c lk q IC FC B0 B1) (hM : MI P n k bg z c lk q IM FM) : G 221 [(3, .int (nI i)), (2, .ref (a2 0)), (1, .ref (a 0)), (0, .ref b)] [] (CW a g P IC FC B0 B1 ++ MW a2 g P IM FM) 33 4070 := by
  refine n_aload_n K 2 d_law_221 rfl ?_
  refine n_aload_n K 3 d_law_222 rfl ?_
  refine n_iload_n K 0 d_law_223 rfl ?_
  refine n_iconst K (v := 1) d_law_224 (by decide) ?_
  refine n_iadd K d_law_225 ?_
  refine n_sld K (i + 1) (nI_1 i) (by omega) (by omega) d_law_226 ?_
  refine n_callC K (c_C_value l D g a P IC FC B0 B1 (xs (i + 1))) mf_C_value im_C_value se_C_value ml_law_36 (by decide) (by decide) (Nat.le_of_ble_eq_true rfl) d_law_227 (fun v9 w9 hq9 => ?_) rfl
  rcases hq9 with ⟨rfl, rfl⟩
  refine ⟨_, _, _, _, _, rfl, n_ri ?_⟩
  refine n_aload_n K 1 d_law_230 rfl ?_
  refine n_aload_n K 3 d_law_231 rfl ?_
  refine n_iload_n K 0 d_law_232 rfl ?_
  refine n_iconst K (v := 1) d_law_233 (by decide) ?_
  refine n_iadd K d_law_234 ?_
  refine n_sld K (i + 1) (nI_1 i) (by omega) (by omega) d_law_235 ?_
  refine n_callM K (c_M_value l D g a2 P IM FM (xs (i + 1))) mf_M_value im_M_value se_M_value ml_law_39 (by decide) (by decide) (Nat.le_of_ble_eq_true rfl) d_law_236 (fun v9 w9 hq9 => ?_) rfl
  rcases hq9 with ⟨rfl, rfl⟩
  refine ⟨_, _, _, rfl, n_ri ?_⟩
  refine n_icmp_eq K (tgt := 372) d_law_239 (by decide) (fun _ => ?_) (fun c9 => absurd (by rw [hC.2.2.2.1.2.1, hM.2.2.2.1.2.1, hC.2.2.2.1.2.2.1, hM.2.2.2.1.2.2.1]) c9)
  exact J P n k bg z c lk q _ _ _ _ _ _ hA hC hM
set_option maxHeartbeats 4000000 in
set_option maxRecDepth 100000 in
theorem law_op6 {b L i : Nat} {xs : Nat → Int32} {P : Nat → Nat → Int32} {n k : Nat} {bg : Bool} {z : SA} {c : Int32} {lk : Bool} {q : QT} {IC : Nat → Int32} {FC : Nat → Nat → Int32} {IM : Nat → Int32} {FM : Nat → Nat → Int32} (K : Cn l D g R_law code 4 room_1 false (some (b, L, xs)) A G) (hL : L ≤ 1536) (hi : i + 3 ≤ L) (J : JT G b i a a2 g) (hA : AI P n k bg z lk) (hC : CI P n k bg z c lk q IC FC B0 B1) (hM : MI P n k bg z c lk q IM FM) : G 244 [(3, .int (nI i)), (2, .ref (a2 0)), (1, .ref (a 0)), (0, .ref b)] [] (CW a g P IC FC B0 B1 ++ MW a2 g P IM FM) 33 4070 := by
  refine n_aload_n K 2 d_law_244 rfl ?_
  refine n_callC K (c_C_logSize l D g a P IC FC B0 B1 ) mf_C_logSize im_C_logSize se_C_logSize ml_law_40 (by decide) (by decide) (Nat.le_of_ble_eq_true rfl) d_law_245 (fun v9 w9 hq9 => ?_) rfl
  rcases hq9 with ⟨rfl, rfl⟩
  refine ⟨_, _, _, _, _, rfl, n_ri ?_⟩
  refine n_aload_n K 1 d_law_248 rfl ?_
  refine n_callM K (c_M_logSize l D g a2 P IM FM ) mf_M_logSize im_M_logSize se_M_logSize ml_law_43 (by decide) (by decide) (Nat.le_of_ble_eq_true rfl) d_law_249 (fun v9 w9 hq9 => ?_) rfl
  rcases hq9 with ⟨rfl, rfl⟩
  refine ⟨_, _, _, rfl, n_ri ?_⟩
  refine n_icmp_eq K (tgt := 372) d_law_252 (by decide) (fun _ => ?_) (fun c9 => absurd (by rw [hC.2.2.2.1.1, hM.2.2.2.1.1]) c9)
  exact J P n k bg z c lk q _ _ _ _ _ _ hA hC hM
set_option maxHeartbeats 4000000 in
set_option maxRecDepth 100000 in
theorem law_op7 {b L i : Nat} {xs : Nat → Int32} {P : Nat → Nat → Int32} {n k : Nat} {bg : Bool} {z : SA} {c : Int32} {lk : Bool} {q : QT} {IC : Nat → Int32} {FC : Nat → Nat → Int32} {IM : Nat → Int32} {FM : Nat → Nat → Int32} (K : Cn l D g R_law code 4 room_1 false (some (b, L, xs)) A G) (hL : L ≤ 1536) (hi : i + 3 ≤ L) (J : JT G b i a a2 g) (hA : AI P n k bg z lk) (hC : CI P n k bg z c lk q IC FC B0 B1) (hM : MI P n k bg z c lk q IM FM) : G 257 [(3, .int (nI i)), (2, .ref (a2 0)), (1, .ref (a 0)), (0, .ref b)] [] (CW a g P IC FC B0 B1 ++ MW a2 g P IM FM) 33 4070 := by
  refine n_aload_n K 2 d_law_257 rfl ?_
  refine n_aload_n K 3 d_law_258 rfl ?_
  refine n_iload_n K 0 d_law_259 rfl ?_
  refine n_iconst K (v := 1) d_law_260 (by decide) ?_
  refine n_iadd K d_law_261 ?_
  refine n_sld K (i + 1) (nI_1 i) (by omega) (by omega) d_law_262 ?_
  refine n_callC K (c_C_logAt l D g a P IC FC B0 B1 hC.2.2.2.1.1 hA.2.1.2 (xs (i + 1))) mf_C_logAt im_C_logAt se_C_logAt ml_law_44 (by decide) (by decide) (Nat.le_of_ble_eq_true rfl) d_law_263 (fun v9 w9 hq9 => ?_) rfl
  rcases hq9 with ⟨rfl, rfl⟩
  refine ⟨_, _, _, _, _, rfl, n_ri ?_⟩
  refine n_aload_n K 1 d_law_266 rfl ?_
  refine n_aload_n K 3 d_law_267 rfl ?_
  refine n_iload_n K 0 d_law_268 rfl ?_
  refine n_iconst K (v := 1) d_law_269 (by decide) ?_
  refine n_iadd K d_law_270 ?_
  refine n_sld K (i + 1) (nI_1 i) (by omega) (by omega) d_law_271 ?_
  refine n_callM K (c_M_logAt l D g a2 P IM FM hM.2.2.2.1.1 hA.2.1.2 (xs (i + 1))) mf_M_logAt im_M_logAt se_M_logAt ml_law_47 (by decide) (by decide) (Nat.le_of_ble_eq_true rfl) d_law_272 (fun v9 w9 hq9 => ?_) rfl
  rcases hq9 with ⟨rfl, rfl⟩
  refine ⟨_, _, _, rfl, n_ri ?_⟩
  refine n_icmp_eq K (tgt := 372) d_law_275 (by decide) (fun _ => ?_) (fun c9 => absurd (by rw [hC.2.2.2.1.2.2.2.2.2.1, hM.2.2.2.1.2.2.2.2.2.1]) c9)
  exact J P n k bg z c lk q _ _ _ _ _ _ hA hC hM
set_option maxHeartbeats 4000000 in
set_option maxRecDepth 100000 in
theorem law_op8 {b L i : Nat} {xs : Nat → Int32} {P : Nat → Nat → Int32} {n k : Nat} {bg : Bool} {z : SA} {c : Int32} {lk : Bool} {q : QT} {IC : Nat → Int32} {FC : Nat → Nat → Int32} {IM : Nat → Int32} {FM : Nat → Nat → Int32} (K : Cn l D g R_law code 4 room_1 false (some (b, L, xs)) A G) (hL : L ≤ 1536) (hi : i + 3 ≤ L) (J : JT G b i a a2 g) (hA : AI P n k bg z lk) (hC : CI P n k bg z c lk q IC FC B0 B1) (hM : MI P n k bg z c lk q IM FM) : G 280 [(3, .int (nI i)), (2, .ref (a2 0)), (1, .ref (a 0)), (0, .ref b)] [] (CW a g P IC FC B0 B1 ++ MW a2 g P IM FM) 33 4070 := by
  refine n_aload_n K 2 d_law_280 rfl ?_
  refine n_aload_n K 3 d_law_281 rfl ?_
  refine n_iload_n K 0 d_law_282 rfl ?_
  refine n_iconst K (v := 1) d_law_283 (by decide) ?_
  refine n_iadd K d_law_284 ?_
  refine n_sld K (i + 1) (nI_1 i) (by omega) (by omega) d_law_285 ?_
  refine n_aload_n K 3 d_law_286 rfl ?_
  refine n_iload_n K 0 d_law_287 rfl ?_
  refine n_iconst K (v := 2) d_law_288 (by decide) ?_
  refine n_iadd K d_law_289 ?_
  refine n_sld K (i + 2) (nI_2 i) (by omega) (by omega) d_law_290 ?_
  refine n_callC K (c_C_poke l D g a P IC FC B0 B1 hC.2.2.2.1.1 hA.2.1.2 hC.2.2.2.1.2.2.2.1 (xs (i + 1)) (xs (i + 2))) mf_C_poke im_C_poke se_C_poke ml_law_48 (by decide) (by decide) (Nat.le_of_ble_eq_true rfl) d_law_291 (fun v9 w9 hq9 => ?_) rfl
  rcases hq9 with ⟨h1, rfl, rfl⟩ | ⟨h1, rfl, rfl⟩
  · refine ⟨_, _, _, _, _, rfl, n_ri ?_⟩
    refine n_aload_n K 1 d_law_294 rfl ?_
    refine n_aload_n K 3 d_law_295 rfl ?_
    refine n_iload_n K 0 d_law_296 rfl ?_
    refine n_iconst K (v := 1) d_law_297 (by decide) ?_
    refine n_iadd K d_law_298 ?_
    refine n_sld K (i + 1) (nI_1 i) (by omega) (by omega) d_law_299 ?_
    refine n_aload_n K 3 d_law_300 rfl ?_
    refine n_iload_n K 0 d_law_301 rfl ?_
    refine n_iconst K (v := 2) d_law_302 (by decide) ?_
    refine n_iadd K d_law_303 ?_
    refine n_sld K (i + 2) (nI_2 i) (by omega) (by omega) d_law_304 ?_
    refine n_callM K (c_M_poke l D g a2 P IM FM hM.2.2.2.1.1 hA.2.1.2 hM.2.2.2.1.2.2.2.1 (xs (i + 1)) (xs (i + 2))) mf_M_poke im_M_poke se_M_poke ml_law_51 (by decide) (by decide) (Nat.le_of_ble_eq_true rfl) d_law_305 (fun v9 w9 hq9 => ?_) rfl
    rcases hq9 with ⟨h2, rfl, rfl⟩ | ⟨h2, rfl, rfl⟩
    · refine ⟨_, _, _, rfl, n_ri ?_⟩
      refine n_icmp_eq K (tgt := 372) d_law_308 (by decide) (fun _ => ?_) (fun c9 => absurd (rfl) c9)
      obtain ⟨w1, w2, w3, w4⟩ := okP_s h1
      have w5 : (if (xs (i + 1)).toInt = lz z then lz z + 1 else lz z) ≤ 400 := by have := hA.2.1.2; split <;> omega
      exact J P n k bg (wz z (upd (gz z) (xs (i + 1)).toNatClampNeg (xs (i + 2))) (if (xs (i + 1)).toInt = lz z then lz z + 1 else lz z)) c false q _ _ _ _ _ _ (hA.w w5) (hC.w w1 ((upd_n (by decide)).trans ((upd_n (by decide)).trans upd_s)) ((upd_n (by decide)).trans upd_s) upd_s (by rw [va_up_self, hC.2.2.2.1.2.2.2.2.2.1]) (fun j x1 x2 x3 => (upd_n x3).trans ((upd_n x2).trans (upd_n x1)))) (hM.w w1 ((upd_n (by decide)).trans ((upd_n (by decide)).trans upd_s)) upd_s ((upd_n (by decide)).trans upd_s) (by rw [va_up_self, hM.2.2.2.1.2.2.2.2.2.1]) (fun j x1 x2 x3 => (upd_n x3).trans ((upd_n x2).trans (upd_n x1))))
    · exact absurd (h1.symm.trans h2) (by decide)
  · refine ⟨_, _, _, _, _, rfl, n_ri ?_⟩
    refine n_aload_n K 1 d_law_294 rfl ?_
    refine n_aload_n K 3 d_law_295 rfl ?_
    refine n_iload_n K 0 d_law_296 rfl ?_
    refine n_iconst K (v := 1) d_law_297 (by decide) ?_
    refine n_iadd K d_law_298 ?_
    refine n_sld K (i + 1) (nI_1 i) (by omega) (by omega) d_law_299 ?_
    refine n_aload_n K 3 d_law_300 rfl ?_
    refine n_iload_n K 0 d_law_301 rfl ?_
    refine n_iconst K (v := 2) d_law_302 (by decide) ?_
    refine n_iadd K d_law_303 ?_
    refine n_sld K (i + 2) (nI_2 i) (by omega) (by omega) d_law_304 ?_
    refine n_callM K (c_M_poke l D g a2 P IM FM hM.2.2.2.1.1 hA.2.1.2 hM.2.2.2.1.2.2.2.1 (xs (i + 1)) (xs (i + 2))) mf_M_poke im_M_poke se_M_poke ml_law_51 (by decide) (by decide) (Nat.le_of_ble_eq_true rfl) d_law_305 (fun v9 w9 hq9 => ?_) rfl
    rcases hq9 with ⟨h2, rfl, rfl⟩ | ⟨h2, rfl, rfl⟩
    · exact absurd (h1.symm.trans h2) (by decide)
    · refine ⟨_, _, _, rfl, n_ri ?_⟩
      refine n_icmp_eq K (tgt := 372) d_law_308 (by decide) (fun _ => ?_) (fun c9 => absurd (rfl) c9)
      exact J P n k bg z c lk q _ _ _ _ _ _ hA hC hM
set_option maxHeartbeats 4000000 in
set_option maxRecDepth 100000 in
theorem law_op9 {b L i : Nat} {xs : Nat → Int32} {P : Nat → Nat → Int32} {n k : Nat} {bg : Bool} {z : SA} {c : Int32} {lk : Bool} {q : QT} {IC : Nat → Int32} {FC : Nat → Nat → Int32} {IM : Nat → Int32} {FM : Nat → Nat → Int32} (K : Cn l D g R_law code 4 room_1 false (some (b, L, xs)) A G) (hL : L ≤ 1536) (hi : i + 3 ≤ L) (J : JT G b i a a2 g) (hA : AI P n k bg z lk) (hC : CI P n k bg z c lk q IC FC B0 B1) (hM : MI P n k bg z c lk q IM FM) : G 313 [(3, .int (nI i)), (2, .ref (a2 0)), (1, .ref (a 0)), (0, .ref b)] [] (CW a g P IC FC B0 B1 ++ MW a2 g P IM FM) 33 4070 := by
  refine n_aload_n K 2 d_law_313 rfl ?_
  refine n_aload_n K 3 d_law_314 rfl ?_
  refine n_iload_n K 0 d_law_315 rfl ?_
  refine n_iconst K (v := 1) d_law_316 (by decide) ?_
  refine n_iadd K d_law_317 ?_
  refine n_sld K (i + 1) (nI_1 i) (by omega) (by omega) d_law_318 ?_
  refine n_callC K (c_C_cut l D g a P IC FC B0 B1 hC.2.2.2.1.1 hA.2.1.2 hC.2.2.2.1.2.2.2.1 (xs (i + 1))) mf_C_cut im_C_cut se_C_cut ml_law_52 (by decide) (by decide) (Nat.le_of_ble_eq_true rfl) d_law_319 (fun v9 w9 hq9 => ?_) rfl
  rcases hq9 with ⟨h1, rfl, rfl⟩ | ⟨h1, rfl, rfl⟩
  · refine ⟨_, _, _, _, _, rfl, n_ri ?_⟩
    refine n_aload_n K 1 d_law_322 rfl ?_
    refine n_aload_n K 3 d_law_323 rfl ?_
    refine n_iload_n K 0 d_law_324 rfl ?_
    refine n_iconst K (v := 1) d_law_325 (by decide) ?_
    refine n_iadd K d_law_326 ?_
    refine n_sld K (i + 1) (nI_1 i) (by omega) (by omega) d_law_327 ?_
    refine n_callM K (c_M_cut l D g a2 P IM FM hM.2.2.2.1.1 hA.2.1.2 hM.2.2.2.1.2.2.2.1 (xs (i + 1))) mf_M_cut im_M_cut se_M_cut ml_law_55 (by decide) (by decide) (Nat.le_of_ble_eq_true rfl) d_law_328 (fun v9 w9 hq9 => ?_) rfl
    rcases hq9 with ⟨h2, rfl, rfl⟩ | ⟨h2, rfl, rfl⟩
    · refine ⟨_, _, _, rfl, n_ri ?_⟩
      refine n_icmp_eq K (tgt := 372) d_law_331 (by decide) (fun _ => ?_) (fun c9 => absurd (rfl) c9)
      obtain ⟨w1, w2, w3⟩ := okK_s h1
      have w4 := nat_i w2
      have w5 : (xs (i + 1)).toNatClampNeg ≤ 400 := by have := hA.2.1.2; omega
      exact J P n k bg (wz z (gz z) (xs (i + 1)).toNatClampNeg) c false q _ _ _ _ _ _ (hA.w w5) (hC.w w1 (((upd_n (by decide)).trans ((upd_n (by decide)).trans upd_s)).trans (nI_nat w2)) ((upd_n (by decide)).trans upd_s) upd_s hC.2.2.2.1.2.2.2.2.2.1 (fun j x1 x2 x3 => (upd_n x3).trans ((upd_n x2).trans (upd_n x1)))) (hM.w w1 (((upd_n (by decide)).trans ((upd_n (by decide)).trans upd_s)).trans (nI_nat w2)) upd_s ((upd_n (by decide)).trans upd_s) hM.2.2.2.1.2.2.2.2.2.1 (fun j x1 x2 x3 => (upd_n x3).trans ((upd_n x2).trans (upd_n x1))))
    · exact absurd (h1.symm.trans h2) (by decide)
  · refine ⟨_, _, _, _, _, rfl, n_ri ?_⟩
    refine n_aload_n K 1 d_law_322 rfl ?_
    refine n_aload_n K 3 d_law_323 rfl ?_
    refine n_iload_n K 0 d_law_324 rfl ?_
    refine n_iconst K (v := 1) d_law_325 (by decide) ?_
    refine n_iadd K d_law_326 ?_
    refine n_sld K (i + 1) (nI_1 i) (by omega) (by omega) d_law_327 ?_
    refine n_callM K (c_M_cut l D g a2 P IM FM hM.2.2.2.1.1 hA.2.1.2 hM.2.2.2.1.2.2.2.1 (xs (i + 1))) mf_M_cut im_M_cut se_M_cut ml_law_55 (by decide) (by decide) (Nat.le_of_ble_eq_true rfl) d_law_328 (fun v9 w9 hq9 => ?_) rfl
    rcases hq9 with ⟨h2, rfl, rfl⟩ | ⟨h2, rfl, rfl⟩
    · exact absurd (h1.symm.trans h2) (by decide)
    · refine ⟨_, _, _, rfl, n_ri ?_⟩
      refine n_icmp_eq K (tgt := 372) d_law_331 (by decide) (fun _ => ?_) (fun c9 => absurd (rfl) c9)
      exact J P n k bg z c lk q _ _ _ _ _ _ hA hC hM
set_option maxHeartbeats 4000000 in
set_option maxRecDepth 100000 in
theorem law_op10 {b L i : Nat} {xs : Nat → Int32} {P : Nat → Nat → Int32} {n k : Nat} {bg : Bool} {z : SA} {c : Int32} {lk : Bool} {q : QT} {IC : Nat → Int32} {FC : Nat → Nat → Int32} {IM : Nat → Int32} {FM : Nat → Nat → Int32} (K : Cn l D g R_law code 4 room_1 false (some (b, L, xs)) A G) (hL : L ≤ 1536) (hi : i + 3 ≤ L) (J : JT G b i a a2 g) (hA : AI P n k bg z lk) (hC : CI P n k bg z c lk q IC FC B0 B1) (hM : MI P n k bg z c lk q IM FM) : G 336 [(3, .int (nI i)), (2, .ref (a2 0)), (1, .ref (a 0)), (0, .ref b)] [] (CW a g P IC FC B0 B1 ++ MW a2 g P IM FM) 33 4070 := by
  refine n_aload_n K 2 d_law_336 rfl ?_
  refine n_aload_n K 3 d_law_337 rfl ?_
  refine n_iload_n K 0 d_law_338 rfl ?_
  refine n_iconst K (v := 1) d_law_339 (by decide) ?_
  refine n_iadd K d_law_340 ?_
  refine n_sld K (i + 1) (nI_1 i) (by omega) (by omega) d_law_341 ?_
  refine n_callC K (c_C_check l D g a P IC FC B0 B1 hA.1 hC.1 hC.2.2.2.1.1 hA.2.1.2 hC.2.2.2.1.2.2.2.1 hC.2.2.2.2.2.1 hC.2.2.2.2.2.2.1 hC.2.2.2.2.2.2.2 (xs (i + 1))) mf_C_check im_C_check se_C_check ml_law_56 (by decide) (by decide) (Nat.le_of_ble_eq_true rfl) d_law_342 (fun v9 w9 hq9 => ?_) rfl
  rcases hq9 with ⟨h1, rfl, rfl⟩ | ⟨h1, h3, rfl, rfl⟩ | ⟨h1, h3, I3, F3, B3, rfl, rfl, e1, e2, e3, e4, e5⟩
  · refine ⟨_, _, _, _, _, rfl, n_ri ?_⟩
    refine n_aload_n K 1 d_law_345 rfl ?_
    refine n_aload_n K 3 d_law_346 rfl ?_
    refine n_iload_n K 0 d_law_347 rfl ?_
    refine n_iconst K (v := 1) d_law_348 (by decide) ?_
    refine n_iadd K d_law_349 ?_
    refine n_sld K (i + 1) (nI_1 i) (by omega) (by omega) d_law_350 ?_
    refine n_callM K (c_M_check l D g a2 P IM FM hA.1 hM.1 hM.2.2.2.1.1 hA.2.1.2 hM.2.2.2.1.2.2.2.1 hM.2.2.2.2.2.1 hM.2.2.2.2.2.2.1 hM.2.2.2.2.2.2.2 (xs (i + 1))) mf_M_check im_M_check se_M_check ml_law_59 (by decide) (by decide) (Nat.le_of_ble_eq_true rfl) d_law_351 (fun v9 w9 hq9 => ?_) rfl
    rcases hq9 with ⟨h2, rfl, rfl⟩ | ⟨h2, h4, rfl, rfl⟩ | ⟨h2, h4, I4, F4, rfl, rfl, d1, d2, d3, d4, d5⟩
    · refine ⟨_, _, _, rfl, n_ri ?_⟩
      refine n_icmp_eq K (tgt := 372) d_law_354 (by decide) (fun _ => ?_) (fun c9 => absurd (rfl) c9)
      exact J P n k bg z c lk q _ _ _ _ _ _ hA hC hM
    · exact absurd (h1.symm.trans h2) (by decide)
    · exact absurd (h1.symm.trans h2) (by decide)
  · refine ⟨_, _, _, _, _, rfl, n_ri ?_⟩
    refine n_aload_n K 1 d_law_345 rfl ?_
    refine n_aload_n K 3 d_law_346 rfl ?_
    refine n_iload_n K 0 d_law_347 rfl ?_
    refine n_iconst K (v := 1) d_law_348 (by decide) ?_
    refine n_iadd K d_law_349 ?_
    refine n_sld K (i + 1) (nI_1 i) (by omega) (by omega) d_law_350 ?_
    refine n_callM K (c_M_check l D g a2 P IM FM hA.1 hM.1 hM.2.2.2.1.1 hA.2.1.2 hM.2.2.2.1.2.2.2.1 hM.2.2.2.2.2.1 hM.2.2.2.2.2.2.1 hM.2.2.2.2.2.2.2 (xs (i + 1))) mf_M_check im_M_check se_M_check ml_law_59 (by decide) (by decide) (Nat.le_of_ble_eq_true rfl) d_law_351 (fun v9 w9 hq9 => ?_) rfl
    rcases hq9 with ⟨h2, rfl, rfl⟩ | ⟨h2, h4, rfl, rfl⟩ | ⟨h2, h4, I4, F4, rfl, rfl, d1, d2, d3, d4, d5⟩
    · exact absurd (h1.symm.trans h2) (by decide)
    · refine ⟨_, _, _, rfl, n_ri ?_⟩
      refine n_icmp_eq K (tgt := 372) d_law_354 (by decide) (fun _ => ?_) (fun c9 => absurd (rfl) c9)
      exact J P n k bg z c lk q _ _ _ _ _ _ hA hC hM
    · exact absurd h4 h3
  · refine ⟨_, _, _, _, _, rfl, n_ri ?_⟩
    refine n_aload_n K 1 d_law_345 rfl ?_
    refine n_aload_n K 3 d_law_346 rfl ?_
    refine n_iload_n K 0 d_law_347 rfl ?_
    refine n_iconst K (v := 1) d_law_348 (by decide) ?_
    refine n_iadd K d_law_349 ?_
    refine n_sld K (i + 1) (nI_1 i) (by omega) (by omega) d_law_350 ?_
    refine n_callM K (c_M_check l D g a2 P IM FM hA.1 hM.1 hM.2.2.2.1.1 hA.2.1.2 hM.2.2.2.1.2.2.2.1 hM.2.2.2.2.2.1 hM.2.2.2.2.2.2.1 hM.2.2.2.2.2.2.2 (xs (i + 1))) mf_M_check im_M_check se_M_check ml_law_59 (by decide) (by decide) (Nat.le_of_ble_eq_true rfl) d_law_351 (fun v9 w9 hq9 => ?_) rfl
    rcases hq9 with ⟨h2, rfl, rfl⟩ | ⟨h2, h4, rfl, rfl⟩ | ⟨h2, h4, I4, F4, rfl, rfl, d1, d2, d3, d4, d5⟩
    · exact absurd (h1.symm.trans h2) (by decide)
    · exact absurd h3 h4
    · refine ⟨_, _, _, rfl, n_ri ?_⟩
      refine n_icmp_eq K (tgt := 372) d_law_354 (by decide) (fun _ => ?_) (fun c9 => absurd (by rw [hC.2.2.2.1.2.2.2.2.2.1, hM.2.2.2.1.2.2.2.2.2.1]) c9)
      have e9 : chkA P n (FM 2) (lz z) (xs (i + 1)).toNatClampNeg (cond lk q (lookA P n (FM 2) (lz z))) = chkA P n (FC 3) (lz z) (xs (i + 1)).toNatClampNeg (cond lk q (lookA P n (FC 3) (lz z))) := by rw [hC.2.2.2.1.2.2.2.2.2.1, hM.2.2.2.1.2.2.2.2.2.1]
      rw [e9] at d2 d3
      exact J P n k bg z c true (chkA P n (FC 3) (lz z) (xs (i + 1)).toNatClampNeg (cond lk q (lookA P n (FC 3) (lz z)))) _ _ _ _ _ _ (hA.ck h1) (hC.ck h1 e1 e2 e3 e4 e5) (hM.ck h1 d1 d2 d3 d4 d5)
set_option maxHeartbeats 4000000 in
set_option maxRecDepth 100000 in
theorem law_op11 {b L i : Nat} {xs : Nat → Int32} {P : Nat → Nat → Int32} {n k : Nat} {bg : Bool} {z : SA} {c : Int32} {lk : Bool} {q : QT} {IC : Nat → Int32} {FC : Nat → Nat → Int32} {IM : Nat → Int32} {FM : Nat → Nat → Int32} (K : Cn l D g R_law code 4 room_1 false (some (b, L, xs)) A G) (hL : L ≤ 1536) (hi : i + 3 ≤ L) (J : JT G b i a a2 g) (hA : AI P n k bg z lk) (hC : CI P n k bg z c lk q IC FC B0 B1) (hM : MI P n k bg z c lk q IM FM) : G 359 [(3, .int (nI i)), (2, .ref (a2 0)), (1, .ref (a 0)), (0, .ref b)] [] (CW a g P IC FC B0 B1 ++ MW a2 g P IM FM) 33 4070 := by
  refine n_aload_n K 2 d_law_359 rfl ?_
  refine n_callC K (c_C_steps l D g a P IC FC B0 B1 ) mf_C_steps im_C_steps se_C_steps ml_law_60 (by decide) (by decide) (Nat.le_of_ble_eq_true rfl) d_law_360 (fun v9 w9 hq9 => ?_) rfl
  rcases hq9 with ⟨rfl, rfl⟩
  refine ⟨_, _, _, _, _, rfl, n_ri ?_⟩
  refine n_aload_n K 1 d_law_363 rfl ?_
  refine n_callM K (c_M_steps l D g a2 P IM FM ) mf_M_steps im_M_steps se_M_steps ml_law_63 (by decide) (by decide) (Nat.le_of_ble_eq_true rfl) d_law_364 (fun v9 w9 hq9 => ?_) rfl
  rcases hq9 with ⟨rfl, rfl⟩
  refine ⟨_, _, _, rfl, n_ri ?_⟩
  refine n_icmp_eq K (tgt := 372) d_law_367 (by decide) (fun _ => ?_) (fun c9 => absurd (by rw [hC.2.2.2.2.1, hM.2.2.2.2.1]) c9)
  exact J P n k bg z c lk q _ _ _ _ _ _ hA hC hM
set_option maxHeartbeats 4000000 in
set_option maxRecDepth 100000 in
theorem law_loop {b L : Nat} {xs : Nat → Int32} (K : Cn l D g R_law code 4 room_1 false (some (b, L, xs)) A G) (hL : L ≤ 1536) (hret : ∀ lv ws, G 379 lv [.int 1] ws 33 4070) : ∀ (N i : Nat) (P : Nat → Nat → Int32) (n k : Nat) (bg : Bool) (z : SA) (c : Int32) (lk : Bool) (q : QT) (IC : Nat → Int32) (FC : Nat → Nat → Int32) (B0 B1 : BS) (IM : Nat → Int32) (FM : Nat → Nat → Int32), L - i < N → i ≤ L → AI P n k bg z lk → CI P n k bg z c lk q IC FC B0 B1 → MI P n k bg z c lk q IM FM → G 18 [(3, .int (nI i)), (2, .ref (a2 0)), (1, .ref (a 0)), (0, .ref b)] [] (CW a g P IC FC B0 B1 ++ MW a2 g P IM FM) 33 4070 := by
  intro N
  induction N with
  | zero => intro i P n k bg z c lk q IC FC B0 B1 IM FM hm; exact absurd hm (Nat.not_lt_zero _)
  | succ N ih =>
    intro i P n k bg z c lk q IC FC B0 B1 IM FM hm hi hA hC hM
    refine n_iload_n K 0 d_law_18 rfl ?_
    refine n_aload_n K 3 d_law_19 rfl ?_
    refine n_slen K d_law_20 ?_
    refine n_iconst K (v := 3) d_law_21 (by decide) ?_
    refine n_isub K d_law_22 ?_
    refine n_icmp_gt K (tgt := 378) d_law_23 (by decide) (fun _ => ?_) (fun c23 => ?_)
    · refine n_iconst K (v := 1) d_law_378 (by decide) ?_
      exact hret _ _
    · have hi3 := lp_c hL hi c23
      have J : JT G b i a a2 g := by
        intro P n k bg z c lk q IC FC B0 B1 IM FM hA hC hM
        refine n_iinc (v := nI (i + 3)) (lv' := [(3, _), (2, _), (1, _), (0, _)]) K 0 d_law_372 rfl (nI_3 i) (by decide) rfl ?_
        refine n_goto K (tgt := 18) d_law_375 (by decide) ?_
        exact ih (i + 3) P n k bg z c lk q IC FC B0 B1 IM FM (by omega) hi3 hA hC hM
      refine n_aload_n K 3 d_law_26 rfl ?_
      refine n_iload_n K 0 d_law_27 rfl ?_
      refine n_sld K i rfl (by omega) (by omega) d_law_28 ?_
      refine n_bipush K (v := 15) d_law_29 (by decide) ?_
      refine n_iand K d_law_31 ?_
      rcases sw_in (xs i &&& 15) with e | e | e | e | e | e | e | e | e | e | e | e | e
      · refine n_top K e ?_
        refine n_tab K (off := 64) (tgt := 96) d_law_32 (by decide) (by decide) rfl (by decide) ?_
        exact law_op0 K hL hi3 J hA hC hM
      · refine n_top K e ?_
        refine n_tab K (off := 97) (tgt := 129) d_law_32 (by decide) (by decide) rfl (by decide) ?_
        exact law_op1 K hL hi3 J hA hC hM
      · refine n_top K e ?_
        refine n_tab K (off := 130) (tgt := 162) d_law_32 (by decide) (by decide) rfl (by decide) ?_
        exact law_op2 K hL hi3 J hA hC hM
      · refine n_top K e ?_
        refine n_tab K (off := 153) (tgt := 185) d_law_32 (by decide) (by decide) rfl (by decide) ?_
        exact law_op3 K hL hi3 J hA hC hM
      · refine n_top K e ?_
        refine n_tab K (off := 176) (tgt := 208) d_law_32 (by decide) (by decide) rfl (by decide) ?_
        exact law_op4 K hL hi3 J hA hC hM
      · refine n_top K e ?_
        refine n_tab K (off := 189) (tgt := 221) d_law_32 (by decide) (by decide) rfl (by decide) ?_
        exact law_op5 K hL hi3 J hA hC hM
      · refine n_top K e ?_
        refine n_tab K (off := 212) (tgt := 244) d_law_32 (by decide) (by decide) rfl (by decide) ?_
        exact law_op6 K hL hi3 J hA hC hM
      · refine n_top K e ?_
        refine n_tab K (off := 225) (tgt := 257) d_law_32 (by decide) (by decide) rfl (by decide) ?_
        exact law_op7 K hL hi3 J hA hC hM
      · refine n_top K e ?_
        refine n_tab K (off := 248) (tgt := 280) d_law_32 (by decide) (by decide) rfl (by decide) ?_
        exact law_op8 K hL hi3 J hA hC hM
      · refine n_top K e ?_
        refine n_tab K (off := 281) (tgt := 313) d_law_32 (by decide) (by decide) rfl (by decide) ?_
        exact law_op9 K hL hi3 J hA hC hM
      · refine n_top K e ?_
        refine n_tab K (off := 304) (tgt := 336) d_law_32 (by decide) (by decide) rfl (by decide) ?_
        exact law_op10 K hL hi3 J hA hC hM
      · refine n_top K e ?_
        refine n_tab K (off := 327) (tgt := 359) d_law_32 (by decide) (by decide) rfl (by decide) ?_
        exact law_op11 K hL hi3 J hA hC hM
      · refine n_tabO K (tgt := 372) d_law_32 e (by decide) ?_
        exact J _ _ _ _ _ _ _ _ _ _ _ _ _ _ hA hC hM
set_option maxHeartbeats 4000000 in
set_option maxRecDepth 100000 in
theorem law_body {b L : Nat} {xs : Nat → Int32} (K : Cn l D g R_law code 4 room_1 false (some (b, L, xs)) A G) (hL : L ≤ 1536) (hret : ∀ lv ws, G 379 lv [.int 1] ws 33 4070) : G 0 [(0, .ref b)] [] [] 0 0 := by
  refine n_new K (ci := 1) (fs := [.null, .null, .null, .null, .null, .int 0, .int 0, .int 0, .null, .null, .null, .null, .int 0, .null, .int 0, .int 0, .int 0, .int 0, .int 0, .int 0, .null, .null, .null, .null, .int 0, .int 0, .int 0, .int 0, .int 0, .int 0]) i_C t_C_ok cl_law_7 in_C ini_C rfl (by decide) (Nat.le_of_ble_eq_true rfl) (Nat.le_of_ble_eq_true rfl) d_law_0 (fun q1 => ?_)
  refine n_dup K d_law_3 rfl ?_
  refine n_ctor (C := R_C) (As := []) (wr := []) K (c_C_init q1) k_C_init ini_C mh_C rfl im_C_init ml_law_9 (by decide) (by decide) rfl (Nat.le_of_ble_eq_true rfl) d_law_4 (fun w1 hq => ?_) rfl
  obtain ⟨a, rfl, rfl⟩ := hq
  refine n_astore_n (lv' := [(1, _), (0, _)]) K d_law_7 (by decide) rfl ?_
  refine n_new K (ci := 2) (fs := [.int 0, .null, .null, .null, .null, .null, .int 0, .int 0, .int 0, .int 0, .int 0, .int 0, .int 0, .null, .null, .int 0, .int 0, .int 0, .int 0, .int 0, .int 0, .null, .int 0, .int 0, .int 0, .int 0, .int 0, .null, .null, .null]) i_M t_M_ok cl_law_10 in_M ini_M rfl (by decide) (Nat.le_of_ble_eq_true rfl) (Nat.le_of_ble_eq_true rfl) d_law_8 (fun q2 => ?_)
  refine n_dup K d_law_11 rfl ?_
  refine n_ctor (C := R_M) (As := []) (wr := CW a g PZ IC0 PZ BZ BZ) K (c_M_init q2) k_M_init ini_M mh_M rfl im_M_init ml_law_12 (by decide) (by decide) rfl (Nat.le_of_ble_eq_true rfl) d_law_12 (fun w1 hq => ?_) rfl
  obtain ⟨a2, rfl, rfl⟩ := hq
  refine n_astore_n (lv' := [(2, _), (1, _), (0, _)]) K d_law_15 (by decide) rfl ?_
  refine n_iconst K (v := nI 0) d_law_16 (by decide) ?_
  refine n_istore_n (lv' := [(3, _), (2, _), (1, _), (0, _)]) K d_law_17 (by decide) rfl ?_
  exact law_loop K hL hret (L + 1) 0 PZ 0 0 false z0 0 false (0, 0, []) IC0 PZ BZ BZ IM0 PZ (by omega) (Nat.zero_le _) AI.zero (CI.zero _) (MI.zero _)
end LAW
end
section
/-! THE CLAIM OUT OF ONE WALK OF THE LAW'S BODY. Your part is whole_start (and what it stands on); all else here is the same for every law, but numbers. -/
def lw_P (b : Addr) (xs : List Int32) (args : Array Value) (s : State) : Prop := args = #[.ref b] ∧ s.IntsAt b xs ∧ xs.length ≤ 1536 ∧ (Jvm.Cond.and given_1 narrow_1).before args s = true
def lw_Q (_ : Array Value) (s : State) (o : Outcome) (t : State) : Prop := o = .returned (some (.int 1)) ∧ Framed s o t [] 33 4070
def lw_Z (below : List Frame) (a : Array Value) (s : State) : State → Prop := fun t => ∃ o, t.status = .running ∧ Ended t below o ∧ lw_Q a s o t
/-- the law's own end, with 1 on the stack, nothing written that was there before, its room as the claim has it -/
theorem lw_ret {p : Program} {l : Launch} {e : Env} {s : State} {m : MethodId} {below : List Frame} {meth : Method} {c : Code} {b : Nat} (hx : p.tables.exec = Jvm.exec) (hb : c.code = code) (hr : meth.sig.returnType = ret) (hlocks : meth.locks = false) {pc : Nat} {H : Heap} {ls : Array Slot} (hdg : decode code pc = .ok (.ireturn, 1)) : W p l e room_1 s m #[Value.ref b] below meth c H [] 33 4070 (lw_Z below #[Value.ref b] s) (F0 m pc ls [.int 1]) := by
  intro T hT X
  obtain ⟨fs, hret, hrun, hended, hW, hframe⟩ := X.leave (v := some (.int 1)) (hlocks := hlocks) (fun h => by rw [hr] at h; cases h)
  have hmeth' : T.vm.method? m = some meth := X.method'
  refine ⟨T.setFrames fs, ?_, .returned (some (.int 1)), hrun, hended, rfl, ⟨_, rfl⟩, hW, hframe⟩
  jvm_step X.here [X.here.top, hx, hb, hdg, hmeth', hr, ret, narrow_b1]
  (try refine ⟨rfl, ?_⟩); (try refine ⟨rfl, ?_⟩)
  first | (intro acts; rw [hret _ acts rfl rfl rfl]) | rw [hret _ _ rfl rfl rfl]
  exact Steps.refl _
/-- what holds at the law's entry: the machine, the code, the tables' words (any of lw_tbl by 'hts w (by decide +kernel)'), the script of L ints xs at the cell b, what the Statement gives of the start (any of its parts by flat_of_before) -/
def lw_At (p : Program) (s : State) (m : MethodId) (meth : Method) (c : Code) (b L : Nat) (xs : Nat → Int32) : Prop :=
  p.tables.exec = Jvm.exec ∧ c.code = code ∧ meth.sig.returnType = ret ∧ c.maxLocals = 4 ∧ s.vm.findClass R_law = some m.cls ∧ (∀ w ∈ lw_tbl, w.before #[Value.ref b] s = true) ∧ va_X b L xs s s.heap ∧ b < s.heap.size ∧ meth.locks = false ∧ (Jvm.Cond.and given_1 narrow_1).before #[Value.ref b] s = true
-- ===== YOUR PART BEGINS =====
theorem lw_arr {ty : FieldType} {args : Array Value} {s : State} (h : (Cond.arrayClass ty).before args s = true) : ∃ cA : ClassId, ArrOfT s cA ty ∧ s.vm.findClass ("[" ++ ty.toString) = some cA := by
  obtain ⟨cA, kA, comp, h1, h2, h3⟩ := Cond.arrayClass_spec h
  exact ⟨cA, fun n z => ⟨fun k h => (by cases h), kA, h2, comp, h3⟩, h1⟩
set_option maxHeartbeats 4000000 in
set_option maxRecDepth 100000 in
theorem whole_start {p : Program} {e : Env} {s : State} {m : MethodId} {below : List Frame} {meth : Method} {c : Code} (l : Launch) {b L : Nat} {xs : Nat → Int32} (hL : L ≤ 1536) (C0 : lw_At p s m meth c b L xs) : W p l e room_1 s m #[Value.ref b] below meth c s.heap [] 0 0 (lw_Z below #[Value.ref b] s) (entryFrame m ([Value.ref b] : List Value).toArray 4) := by
  obtain ⟨hx, hb, hr, hml, hown, hts, hX, hbl, hlocks, hgv⟩ := id C0
  have hok : ∀ w ∈ lw_ok, w.before #[Value.ref b] s = true := fun w hw => hts w (lw_sub w hw)
  obtain ⟨c0, iS0, hKn0⟩ := u_known (C := R_B) (T := F_B) (N := 9) (n := 9) hok i_B (hok _ in_B)
  obtain ⟨c1, iS1, hKn1⟩ := u_known (C := R_C) (T := F_C) (N := 30) (n := 30) hok i_C (hok _ in_C)
  obtain ⟨c2, iS2, hKn2⟩ := u_known (C := R_M) (T := F_M) (N := 30) (n := 30) hok i_M (hok _ in_M)
  obtain ⟨g0, ha0, hf0⟩ := lw_arr (hok _ ac_int)
  obtain ⟨g1, ha1, hf1⟩ := lw_arr (hok _ ac_boolean)
  obtain ⟨g2, ha2, hf2⟩ := lw_arr (hok _ ac_long)
  obtain ⟨dC, dI, hKc⟩ : ∃ (dC : Nat → ClassId) (dI : Nat → Nat → Nat), ∀ (k : Nat) (q : vw_C), classes[k]? = some q → u_Kn s q.1 q.2.1 q.2.2 (dC k) (dI k) := by
    refine ⟨fun k => if k = 0 then c0 else if k = 1 then c1 else c2, fun k => if k = 0 then iS0 else if k = 1 then iS1 else iS2, ?_⟩
    intro k q hq
    match k, hq with
    | 0, hq => cases hq; exact hKn0
    | 1, hq => cases hq; exact hKn1
    | 2, hq => cases hq; exact hKn2
    | k + 3, hq => simp [classes] at hq
  obtain ⟨g, hK⟩ : ∃ g : Nat → ClassId, va_K (dC, dI) classes (TY g) s := by
    refine ⟨fun k => if k = 0 then g0 else if k = 1 then g1 else g2, hKc, ?_⟩
    intro k q hq
    match k, hq with
    | 0, hq => cases hq; exact ⟨ha0, hf0⟩
    | 1, hq => cases hq; exact ⟨ha1, hf1⟩
    | 2, hq => cases hq; exact ⟨ha2, hf2⟩
    | k + 3, hq => simp [TY] at hq
  have hP : va_P (dC, dI) classes [] s.heap := fun k q h => by simp at h
  have hD : va_D (fun q : Nat => s.heap.size ≤ q) [] := ⟨fun i j p q h => by simp at h, fun k q h => by simp at h⟩
  have hl := lv_entry ([.ref b]) (n := 4) (Nat.le_of_ble_eq_true rfl)
  rw [lg_entry_eq]
  generalize (lg_sl ([.ref b]) ++ List.replicate (4 - (lg_sl ([.ref b])).length) Slot.unset).toArray = ls at hl ⊢
  have hl : lv_has ls 4 [(0, .ref b)] := hl
  refine law_body (l := l) (D := (dC, dI)) (g := g) (A := fun q : Nat => s.heap.size ≤ q) (b := b) (L := L) (xs := xs) ⟨p, e, s, m, #[Value.ref b], below, meth, c, lw_Z below #[Value.ref b] s, ⟨hx, hb, hml, hown, hok, hK, fun w hw => va_Nw.of (lw_tabs hw) (hts w (lw_subN w hw))⟩, fun h => Bool.noConfusion h, fun _ h => h, ⟨hX, hbl, Nat.not_le.mpr hbl⟩, rfl⟩ hL ?_ s.heap [] ls hP hD va_S.rf hl
  intro lv ws H locs ls hP hD hS hv
  exact va_forget (fun q hq => hS.2.2 q hq) (lw_ret hx hb hr hlocks d_law_379)
-- ===== YOUR PART ENDS =====
set_option maxHeartbeats 4000000 in
theorem lw_walk (l : Launch) (b : Addr) (xs : List Int32) : MetFree l x (headSpec (Jvm.Cond.code x code maxLocals ret :: tables_1) room_1) (lw_P b xs) (fun _ _ _ _ _ => True) lw_Q := by
  refine MetFree.of_bodyS (code := code) (maxLocals := maxLocals) (ret := ret) (by decide) ?_ ?_
  · intro args s m h hn
    obtain ⟨meth, c, h1, h2, h3, h4, h5, h6, -, -⟩ := Cond.code_spec hn (atoms_spec (ws := Jvm.Cond.code x code maxLocals ret :: tables_1) h _ List.mem_cons_self)
    exact ⟨meth, c, h1, h2, h3, h4, h5, h6⟩
  · intro p e s m args below meth c s₁ B hml0 hP _
    obtain ⟨rfl, hx, hbd, hgv⟩ := hP
    obtain ⟨scr, harrAt, hlist, hof, hsmall⟩ := hx
    obtain ⟨hcb, hkn, -, -⟩ := State.arrayAt?_spec harrAt
    have hown : s.vm.findClass R_law = some m.cls := findClass_of_methodNamed B.named
    have hts0 : ∀ c ∈ (Jvm.Cond.code x code maxLocals ret :: tables_1), c.before #[Value.ref b] s = true := atoms_spec (ws := Jvm.Cond.code x code maxLocals ret :: tables_1) B.pre
    have hts : ∀ w ∈ lw_tbl, w.before #[Value.ref b] s = true := k2_hts_sels lw_privs (fun w hw => hts0 w (List.mem_cons_of_mem _ hw)) lw_privs_ok
    have hml : c.maxLocals = 4 := B.maxLocals_eq (hts0 _ List.mem_cons_self)
    have X₀ : Stand p l e room_1 s m #[Value.ref b] below meth c s₁ [] 0 0 := Stand.of_body B
    have hh0 : s₁.heap = s.heap := by rw [B.state]; rfl
    have hsz : scr.slots.size = xs.length := by rw [← Array.length_toList, hlist, List.length_map]
    have hval : ∀ j : Nat, j < xs.length → scr.slots[j]? = some (.int (xs.getD j 0)) := fun j hj => by
      rw [← Array.getElem?_toList, hlist]
      simp [hj]
    have hbl : b < s.heap.size := (Array.getElem?_eq_some_iff.mp hcb).1
    have hX : va_X b xs.length (fun j => xs.getD j 0) s s.heap := ⟨scr, hcb, hof, hkn, hsz, hval⟩
    have K : W p l e room_1 s m #[Value.ref b] below meth c s₁.heap [] 0 0 (lw_Z below #[Value.ref b] s) (entryFrame m ([Value.ref b] : List Value).toArray 4) := by
      rw [hh0]
      exact whole_start l hbd ⟨B.exec, B.bytes, B.returns, hml, hown, hts, hX, hbl, B.notSynchronized, hgv⟩
    obtain ⟨t, a1, o, b1, b2, b3⟩ := K s₁ rfl X₀
    exact ⟨t, o, a1, b1, b2, b3⟩
theorem lw_pre_spec {args : Array Value} {s : State} (h : (Jvm.Cond.and given_1 narrow_1).before args s = true) (hr : rest_1_c.before args s = true) : ∃ (b : Addr) (xs : List Int32), lw_P b xs args s := by
  have hs := flat_of_before _ h
  have hq := flat_of_before _ hr
  have hc : (Cond.count 1).before args s = true := hs _ (by decide +kernel)
  have harr : (Cond.arrayOf (.arg 0) .int).before args s = true := hs _ (by decide +kernel)
  have hle : (Cond.le (.length (.arg 0)) (.int 1536)).before args s = true := hs _ (by decide +kernel)
  have hlen : (Cond.isInt (.length (.arg 0))).before args s = true := hq _ (by decide +kernel)
  have hall : (Cond.all (.arg 0) (.isInt (.elem (.arg 0) (.index 0)))).before args s = true := hq _ (by decide +kernel)
  obtain ⟨b, xs, hb, hx⟩ := State.ints_of_pre rfl harr hlen hall
  have hsm : xs.length < 2 ^ 31 := hx.choose_spec.2.2.2
  have hev : (Term.length (.arg 0)).eval args s none [] s = some (.int xs.length.toInt32) := hx.length_eval hb
  have hv := Cond.le_ints hev (show (Term.int 1536).eval args s none [] s = some (.int 1536) from rfl)
  have hd : xs.length.toInt32 ≤ 1536 := by
    simpa [Cond.before, Cond.holds, hv] using hle
  have hN : xs.length ≤ 1536 := (Int32.ofNat_le_ofNat hsm (by decide)).mp (show Int32.ofNat xs.length ≤ Int32.ofNat 1536 from hd)
  exact ⟨b, xs, Cond.one_arg hc (show args[0]? = some (.ref b) from hb), hx, hN, h⟩
theorem lw_comes (l : Launch) : Comes l x (Jvm.Cond.code x code maxLocals ret :: tables_1) room_1 (fun tb e args s => Calls_1 tb e args s ∧ rest_1 tb e args s ∧ Pre_1 tb e args s)
    (fun _ _ args s o t => lw_Q args s o t) := by
  intro p e ha hc hk s m args below hf hfit hheap happ hpre
  obtain ⟨b, xs, hP⟩ := lw_pre_spec hpre.2.2 hpre.2.1
  obtain ⟨k, o, h1, h2, h3, hQ⟩ := lw_walk l b xs p e ha hc hk s m args below hf ((Spec.applies_iff_loose hf).mp happ).1 hP trivial
  exact ⟨k, o, h1, h2, h3, hQ⟩
theorem lw_frame {s t : State} {o : Outcome} {args : Array Value} (h : Framed s o t [] 33 4070) :
    Framed s o t (fieldLocs frame_1_writes args s ++ arrayLocs frame_1_arrays args s ++ staticLocs frame_1_statics s) 33 4070 := h
theorem lw_limb (L : Cond) (hL : ∀ (args : Array Value) (s t : State), L.after args s (.returned (some (.int 1))) t = true) :
    ArmFor flags0 classFile x code maxLocals ret World_1 tables_1 room_1 Calls_1 rest_1 Pre_1
      (fun tb e a s o t => postC L tb e a s o t ∧ Framed s o t (fieldLocs frame_1_writes a s ++ arrayLocs frame_1_arrays a s ++ staticLocs frame_1_statics s) 33 4070) := by
  intro l _ _ _ p e ha hc hk s m args below hf hfit hheap happ hpre
  obtain ⟨k, o, h1, h2, h3, rfl, hF⟩ := lw_comes l p e ha hc hk s m args below hf hfit hheap happ hpre
  exact ⟨k, _, h1, h2, h3, hL args s _, lw_frame hF⟩
theorem i_vc : Claimed_1_1 ∧ Claimed_1_2 := ⟨lw_limb limb_1_1 (fun args s t => by simp [limb_1_1, Cond.after, Cond.holds, Cond.value]), lw_limb limb_1_2 (fun args s t => Cond.after_iff.mpr (by
  first | (rw [show limb_1_2 = Cond.eq .result (.int 1) from rfl, Cond.eq_ints (x := 1) (y := 1) rfl rfl]; simp; done) | (simp [limb_1_2, Cond.value, Term.eval]; done)))⟩
end
