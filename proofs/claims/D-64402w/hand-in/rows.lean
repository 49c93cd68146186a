section
-- ===== PART A: goes FIRST, ahead of the names: the tables' words, and 'selects' of the private methods out of them =====
/-- a private method of a class that the tables say can be made, by its rows of tables_1 -/
def lw_okq (q : MethodName × Nat) : Prop := (q.1.cls ≠ "java/lang/invoke/MethodHandle" ∧ q.1.cls ≠ "java/lang/invoke/VarHandle") ∧ Cond.instantiable q.1.cls q.2 ∈ tables_1 ∧ Cond.privateMethod q.1 ∈ tables_1 ∧ Cond.instanceMethod q.1 ∈ tables_1
set_option maxRecDepth 100000
theorem lw_p0 : lw_okq (⟨"SoftSolver", "addClause", "(II)I"⟩, 13) := ⟨⟨by decide +kernel, by decide +kernel⟩, List.mem_of_getElem? (i := 4) rfl, List.mem_of_getElem? (i := 58) rfl, List.mem_of_getElem? (i := 59) rfl⟩
theorem lw_p1 : lw_okq (⟨"SoftSolver", "freeAll", "()V"⟩, 13) := ⟨⟨by decide +kernel, by decide +kernel⟩, List.mem_of_getElem? (i := 4) rfl, List.mem_of_getElem? (i := 75) rfl, List.mem_of_getElem? (i := 76) rfl⟩
theorem lw_p2 : lw_okq (⟨"SoftSolver", "search", "()V"⟩, 13) := ⟨⟨by decide +kernel, by decide +kernel⟩, List.mem_of_getElem? (i := 4) rfl, List.mem_of_getElem? (i := 79) rfl, List.mem_of_getElem? (i := 80) rfl⟩
theorem lw_p3 : lw_okq (⟨"SoftSolver", "takeLeaf", "()I"⟩, 13) := ⟨⟨by decide +kernel, by decide +kernel⟩, List.mem_of_getElem? (i := 4) rfl, List.mem_of_getElem? (i := 83) rfl, List.mem_of_getElem? (i := 84) rfl⟩
theorem lw_p4 : lw_okq (⟨"SoftSolver", "lossSoFar", "()I"⟩, 13) := ⟨⟨by decide +kernel, by decide +kernel⟩, List.mem_of_getElem? (i := 4) rfl, List.mem_of_getElem? (i := 87) rfl, List.mem_of_getElem? (i := 88) rfl⟩
theorem lw_p5 : lw_okq (⟨"SoftSolver", "openLiterals", "(I[I)I"⟩, 13) := ⟨⟨by decide +kernel, by decide +kernel⟩, List.mem_of_getElem? (i := 4) rfl, List.mem_of_getElem? (i := 91) rfl, List.mem_of_getElem? (i := 92) rfl⟩
theorem lw_p6 : lw_okq (⟨"SoftSolver", "nextValue", "(I)I"⟩, 13) := ⟨⟨by decide +kernel, by decide +kernel⟩, List.mem_of_getElem? (i := 4) rfl, List.mem_of_getElem? (i := 95) rfl, List.mem_of_getElem? (i := 96) rfl⟩
theorem lw_p7 : lw_okq (⟨"SoftSolver", "worthwhile", "()Z"⟩, 13) := ⟨⟨by decide +kernel, by decide +kernel⟩, List.mem_of_getElem? (i := 4) rfl, List.mem_of_getElem? (i := 99) rfl, List.mem_of_getElem? (i := 100) rfl⟩
theorem lw_p8 : lw_okq (⟨"SoftSolver", "unitSteps", "()I"⟩, 13) := ⟨⟨by decide +kernel, by decide +kernel⟩, List.mem_of_getElem? (i := 4) rfl, List.mem_of_getElem? (i := 103) rfl, List.mem_of_getElem? (i := 104) rfl⟩
theorem lw_p9 : lw_okq (⟨"SoftSolver", "step", "(II)Z"⟩, 13) := ⟨⟨by decide +kernel, by decide +kernel⟩, List.mem_of_getElem? (i := 4) rfl, List.mem_of_getElem? (i := 107) rfl, List.mem_of_getElem? (i := 108) rfl⟩
theorem lw_p10 : lw_okq (⟨"SoftSolver", "book", "(I)I"⟩, 13) := ⟨⟨by decide +kernel, by decide +kernel⟩, List.mem_of_getElem? (i := 4) rfl, List.mem_of_getElem? (i := 111) rfl, List.mem_of_getElem? (i := 112) rfl⟩
theorem lw_p11 : lw_okq (⟨"SoftSolver", "variablesOf", "(I)I"⟩, 13) := ⟨⟨by decide +kernel, by decide +kernel⟩, List.mem_of_getElem? (i := 4) rfl, List.mem_of_getElem? (i := 115) rfl, List.mem_of_getElem? (i := 116) rfl⟩
theorem lw_p12 : lw_okq (⟨"SoftSolver", "holdsFor", "(II)Z"⟩, 13) := ⟨⟨by decide +kernel, by decide +kernel⟩, List.mem_of_getElem? (i := 4) rfl, List.mem_of_getElem? (i := 139) rfl, List.mem_of_getElem? (i := 140) rfl⟩
theorem lw_p13 : lw_okq (⟨"SoftSolverModel", "add", "(II)I"⟩, 3) := ⟨⟨by decide +kernel, by decide +kernel⟩, List.mem_of_getElem? (i := 143) rfl, List.mem_of_getElem? (i := 163) rfl, List.mem_of_getElem? (i := 164) rfl⟩
theorem lw_p14 : lw_okq (⟨"SoftSolverModel", "lossOf", "(I)I"⟩, 3) := ⟨⟨by decide +kernel, by decide +kernel⟩, List.mem_of_getElem? (i := 143) rfl, List.mem_of_getElem? (i := 184) rfl, List.mem_of_getElem? (i := 185) rfl⟩
def lw_privs_1 : List (MethodName × Nat) := [(⟨"SoftSolver", "addClause", "(II)I"⟩, 13), (⟨"SoftSolver", "freeAll", "()V"⟩, 13), (⟨"SoftSolver", "search", "()V"⟩, 13), (⟨"SoftSolver", "takeLeaf", "()I"⟩, 13), (⟨"SoftSolver", "lossSoFar", "()I"⟩, 13), (⟨"SoftSolver", "openLiterals", "(I[I)I"⟩, 13), (⟨"SoftSolver", "nextValue", "(I)I"⟩, 13), (⟨"SoftSolver", "worthwhile", "()Z"⟩, 13), (⟨"SoftSolver", "unitSteps", "()I"⟩, 13), (⟨"SoftSolver", "step", "(II)Z"⟩, 13), (⟨"SoftSolver", "book", "(I)I"⟩, 13), (⟨"SoftSolver", "variablesOf", "(I)I"⟩, 13), (⟨"SoftSolver", "holdsFor", "(II)Z"⟩, 13), (⟨"SoftSolverModel", "add", "(II)I"⟩, 3), (⟨"SoftSolverModel", "lossOf", "(I)I"⟩, 3)]
theorem lw_r1 : ∀ q ∈ lw_privs_1, lw_okq q := List.forall_mem_cons.mpr ⟨lw_p0, List.forall_mem_cons.mpr ⟨lw_p1, List.forall_mem_cons.mpr ⟨lw_p2, List.forall_mem_cons.mpr ⟨lw_p3, List.forall_mem_cons.mpr ⟨lw_p4, List.forall_mem_cons.mpr ⟨lw_p5, List.forall_mem_cons.mpr ⟨lw_p6, List.forall_mem_cons.mpr ⟨lw_p7, List.forall_mem_cons.mpr ⟨lw_p8, List.forall_mem_cons.mpr ⟨lw_p9, List.forall_mem_cons.mpr ⟨lw_p10, List.forall_mem_cons.mpr ⟨lw_p11, List.forall_mem_cons.mpr ⟨lw_p12, List.forall_mem_cons.mpr ⟨lw_p13, List.forall_mem_cons.mpr ⟨lw_p14, fun _ h => absurd h List.not_mem_nil⟩⟩⟩⟩⟩⟩⟩⟩⟩⟩⟩⟩⟩⟩⟩
def lw_privs : List (MethodName × Nat) := lw_privs_1
def lw_tbl : List Cond := k2_sels lw_privs ++ tables_1
theorem lw_privs_ok : ∀ q ∈ lw_privs, lw_okq q := lw_r1
-- ===== ONE list of words for every method: the tables' words that hold all through a run =====
def lw_all : List Cond := lw_tbl.filter goodWord
/-- a word of the tables by its place: claim/WORDS.tsv -/
theorem lw_w {w : Cond} (i : Nat) (h : lw_tbl[i]? = some w) (g : goodWord w = true) : w ∈ lw_all := List.mem_filter.mpr ⟨List.mem_of_getElem? h, g⟩
theorem lw_all_tbl {w : Cond} (h : w ∈ lw_all) : w ∈ lw_tbl := (List.mem_filter.mp h).1
theorem lw_self : GoodIn lw_all lw_all := fun w h => ⟨h, good_of_word (List.mem_filter.mp h).2⟩
/-- a class's field words, by their places -/
theorem lw_in (ws : List Cond) (ps : List Nat) (hp : ws = ps.filterMap (fun i => lw_tbl[i]?)) (hg : ws.all goodWord = true) : ∀ w ∈ ws, w ∈ lw_all := by
  intro w h
  have h1 := List.all_eq_true.mp hg w h
  rw [hp] at h
  obtain ⟨i, -, hi⟩ := List.mem_filterMap.mp h
  exact lw_w i hi h1
/-- the words of a contract for the method y with code b, L locals, answer r -/
abbrev ws_ (y : MethodName) (b : ByteArray) (L : Nat) (r : Option FieldType) : List Cond := Cond.code y b L r :: lw_all
theorem lw_meth {y : MethodName} {b : ByteArray} {L : Nat} {r : Option FieldType} (h : Cond.code y b L r ∈ lw_all) : GoodIn lw_all (ws_ y b L r) := by
  intro w hw
  rcases List.mem_cons.mp hw with e | e
  · rw [e]
    exact lw_self _ h
  · exact lw_self _ e
theorem lw_app {a c : List Cond} (ha : ∀ w ∈ a, w ∈ lw_all) (hc : GoodIn lw_all c) : GoodIn lw_all (a ++ c) := by
  intro w hw
  rcases List.mem_append.mp hw with e | e
  · exact lw_self w (ha w e)
  · exact hc w e
/-- what a call through an object asks: cwV n hts (lw_V ..) -/
theorem lw_V {own : String} {idx : Nat} {C : String} {y : MethodName} {b : ByteArray} {L : Nat} {r : Option FieldType} (h1 : Cond.methodLink own idx y ∈ lw_all) (h2 : Cond.instanceMethod y ∈ lw_all) (h3 : Cond.selects C y y ∈ lw_all) (h4 : Cond.initialized C ∈ lw_all) (h5 : Cond.code y b L r ∈ lw_all) : GoodIn lw_all (wsV own idx C y (ws_ y b L r)) := by
  refine lw_app ?_ (lw_meth h5)
  intro w hw
  simp only [List.mem_cons, List.not_mem_nil, or_false] at hw
  rcases hw with e | e | e | e
  · rw [e]; exact h1
  · rw [e]; exact h2
  · rw [e]; exact h3
  · rw [e]; exact h4
/-- what a static call asks: va_cwS n hts (lw_S ..) -/
theorem lw_S {own : String} {idx : Nat} {y : MethodName} {b : ByteArray} {L : Nat} {r : Option FieldType} (h1 : Cond.methodLink own idx y ∈ lw_all) (h2 : Cond.static y ∈ lw_all) (h3 : Cond.initialized y.cls ∈ lw_all) (h4 : Cond.code y b L r ∈ lw_all) : GoodIn lw_all (va_wsS own idx y (ws_ y b L r)) := by
  refine lw_app ?_ (lw_meth h4)
  intro w hw
  simp only [List.mem_cons, List.not_mem_nil, or_false] at hw
  rcases hw with e | e | e
  · rw [e]; exact h1
  · rw [e]; exact h2
  · rw [e]; exact h3
/-- the words of a contract for a method WITH HANDLERS (hh: its table) -/
abbrev wsW_ (y : MethodName) (b : ByteArray) (L : Nat) (r : Option FieldType) (hh : List (Nat × Nat × Nat × Nat)) : List Cond := Cond.codeWith y b L r hh :: lw_all
theorem lw_methW {y : MethodName} {b : ByteArray} {L : Nat} {r : Option FieldType} {hh : List (Nat × Nat × Nat × Nat)} (h : Cond.codeWith y b L r hh ∈ lw_all) : GoodIn lw_all (wsW_ y b L r hh) := by
  intro w hw
  rcases List.mem_cons.mp hw with e | e
  · rw [e]
    exact lw_self _ h
  · exact lw_self _ e
/-- any list of words by their places (lw_in), good -/
theorem lw_good {ws : List Cond} (h : ∀ w ∈ ws, w ∈ lw_all) : GoodIn lw_all ws := fun w hw => lw_self w (h w hw)
/-- what a call of a method with handlers asks: vx_cwVW n hts (lw_VW ..), vx_cwSW n hts (lw_SW ..) -/
theorem lw_VW {own : String} {idx : Nat} {C : String} {y : MethodName} {b : ByteArray} {L : Nat} {r : Option FieldType} {hh : List (Nat × Nat × Nat × Nat)} (h1 : Cond.methodLink own idx y ∈ lw_all) (h2 : Cond.instanceMethod y ∈ lw_all) (h3 : Cond.selects C y y ∈ lw_all) (h4 : Cond.initialized C ∈ lw_all) (h5 : Cond.codeWith y b L r hh ∈ lw_all) : GoodIn lw_all (wsV own idx C y (wsW_ y b L r hh)) := by
  refine lw_app ?_ (lw_methW h5)
  intro w hw
  simp only [List.mem_cons, List.not_mem_nil, or_false] at hw
  rcases hw with e | e | e | e
  · rw [e]; exact h1
  · rw [e]; exact h2
  · rw [e]; exact h3
  · rw [e]; exact h4
theorem lw_SW {own : String} {idx : Nat} {y : MethodName} {b : ByteArray} {L : Nat} {r : Option FieldType} {hh : List (Nat × Nat × Nat × Nat)} (h1 : Cond.methodLink own idx y ∈ lw_all) (h2 : Cond.static y ∈ lw_all) (h3 : Cond.initialized y.cls ∈ lw_all) (h4 : Cond.codeWith y b L r hh ∈ lw_all) : GoodIn lw_all (va_wsS own idx y (wsW_ y b L r hh)) := by
  refine lw_app ?_ (lw_methW h4)
  intro w hw
  simp only [List.mem_cons, List.not_mem_nil, or_false] at hw
  rcases hw with e | e | e
  · rw [e]; exact h1
  · rw [e]; exact h2
  · rw [e]; exact h3
/-- a word by its place in its run of the tables -/
theorem lw_at {r : List Cond} (hr : ∀ w ∈ r, w ∈ lw_tbl) {w : Cond} (i : Nat) (h : r[i]? = some w) : w ∈ lw_tbl := hr w (List.mem_of_getElem? h)
theorem lw_g {w : Cond} (h : w ∈ lw_tbl) (g : goodWord w = true) : w ∈ lw_all := List.mem_filter.mpr ⟨h, g⟩
theorem lw_ms : ∀ w ∈ k2_sels lw_privs, w ∈ lw_tbl := fun w h => show w ∈ k2_sels lw_privs ++ tables_1 from List.mem_append_left _ h
theorem lw_m0 : ∀ w ∈ tables_1, w ∈ lw_tbl := fun w h => show w ∈ k2_sels lw_privs ++ tables_1 from List.mem_append_right (k2_sels lw_privs) h
theorem qs0 : (Cond.selects "SoftSolver" ⟨"SoftSolver", "addClause", "(II)I"⟩ ⟨"SoftSolver", "addClause", "(II)I"⟩) ∈ lw_all := lw_g (lw_at lw_ms 0 rfl) rfl
theorem qs1 : (Cond.selects "SoftSolver" ⟨"SoftSolver", "freeAll", "()V"⟩ ⟨"SoftSolver", "freeAll", "()V"⟩) ∈ lw_all := lw_g (lw_at lw_ms 1 rfl) rfl
theorem qs2 : (Cond.selects "SoftSolver" ⟨"SoftSolver", "search", "()V"⟩ ⟨"SoftSolver", "search", "()V"⟩) ∈ lw_all := lw_g (lw_at lw_ms 2 rfl) rfl
theorem qs3 : (Cond.selects "SoftSolver" ⟨"SoftSolver", "takeLeaf", "()I"⟩ ⟨"SoftSolver", "takeLeaf", "()I"⟩) ∈ lw_all := lw_g (lw_at lw_ms 3 rfl) rfl
theorem qs4 : (Cond.selects "SoftSolver" ⟨"SoftSolver", "lossSoFar", "()I"⟩ ⟨"SoftSolver", "lossSoFar", "()I"⟩) ∈ lw_all := lw_g (lw_at lw_ms 4 rfl) rfl
theorem qs5 : (Cond.selects "SoftSolver" ⟨"SoftSolver", "openLiterals", "(I[I)I"⟩ ⟨"SoftSolver", "openLiterals", "(I[I)I"⟩) ∈ lw_all := lw_g (lw_at lw_ms 5 rfl) rfl
theorem qs6 : (Cond.selects "SoftSolver" ⟨"SoftSolver", "nextValue", "(I)I"⟩ ⟨"SoftSolver", "nextValue", "(I)I"⟩) ∈ lw_all := lw_g (lw_at lw_ms 6 rfl) rfl
theorem qs7 : (Cond.selects "SoftSolver" ⟨"SoftSolver", "worthwhile", "()Z"⟩ ⟨"SoftSolver", "worthwhile", "()Z"⟩) ∈ lw_all := lw_g (lw_at lw_ms 7 rfl) rfl
theorem qs8 : (Cond.selects "SoftSolver" ⟨"SoftSolver", "unitSteps", "()I"⟩ ⟨"SoftSolver", "unitSteps", "()I"⟩) ∈ lw_all := lw_g (lw_at lw_ms 8 rfl) rfl
theorem qs9 : (Cond.selects "SoftSolver" ⟨"SoftSolver", "step", "(II)Z"⟩ ⟨"SoftSolver", "step", "(II)Z"⟩) ∈ lw_all := lw_g (lw_at lw_ms 9 rfl) rfl
theorem qs10 : (Cond.selects "SoftSolver" ⟨"SoftSolver", "book", "(I)I"⟩ ⟨"SoftSolver", "book", "(I)I"⟩) ∈ lw_all := lw_g (lw_at lw_ms 10 rfl) rfl
theorem qs11 : (Cond.selects "SoftSolver" ⟨"SoftSolver", "variablesOf", "(I)I"⟩ ⟨"SoftSolver", "variablesOf", "(I)I"⟩) ∈ lw_all := lw_g (lw_at lw_ms 11 rfl) rfl
theorem qs12 : (Cond.selects "SoftSolver" ⟨"SoftSolver", "holdsFor", "(II)Z"⟩ ⟨"SoftSolver", "holdsFor", "(II)Z"⟩) ∈ lw_all := lw_g (lw_at lw_ms 12 rfl) rfl
theorem qs13 : (Cond.selects "SoftSolverModel" ⟨"SoftSolverModel", "add", "(II)I"⟩ ⟨"SoftSolverModel", "add", "(II)I"⟩) ∈ lw_all := lw_g (lw_at lw_ms 13 rfl) rfl
theorem qs14 : (Cond.selects "SoftSolverModel" ⟨"SoftSolverModel", "lossOf", "(I)I"⟩ ⟨"SoftSolverModel", "lossOf", "(I)I"⟩) ∈ lw_all := lw_g (lw_at lw_ms 14 rfl) rfl
end
section
set_option maxRecDepth 100000
/-! java/lang/Object -/
def RJ0 : String := "java/lang/Object"
abbrev cJ0_init : ByteArray := object_method_1_code
def yJ0_init : MethodName := ⟨RJ0, "<init>", "()V"⟩
theorem q24 : (Jvm.Cond.instanceMethod ({ cls := "java/lang/Object", name := "<init>", desc := "()V" } : Jvm.MethodName)) ∈ lw_all := lw_g (lw_at lw_m0 9 rfl) rfl
theorem q25 : (Jvm.Cond.code ({ cls := "java/lang/Object", name := "<init>", desc := "()V" } : Jvm.MethodName) object_method_1_code (1 : Nat) (Option.none : Option Jvm.ClassFile.FieldType)) ∈ lw_all := lw_g (lw_at lw_m0 10 rfl) rfl
/-! SoftSolver -/
def RX0 : String := "SoftSolver"
def TX0 : u_T := fun k => match k with
  | 0 => ("SoftSolver", "clauses", "I", false)
  | 1 => ("SoftSolver", "literals", "[I", true)
  | 2 => ("SoftSolver", "weight", "[I", true)
  | 3 => ("SoftSolver", "value", "[I", true)
  | 4 => ("SoftSolver", "given", "[I", true)
  | 5 => ("SoftSolver", "bestLoss", "I", false)
  | 6 => ("SoftSolver", "bestAssignment", "I", false)
  | 7 => ("SoftSolver", "follows", "[I", true)
  | 8 => ("SoftSolver", "reason", "[I", true)
  | 9 => ("SoftSolver", "trailLength", "I", false)
  | 10 => ("SoftSolver", "trail", "[I", true)
  | 11 => ("SoftSolver", "unbooked", "[I", true)
  | _ => ("SoftSolver", "involved", "[Z", true)
def tyX0 : Nat → FieldType := fun k => match k with
  | 0 => .int
  | 1 => .array .int
  | 2 => .array .int
  | 3 => .array .int
  | 4 => .array .int
  | 5 => .int
  | 6 => .int
  | 7 => .array .int
  | 8 => .array .int
  | 9 => .int
  | 10 => .array .int
  | 11 => .array .int
  | _ => .array .boolean
abbrev wsX00 : List Cond := u_ws RX0 TX0 13
set_option maxRecDepth 100000 in
theorem nmX0 : ∀ a, a < 13 → ∀ b, b < 13 → a ≠ b → (TX0 a).2.1 ≠ (TX0 b).2.1 := by decide +kernel
set_option maxRecDepth 100000 in
theorem tyX0_ok : ∀ k, k < 13 → parseFieldDescriptor (TX0 k).2.2.1 = some (tyX0 k) := by decide +kernel
abbrev cX0_init : ByteArray := prog_1_method_1_code
def yX0_init : MethodName := ⟨RX0, "<init>", "()V"⟩
abbrev cX0_hard : ByteArray := prog_1_method_2_code
def yX0_hard : MethodName := ⟨RX0, "hard", "(I)I"⟩
abbrev cX0_addClause : ByteArray := prog_1_method_11_code
def yX0_addClause : MethodName := ⟨RX0, "addClause", "(II)I"⟩
abbrev cX0_soft : ByteArray := prog_1_method_3_code
def yX0_soft : MethodName := ⟨RX0, "soft", "(II)I"⟩
abbrev cX0_drop : ByteArray := prog_1_method_4_code
def yX0_drop : MethodName := ⟨RX0, "drop", "(I)I"⟩
abbrev cX0_possible : ByteArray := prog_1_method_5_code
def yX0_possible : MethodName := ⟨RX0, "possible", "()I"⟩
abbrev cX0_freeAll : ByteArray := prog_1_method_13_code
def yX0_freeAll : MethodName := ⟨RX0, "freeAll", "()V"⟩
abbrev cX0_search : ByteArray := prog_1_method_14_code
def yX0_search : MethodName := ⟨RX0, "search", "()V"⟩
abbrev cX0_takeLeaf : ByteArray := prog_1_method_15_code
def yX0_takeLeaf : MethodName := ⟨RX0, "takeLeaf", "()I"⟩
abbrev cX0_lossSoFar : ByteArray := prog_1_method_18_code
def yX0_lossSoFar : MethodName := ⟨RX0, "lossSoFar", "()I"⟩
abbrev cX0_openLiterals : ByteArray := prog_1_method_19_code
def yX0_openLiterals : MethodName := ⟨RX0, "openLiterals", "(I[I)I"⟩
abbrev cX0_nextValue : ByteArray := prog_1_method_16_code
def yX0_nextValue : MethodName := ⟨RX0, "nextValue", "(I)I"⟩
abbrev cX0_worthwhile : ByteArray := prog_1_method_17_code
def yX0_worthwhile : MethodName := ⟨RX0, "worthwhile", "()Z"⟩
abbrev cX0_unitSteps : ByteArray := prog_1_method_20_code
def yX0_unitSteps : MethodName := ⟨RX0, "unitSteps", "()I"⟩
abbrev cX0_step : ByteArray := prog_1_method_21_code
def yX0_step : MethodName := ⟨RX0, "step", "(II)Z"⟩
abbrev cX0_book : ByteArray := prog_1_method_22_code
def yX0_book : MethodName := ⟨RX0, "book", "(I)I"⟩
abbrev cX0_variablesOf : ByteArray := prog_1_method_23_code
def yX0_variablesOf : MethodName := ⟨RX0, "variablesOf", "(I)I"⟩
abbrev cX0_loss : ByteArray := prog_1_method_6_code
def yX0_loss : MethodName := ⟨RX0, "loss", "()I"⟩
abbrev cX0_best : ByteArray := prog_1_method_7_code
def yX0_best : MethodName := ⟨RX0, "best", "()I"⟩
abbrev cX0_lossWith : ByteArray := prog_1_method_8_code
def yX0_lossWith : MethodName := ⟨RX0, "lossWith", "(I)I"⟩
abbrev cX0_lossAgainst : ByteArray := prog_1_method_9_code
def yX0_lossAgainst : MethodName := ⟨RX0, "lossAgainst", "(I)I"⟩
abbrev cX0_kept : ByteArray := prog_1_method_10_code
def yX0_kept : MethodName := ⟨RX0, "kept", "()I"⟩
abbrev cX0_holdsFor : ByteArray := prog_1_method_12_code
def yX0_holdsFor : MethodName := ⟨RX0, "holdsFor", "(II)Z"⟩
theorem q16 : (Jvm.Cond.initialized "SoftSolver") ∈ lw_all := lw_g (lw_at lw_m0 1 rfl) rfl
theorem q19 : (Jvm.Cond.instantiable "SoftSolver" (13 : Nat)) ∈ lw_all := lw_g (lw_at lw_m0 4 rfl) rfl
theorem q21 : (Jvm.Cond.instanceMethod ({ cls := "SoftSolver", name := "<init>", desc := "()V" } : Jvm.MethodName)) ∈ lw_all := lw_g (lw_at lw_m0 6 rfl) rfl
theorem q22 : (Jvm.Cond.code ({ cls := "SoftSolver", name := "<init>", desc := "()V" } : Jvm.MethodName) prog_1_method_1_code (1 : Nat) (Option.none : Option Jvm.ClassFile.FieldType)) ∈ lw_all := lw_g (lw_at lw_m0 7 rfl) rfl
theorem q23 : (Jvm.Cond.methodLink "SoftSolver" (1 : Nat) ({ cls := "java/lang/Object", name := "<init>", desc := "()V" } : Jvm.MethodName)) ∈ lw_all := lw_g (lw_at lw_m0 8 rfl) rfl
theorem q26 : (Jvm.Cond.fieldLink "SoftSolver" (42 : Nat) "SoftSolver" "clauses" "I") ∈ lw_all := lw_g (lw_at lw_m0 11 rfl) rfl
theorem q27 : (Jvm.Cond.fieldLink "SoftSolver" (7 : Nat) "SoftSolver" "literals" "[I") ∈ lw_all := lw_g (lw_at lw_m0 12 rfl) rfl
theorem q28 : (Jvm.Cond.fieldLink "SoftSolver" (13 : Nat) "SoftSolver" "weight" "[I") ∈ lw_all := lw_g (lw_at lw_m0 13 rfl) rfl
theorem q29 : (Jvm.Cond.fieldLink "SoftSolver" (16 : Nat) "SoftSolver" "value" "[I") ∈ lw_all := lw_g (lw_at lw_m0 14 rfl) rfl
theorem q30 : (Jvm.Cond.fieldLink "SoftSolver" (19 : Nat) "SoftSolver" "given" "[I") ∈ lw_all := lw_g (lw_at lw_m0 15 rfl) rfl
theorem q31 : (Jvm.Cond.fieldLink "SoftSolver" (55 : Nat) "SoftSolver" "bestLoss" "I") ∈ lw_all := lw_g (lw_at lw_m0 16 rfl) rfl
theorem q32 : (Jvm.Cond.fieldLink "SoftSolver" (52 : Nat) "SoftSolver" "bestAssignment" "I") ∈ lw_all := lw_g (lw_at lw_m0 17 rfl) rfl
theorem q33 : (Jvm.Cond.fieldLink "SoftSolver" (22 : Nat) "SoftSolver" "follows" "[I") ∈ lw_all := lw_g (lw_at lw_m0 18 rfl) rfl
theorem q34 : (Jvm.Cond.fieldLink "SoftSolver" (25 : Nat) "SoftSolver" "reason" "[I") ∈ lw_all := lw_g (lw_at lw_m0 19 rfl) rfl
theorem q35 : (Jvm.Cond.fieldLink "SoftSolver" (88 : Nat) "SoftSolver" "trailLength" "I") ∈ lw_all := lw_g (lw_at lw_m0 20 rfl) rfl
theorem q36 : (Jvm.Cond.fieldLink "SoftSolver" (28 : Nat) "SoftSolver" "trail" "[I") ∈ lw_all := lw_g (lw_at lw_m0 21 rfl) rfl
theorem q37 : (Jvm.Cond.fieldLink "SoftSolver" (31 : Nat) "SoftSolver" "unbooked" "[I") ∈ lw_all := lw_g (lw_at lw_m0 22 rfl) rfl
theorem q38 : (Jvm.Cond.fieldLink "SoftSolver" (34 : Nat) "SoftSolver" "involved" "[Z") ∈ lw_all := lw_g (lw_at lw_m0 23 rfl) rfl
theorem q39 : (Jvm.Cond.lays "SoftSolver" "SoftSolver" "clauses" "I") ∈ lw_all := lw_g (lw_at lw_m0 24 rfl) rfl
theorem q40 : (Jvm.Cond.soleField "SoftSolver" "clauses") ∈ lw_all := lw_g (lw_at lw_m0 25 rfl) rfl
theorem q41 : (Jvm.Cond.laysFinal "SoftSolver" "SoftSolver" "literals" "[I") ∈ lw_all := lw_g (lw_at lw_m0 26 rfl) rfl
theorem q42 : (Jvm.Cond.soleField "SoftSolver" "literals") ∈ lw_all := lw_g (lw_at lw_m0 27 rfl) rfl
theorem q43 : (Jvm.Cond.laysFinal "SoftSolver" "SoftSolver" "weight" "[I") ∈ lw_all := lw_g (lw_at lw_m0 28 rfl) rfl
theorem q44 : (Jvm.Cond.soleField "SoftSolver" "weight") ∈ lw_all := lw_g (lw_at lw_m0 29 rfl) rfl
theorem q45 : (Jvm.Cond.laysFinal "SoftSolver" "SoftSolver" "value" "[I") ∈ lw_all := lw_g (lw_at lw_m0 30 rfl) rfl
theorem q46 : (Jvm.Cond.soleField "SoftSolver" "value") ∈ lw_all := lw_g (lw_at lw_m0 31 rfl) rfl
theorem q47 : (Jvm.Cond.laysFinal "SoftSolver" "SoftSolver" "given" "[I") ∈ lw_all := lw_g (lw_at lw_m0 32 rfl) rfl
theorem q48 : (Jvm.Cond.soleField "SoftSolver" "given") ∈ lw_all := lw_g (lw_at lw_m0 33 rfl) rfl
theorem q49 : (Jvm.Cond.lays "SoftSolver" "SoftSolver" "bestLoss" "I") ∈ lw_all := lw_g (lw_at lw_m0 34 rfl) rfl
theorem q50 : (Jvm.Cond.soleField "SoftSolver" "bestLoss") ∈ lw_all := lw_g (lw_at lw_m0 35 rfl) rfl
theorem q51 : (Jvm.Cond.lays "SoftSolver" "SoftSolver" "bestAssignment" "I") ∈ lw_all := lw_g (lw_at lw_m0 36 rfl) rfl
theorem q52 : (Jvm.Cond.soleField "SoftSolver" "bestAssignment") ∈ lw_all := lw_g (lw_at lw_m0 37 rfl) rfl
theorem q53 : (Jvm.Cond.laysFinal "SoftSolver" "SoftSolver" "follows" "[I") ∈ lw_all := lw_g (lw_at lw_m0 38 rfl) rfl
theorem q54 : (Jvm.Cond.soleField "SoftSolver" "follows") ∈ lw_all := lw_g (lw_at lw_m0 39 rfl) rfl
theorem q55 : (Jvm.Cond.laysFinal "SoftSolver" "SoftSolver" "reason" "[I") ∈ lw_all := lw_g (lw_at lw_m0 40 rfl) rfl
theorem q56 : (Jvm.Cond.soleField "SoftSolver" "reason") ∈ lw_all := lw_g (lw_at lw_m0 41 rfl) rfl
theorem q57 : (Jvm.Cond.lays "SoftSolver" "SoftSolver" "trailLength" "I") ∈ lw_all := lw_g (lw_at lw_m0 42 rfl) rfl
theorem q58 : (Jvm.Cond.soleField "SoftSolver" "trailLength") ∈ lw_all := lw_g (lw_at lw_m0 43 rfl) rfl
theorem q59 : (Jvm.Cond.laysFinal "SoftSolver" "SoftSolver" "trail" "[I") ∈ lw_all := lw_g (lw_at lw_m0 44 rfl) rfl
theorem q60 : (Jvm.Cond.soleField "SoftSolver" "trail") ∈ lw_all := lw_g (lw_at lw_m0 45 rfl) rfl
theorem q61 : (Jvm.Cond.laysFinal "SoftSolver" "SoftSolver" "unbooked" "[I") ∈ lw_all := lw_g (lw_at lw_m0 46 rfl) rfl
theorem q62 : (Jvm.Cond.soleField "SoftSolver" "unbooked") ∈ lw_all := lw_g (lw_at lw_m0 47 rfl) rfl
theorem q63 : (Jvm.Cond.laysFinal "SoftSolver" "SoftSolver" "involved" "[Z") ∈ lw_all := lw_g (lw_at lw_m0 48 rfl) rfl
theorem q64 : (Jvm.Cond.soleField "SoftSolver" "involved") ∈ lw_all := lw_g (lw_at lw_m0 49 rfl) rfl
theorem q65 : (Jvm.Cond.superclass "SoftSolver" "java/lang/Object") ∈ lw_all := lw_g (lw_at lw_m0 50 rfl) rfl
theorem q69 : (Jvm.Cond.instanceMethod ({ cls := "SoftSolver", name := "hard", desc := "(I)I" } : Jvm.MethodName)) ∈ lw_all := lw_g (lw_at lw_m0 54 rfl) rfl
theorem q70 : (Jvm.Cond.selects "SoftSolver" ({ cls := "SoftSolver", name := "hard", desc := "(I)I" } : Jvm.MethodName) ({ cls := "SoftSolver", name := "hard", desc := "(I)I" } : Jvm.MethodName)) ∈ lw_all := lw_g (lw_at lw_m0 55 rfl) rfl
theorem q71 : (Jvm.Cond.code ({ cls := "SoftSolver", name := "hard", desc := "(I)I" } : Jvm.MethodName) prog_1_method_2_code (2 : Nat) (Option.some Jvm.ClassFile.FieldType.int)) ∈ lw_all := lw_g (lw_at lw_m0 56 rfl) rfl
theorem q72 : (Jvm.Cond.methodLink "SoftSolver" (38 : Nat) ({ cls := "SoftSolver", name := "addClause", desc := "(II)I" } : Jvm.MethodName)) ∈ lw_all := lw_g (lw_at lw_m0 57 rfl) rfl
theorem q73 : (Jvm.Cond.privateMethod ({ cls := "SoftSolver", name := "addClause", desc := "(II)I" } : Jvm.MethodName)) ∈ lw_tbl := lw_at lw_m0 58 rfl
theorem q74 : (Jvm.Cond.instanceMethod ({ cls := "SoftSolver", name := "addClause", desc := "(II)I" } : Jvm.MethodName)) ∈ lw_all := lw_g (lw_at lw_m0 59 rfl) rfl
theorem q75 : (Jvm.Cond.code ({ cls := "SoftSolver", name := "addClause", desc := "(II)I" } : Jvm.MethodName) prog_1_method_11_code (3 : Nat) (Option.some Jvm.ClassFile.FieldType.int)) ∈ lw_all := lw_g (lw_at lw_m0 60 rfl) rfl
theorem q76 : (Jvm.Cond.constant "SoftSolver" (62 : Nat) (65535 : Int32)) ∈ lw_all := lw_g (lw_at lw_m0 61 rfl) rfl
theorem q78 : (Jvm.Cond.instanceMethod ({ cls := "SoftSolver", name := "soft", desc := "(II)I" } : Jvm.MethodName)) ∈ lw_all := lw_g (lw_at lw_m0 63 rfl) rfl
theorem q79 : (Jvm.Cond.selects "SoftSolver" ({ cls := "SoftSolver", name := "soft", desc := "(II)I" } : Jvm.MethodName) ({ cls := "SoftSolver", name := "soft", desc := "(II)I" } : Jvm.MethodName)) ∈ lw_all := lw_g (lw_at lw_m0 64 rfl) rfl
theorem q80 : (Jvm.Cond.code ({ cls := "SoftSolver", name := "soft", desc := "(II)I" } : Jvm.MethodName) prog_1_method_3_code (3 : Nat) (Option.some Jvm.ClassFile.FieldType.int)) ∈ lw_all := lw_g (lw_at lw_m0 65 rfl) rfl
theorem q82 : (Jvm.Cond.instanceMethod ({ cls := "SoftSolver", name := "drop", desc := "(I)I" } : Jvm.MethodName)) ∈ lw_all := lw_g (lw_at lw_m0 67 rfl) rfl
theorem q83 : (Jvm.Cond.selects "SoftSolver" ({ cls := "SoftSolver", name := "drop", desc := "(I)I" } : Jvm.MethodName) ({ cls := "SoftSolver", name := "drop", desc := "(I)I" } : Jvm.MethodName)) ∈ lw_all := lw_g (lw_at lw_m0 68 rfl) rfl
theorem q84 : (Jvm.Cond.code ({ cls := "SoftSolver", name := "drop", desc := "(I)I" } : Jvm.MethodName) prog_1_method_4_code (3 : Nat) (Option.some Jvm.ClassFile.FieldType.int)) ∈ lw_all := lw_g (lw_at lw_m0 69 rfl) rfl
theorem q86 : (Jvm.Cond.instanceMethod ({ cls := "SoftSolver", name := "possible", desc := "()I" } : Jvm.MethodName)) ∈ lw_all := lw_g (lw_at lw_m0 71 rfl) rfl
theorem q87 : (Jvm.Cond.selects "SoftSolver" ({ cls := "SoftSolver", name := "possible", desc := "()I" } : Jvm.MethodName) ({ cls := "SoftSolver", name := "possible", desc := "()I" } : Jvm.MethodName)) ∈ lw_all := lw_g (lw_at lw_m0 72 rfl) rfl
theorem q88 : (Jvm.Cond.code ({ cls := "SoftSolver", name := "possible", desc := "()I" } : Jvm.MethodName) prog_1_method_5_code (1 : Nat) (Option.some Jvm.ClassFile.FieldType.int)) ∈ lw_all := lw_g (lw_at lw_m0 73 rfl) rfl
theorem q89 : (Jvm.Cond.methodLink "SoftSolver" (46 : Nat) ({ cls := "SoftSolver", name := "freeAll", desc := "()V" } : Jvm.MethodName)) ∈ lw_all := lw_g (lw_at lw_m0 74 rfl) rfl
theorem q90 : (Jvm.Cond.privateMethod ({ cls := "SoftSolver", name := "freeAll", desc := "()V" } : Jvm.MethodName)) ∈ lw_tbl := lw_at lw_m0 75 rfl
theorem q91 : (Jvm.Cond.instanceMethod ({ cls := "SoftSolver", name := "freeAll", desc := "()V" } : Jvm.MethodName)) ∈ lw_all := lw_g (lw_at lw_m0 76 rfl) rfl
theorem q92 : (Jvm.Cond.code ({ cls := "SoftSolver", name := "freeAll", desc := "()V" } : Jvm.MethodName) prog_1_method_13_code (2 : Nat) (Option.none : Option Jvm.ClassFile.FieldType)) ∈ lw_all := lw_g (lw_at lw_m0 77 rfl) rfl
theorem q93 : (Jvm.Cond.methodLink "SoftSolver" (49 : Nat) ({ cls := "SoftSolver", name := "search", desc := "()V" } : Jvm.MethodName)) ∈ lw_all := lw_g (lw_at lw_m0 78 rfl) rfl
theorem q94 : (Jvm.Cond.privateMethod ({ cls := "SoftSolver", name := "search", desc := "()V" } : Jvm.MethodName)) ∈ lw_tbl := lw_at lw_m0 79 rfl
theorem q95 : (Jvm.Cond.instanceMethod ({ cls := "SoftSolver", name := "search", desc := "()V" } : Jvm.MethodName)) ∈ lw_all := lw_g (lw_at lw_m0 80 rfl) rfl
theorem q96 : (Jvm.Cond.code ({ cls := "SoftSolver", name := "search", desc := "()V" } : Jvm.MethodName) prog_1_method_14_code (3 : Nat) (Option.none : Option Jvm.ClassFile.FieldType)) ∈ lw_all := lw_g (lw_at lw_m0 81 rfl) rfl
theorem q97 : (Jvm.Cond.methodLink "SoftSolver" (63 : Nat) ({ cls := "SoftSolver", name := "takeLeaf", desc := "()I" } : Jvm.MethodName)) ∈ lw_all := lw_g (lw_at lw_m0 82 rfl) rfl
theorem q98 : (Jvm.Cond.privateMethod ({ cls := "SoftSolver", name := "takeLeaf", desc := "()I" } : Jvm.MethodName)) ∈ lw_tbl := lw_at lw_m0 83 rfl
theorem q99 : (Jvm.Cond.instanceMethod ({ cls := "SoftSolver", name := "takeLeaf", desc := "()I" } : Jvm.MethodName)) ∈ lw_all := lw_g (lw_at lw_m0 84 rfl) rfl
theorem q100 : (Jvm.Cond.code ({ cls := "SoftSolver", name := "takeLeaf", desc := "()I" } : Jvm.MethodName) prog_1_method_15_code (2 : Nat) (Option.some Jvm.ClassFile.FieldType.int)) ∈ lw_all := lw_g (lw_at lw_m0 85 rfl) rfl
theorem q101 : (Jvm.Cond.methodLink "SoftSolver" (75 : Nat) ({ cls := "SoftSolver", name := "lossSoFar", desc := "()I" } : Jvm.MethodName)) ∈ lw_all := lw_g (lw_at lw_m0 86 rfl) rfl
theorem q102 : (Jvm.Cond.privateMethod ({ cls := "SoftSolver", name := "lossSoFar", desc := "()I" } : Jvm.MethodName)) ∈ lw_tbl := lw_at lw_m0 87 rfl
theorem q103 : (Jvm.Cond.instanceMethod ({ cls := "SoftSolver", name := "lossSoFar", desc := "()I" } : Jvm.MethodName)) ∈ lw_all := lw_g (lw_at lw_m0 88 rfl) rfl
theorem q104 : (Jvm.Cond.code ({ cls := "SoftSolver", name := "lossSoFar", desc := "()I" } : Jvm.MethodName) prog_1_method_18_code (3 : Nat) (Option.some Jvm.ClassFile.FieldType.int)) ∈ lw_all := lw_g (lw_at lw_m0 89 rfl) rfl
theorem q105 : (Jvm.Cond.methodLink "SoftSolver" (78 : Nat) ({ cls := "SoftSolver", name := "openLiterals", desc := "(I[I)I" } : Jvm.MethodName)) ∈ lw_all := lw_g (lw_at lw_m0 90 rfl) rfl
theorem q106 : (Jvm.Cond.privateMethod ({ cls := "SoftSolver", name := "openLiterals", desc := "(I[I)I" } : Jvm.MethodName)) ∈ lw_tbl := lw_at lw_m0 91 rfl
theorem q107 : (Jvm.Cond.instanceMethod ({ cls := "SoftSolver", name := "openLiterals", desc := "(I[I)I" } : Jvm.MethodName)) ∈ lw_all := lw_g (lw_at lw_m0 92 rfl) rfl
theorem q108 : (Jvm.Cond.code ({ cls := "SoftSolver", name := "openLiterals", desc := "(I[I)I" } : Jvm.MethodName) prog_1_method_19_code (5 : Nat) (Option.some Jvm.ClassFile.FieldType.int)) ∈ lw_all := lw_g (lw_at lw_m0 93 rfl) rfl
theorem q109 : (Jvm.Cond.methodLink "SoftSolver" (67 : Nat) ({ cls := "SoftSolver", name := "nextValue", desc := "(I)I" } : Jvm.MethodName)) ∈ lw_all := lw_g (lw_at lw_m0 94 rfl) rfl
theorem q110 : (Jvm.Cond.privateMethod ({ cls := "SoftSolver", name := "nextValue", desc := "(I)I" } : Jvm.MethodName)) ∈ lw_tbl := lw_at lw_m0 95 rfl
theorem q111 : (Jvm.Cond.instanceMethod ({ cls := "SoftSolver", name := "nextValue", desc := "(I)I" } : Jvm.MethodName)) ∈ lw_all := lw_g (lw_at lw_m0 96 rfl) rfl
theorem q112 : (Jvm.Cond.code ({ cls := "SoftSolver", name := "nextValue", desc := "(I)I" } : Jvm.MethodName) prog_1_method_16_code (3 : Nat) (Option.some Jvm.ClassFile.FieldType.int)) ∈ lw_all := lw_g (lw_at lw_m0 97 rfl) rfl
theorem q113 : (Jvm.Cond.methodLink "SoftSolver" (71 : Nat) ({ cls := "SoftSolver", name := "worthwhile", desc := "()Z" } : Jvm.MethodName)) ∈ lw_all := lw_g (lw_at lw_m0 98 rfl) rfl
theorem q114 : (Jvm.Cond.privateMethod ({ cls := "SoftSolver", name := "worthwhile", desc := "()Z" } : Jvm.MethodName)) ∈ lw_tbl := lw_at lw_m0 99 rfl
theorem q115 : (Jvm.Cond.instanceMethod ({ cls := "SoftSolver", name := "worthwhile", desc := "()Z" } : Jvm.MethodName)) ∈ lw_all := lw_g (lw_at lw_m0 100 rfl) rfl
theorem q116 : (Jvm.Cond.code ({ cls := "SoftSolver", name := "worthwhile", desc := "()Z" } : Jvm.MethodName) prog_1_method_17_code (5 : Nat) (Option.some Jvm.ClassFile.FieldType.boolean)) ∈ lw_all := lw_g (lw_at lw_m0 101 rfl) rfl
theorem q117 : (Jvm.Cond.methodLink "SoftSolver" (82 : Nat) ({ cls := "SoftSolver", name := "unitSteps", desc := "()I" } : Jvm.MethodName)) ∈ lw_all := lw_g (lw_at lw_m0 102 rfl) rfl
theorem q118 : (Jvm.Cond.privateMethod ({ cls := "SoftSolver", name := "unitSteps", desc := "()I" } : Jvm.MethodName)) ∈ lw_tbl := lw_at lw_m0 103 rfl
theorem q119 : (Jvm.Cond.instanceMethod ({ cls := "SoftSolver", name := "unitSteps", desc := "()I" } : Jvm.MethodName)) ∈ lw_all := lw_g (lw_at lw_m0 104 rfl) rfl
theorem q120 : (Jvm.Cond.code ({ cls := "SoftSolver", name := "unitSteps", desc := "()I" } : Jvm.MethodName) prog_1_method_20_code (5 : Nat) (Option.some Jvm.ClassFile.FieldType.int)) ∈ lw_all := lw_g (lw_at lw_m0 105 rfl) rfl
theorem q121 : (Jvm.Cond.methodLink "SoftSolver" (91 : Nat) ({ cls := "SoftSolver", name := "step", desc := "(II)Z" } : Jvm.MethodName)) ∈ lw_all := lw_g (lw_at lw_m0 106 rfl) rfl
theorem q122 : (Jvm.Cond.privateMethod ({ cls := "SoftSolver", name := "step", desc := "(II)Z" } : Jvm.MethodName)) ∈ lw_tbl := lw_at lw_m0 107 rfl
theorem q123 : (Jvm.Cond.instanceMethod ({ cls := "SoftSolver", name := "step", desc := "(II)Z" } : Jvm.MethodName)) ∈ lw_all := lw_g (lw_at lw_m0 108 rfl) rfl
theorem q124 : (Jvm.Cond.code ({ cls := "SoftSolver", name := "step", desc := "(II)Z" } : Jvm.MethodName) prog_1_method_21_code (5 : Nat) (Option.some Jvm.ClassFile.FieldType.boolean)) ∈ lw_all := lw_g (lw_at lw_m0 109 rfl) rfl
theorem q125 : (Jvm.Cond.methodLink "SoftSolver" (85 : Nat) ({ cls := "SoftSolver", name := "book", desc := "(I)I" } : Jvm.MethodName)) ∈ lw_all := lw_g (lw_at lw_m0 110 rfl) rfl
theorem q126 : (Jvm.Cond.privateMethod ({ cls := "SoftSolver", name := "book", desc := "(I)I" } : Jvm.MethodName)) ∈ lw_tbl := lw_at lw_m0 111 rfl
theorem q127 : (Jvm.Cond.instanceMethod ({ cls := "SoftSolver", name := "book", desc := "(I)I" } : Jvm.MethodName)) ∈ lw_all := lw_g (lw_at lw_m0 112 rfl) rfl
theorem q128 : (Jvm.Cond.code ({ cls := "SoftSolver", name := "book", desc := "(I)I" } : Jvm.MethodName) prog_1_method_22_code (6 : Nat) (Option.some Jvm.ClassFile.FieldType.int)) ∈ lw_all := lw_g (lw_at lw_m0 113 rfl) rfl
theorem q129 : (Jvm.Cond.methodLink "SoftSolver" (94 : Nat) ({ cls := "SoftSolver", name := "variablesOf", desc := "(I)I" } : Jvm.MethodName)) ∈ lw_all := lw_g (lw_at lw_m0 114 rfl) rfl
theorem q130 : (Jvm.Cond.privateMethod ({ cls := "SoftSolver", name := "variablesOf", desc := "(I)I" } : Jvm.MethodName)) ∈ lw_tbl := lw_at lw_m0 115 rfl
theorem q131 : (Jvm.Cond.instanceMethod ({ cls := "SoftSolver", name := "variablesOf", desc := "(I)I" } : Jvm.MethodName)) ∈ lw_all := lw_g (lw_at lw_m0 116 rfl) rfl
theorem q132 : (Jvm.Cond.code ({ cls := "SoftSolver", name := "variablesOf", desc := "(I)I" } : Jvm.MethodName) prog_1_method_23_code (4 : Nat) (Option.some Jvm.ClassFile.FieldType.int)) ∈ lw_all := lw_g (lw_at lw_m0 117 rfl) rfl
theorem q134 : (Jvm.Cond.instanceMethod ({ cls := "SoftSolver", name := "loss", desc := "()I" } : Jvm.MethodName)) ∈ lw_all := lw_g (lw_at lw_m0 119 rfl) rfl
theorem q135 : (Jvm.Cond.selects "SoftSolver" ({ cls := "SoftSolver", name := "loss", desc := "()I" } : Jvm.MethodName) ({ cls := "SoftSolver", name := "loss", desc := "()I" } : Jvm.MethodName)) ∈ lw_all := lw_g (lw_at lw_m0 120 rfl) rfl
theorem q136 : (Jvm.Cond.code ({ cls := "SoftSolver", name := "loss", desc := "()I" } : Jvm.MethodName) prog_1_method_6_code (1 : Nat) (Option.some Jvm.ClassFile.FieldType.int)) ∈ lw_all := lw_g (lw_at lw_m0 121 rfl) rfl
theorem q138 : (Jvm.Cond.instanceMethod ({ cls := "SoftSolver", name := "best", desc := "()I" } : Jvm.MethodName)) ∈ lw_all := lw_g (lw_at lw_m0 123 rfl) rfl
theorem q139 : (Jvm.Cond.selects "SoftSolver" ({ cls := "SoftSolver", name := "best", desc := "()I" } : Jvm.MethodName) ({ cls := "SoftSolver", name := "best", desc := "()I" } : Jvm.MethodName)) ∈ lw_all := lw_g (lw_at lw_m0 124 rfl) rfl
theorem q140 : (Jvm.Cond.code ({ cls := "SoftSolver", name := "best", desc := "()I" } : Jvm.MethodName) prog_1_method_7_code (1 : Nat) (Option.some Jvm.ClassFile.FieldType.int)) ∈ lw_all := lw_g (lw_at lw_m0 125 rfl) rfl
theorem q142 : (Jvm.Cond.instanceMethod ({ cls := "SoftSolver", name := "lossWith", desc := "(I)I" } : Jvm.MethodName)) ∈ lw_all := lw_g (lw_at lw_m0 127 rfl) rfl
theorem q143 : (Jvm.Cond.selects "SoftSolver" ({ cls := "SoftSolver", name := "lossWith", desc := "(I)I" } : Jvm.MethodName) ({ cls := "SoftSolver", name := "lossWith", desc := "(I)I" } : Jvm.MethodName)) ∈ lw_all := lw_g (lw_at lw_m0 128 rfl) rfl
theorem q144 : (Jvm.Cond.code ({ cls := "SoftSolver", name := "lossWith", desc := "(I)I" } : Jvm.MethodName) prog_1_method_8_code (2 : Nat) (Option.some Jvm.ClassFile.FieldType.int)) ∈ lw_all := lw_g (lw_at lw_m0 129 rfl) rfl
theorem q146 : (Jvm.Cond.instanceMethod ({ cls := "SoftSolver", name := "lossAgainst", desc := "(I)I" } : Jvm.MethodName)) ∈ lw_all := lw_g (lw_at lw_m0 131 rfl) rfl
theorem q147 : (Jvm.Cond.selects "SoftSolver" ({ cls := "SoftSolver", name := "lossAgainst", desc := "(I)I" } : Jvm.MethodName) ({ cls := "SoftSolver", name := "lossAgainst", desc := "(I)I" } : Jvm.MethodName)) ∈ lw_all := lw_g (lw_at lw_m0 132 rfl) rfl
theorem q148 : (Jvm.Cond.code ({ cls := "SoftSolver", name := "lossAgainst", desc := "(I)I" } : Jvm.MethodName) prog_1_method_9_code (5 : Nat) (Option.some Jvm.ClassFile.FieldType.int)) ∈ lw_all := lw_g (lw_at lw_m0 133 rfl) rfl
theorem q150 : (Jvm.Cond.instanceMethod ({ cls := "SoftSolver", name := "kept", desc := "()I" } : Jvm.MethodName)) ∈ lw_all := lw_g (lw_at lw_m0 135 rfl) rfl
theorem q151 : (Jvm.Cond.selects "SoftSolver" ({ cls := "SoftSolver", name := "kept", desc := "()I" } : Jvm.MethodName) ({ cls := "SoftSolver", name := "kept", desc := "()I" } : Jvm.MethodName)) ∈ lw_all := lw_g (lw_at lw_m0 136 rfl) rfl
theorem q152 : (Jvm.Cond.code ({ cls := "SoftSolver", name := "kept", desc := "()I" } : Jvm.MethodName) prog_1_method_10_code (3 : Nat) (Option.some Jvm.ClassFile.FieldType.int)) ∈ lw_all := lw_g (lw_at lw_m0 137 rfl) rfl
theorem q153 : (Jvm.Cond.methodLink "SoftSolver" (58 : Nat) ({ cls := "SoftSolver", name := "holdsFor", desc := "(II)Z" } : Jvm.MethodName)) ∈ lw_all := lw_g (lw_at lw_m0 138 rfl) rfl
theorem q154 : (Jvm.Cond.privateMethod ({ cls := "SoftSolver", name := "holdsFor", desc := "(II)Z" } : Jvm.MethodName)) ∈ lw_tbl := lw_at lw_m0 139 rfl
theorem q155 : (Jvm.Cond.instanceMethod ({ cls := "SoftSolver", name := "holdsFor", desc := "(II)Z" } : Jvm.MethodName)) ∈ lw_all := lw_g (lw_at lw_m0 140 rfl) rfl
theorem q156 : (Jvm.Cond.code ({ cls := "SoftSolver", name := "holdsFor", desc := "(II)Z" } : Jvm.MethodName) prog_1_method_12_code (5 : Nat) (Option.some Jvm.ClassFile.FieldType.boolean)) ∈ lw_all := lw_g (lw_at lw_m0 141 rfl) rfl
theorem in_X0 : ∀ w ∈ wsX00, w ∈ lw_all := lw_in wsX00 [39, 41, 43, 45, 47, 49, 51, 53, 55, 57, 59, 61, 63] (by decide +kernel) (by decide +kernel)
/-! SoftSolverModel -/
def RX1 : String := "SoftSolverModel"
def TX1 : u_T := fun k => match k with
  | 0 => ("SoftSolverModel", "held", "I", false)
  | 1 => ("SoftSolverModel", "clauses", "[I", true)
  | _ => ("SoftSolverModel", "weights", "[I", true)
def tyX1 : Nat → FieldType := fun k => match k with
  | 0 => .int
  | 1 => .array .int
  | _ => .array .int
abbrev wsX10 : List Cond := u_ws RX1 TX1 3
theorem nmX1 : ∀ a, a < 3 → ∀ b, b < 3 → a ≠ b → (TX1 a).2.1 ≠ (TX1 b).2.1 := by decide +kernel
theorem tyX1_ok : ∀ k, k < 3 → parseFieldDescriptor (TX1 k).2.2.1 = some (tyX1 k) := by decide +kernel
abbrev cX1_init : ByteArray := prog_3_method_1_code
def yX1_init : MethodName := ⟨RX1, "<init>", "()V"⟩
abbrev cX1_hard : ByteArray := prog_3_method_3_code
def yX1_hard : MethodName := ⟨RX1, "hard", "(I)I"⟩
abbrev cX1_add : ByteArray := prog_3_method_2_code
def yX1_add : MethodName := ⟨RX1, "add", "(II)I"⟩
abbrev cX1_soft : ByteArray := prog_3_method_4_code
def yX1_soft : MethodName := ⟨RX1, "soft", "(II)I"⟩
abbrev cX1_drop : ByteArray := prog_3_method_5_code
def yX1_drop : MethodName := ⟨RX1, "drop", "(I)I"⟩
abbrev cX1_possible : ByteArray := prog_3_method_9_code
def yX1_possible : MethodName := ⟨RX1, "possible", "()I"⟩
abbrev cX1_loss : ByteArray := prog_3_method_11_code
def yX1_loss : MethodName := ⟨RX1, "loss", "()I"⟩
abbrev cX1_lossOf : ByteArray := prog_3_method_8_code
def yX1_lossOf : MethodName := ⟨RX1, "lossOf", "(I)I"⟩
abbrev cX1_holds : ByteArray := prog_3_method_7_code
def yX1_holds : MethodName := ⟨RX1, "holds", "(II)Z"⟩
abbrev cX1_so : ByteArray := prog_3_method_6_code
def yX1_so : MethodName := ⟨RX1, "so", "(II)Z"⟩
abbrev cX1_lesser : ByteArray := prog_3_method_10_code
def yX1_lesser : MethodName := ⟨RX1, "lesser", "(II)I"⟩
abbrev cX1_best : ByteArray := prog_3_method_12_code
def yX1_best : MethodName := ⟨RX1, "best", "()I"⟩
abbrev cX1_lossWith : ByteArray := prog_3_method_13_code
def yX1_lossWith : MethodName := ⟨RX1, "lossWith", "(I)I"⟩
abbrev cX1_lossAgainst : ByteArray := prog_3_method_14_code
def yX1_lossAgainst : MethodName := ⟨RX1, "lossAgainst", "(I)I"⟩
abbrev cX1_kept : ByteArray := prog_3_method_15_code
def yX1_kept : MethodName := ⟨RX1, "kept", "()I"⟩
theorem q17 : (Jvm.Cond.initialized "SoftSolverModel") ∈ lw_all := lw_g (lw_at lw_m0 2 rfl) rfl
theorem q158 : (Jvm.Cond.instantiable "SoftSolverModel" (3 : Nat)) ∈ lw_all := lw_g (lw_at lw_m0 143 rfl) rfl
theorem q160 : (Jvm.Cond.instanceMethod ({ cls := "SoftSolverModel", name := "<init>", desc := "()V" } : Jvm.MethodName)) ∈ lw_all := lw_g (lw_at lw_m0 145 rfl) rfl
theorem q161 : (Jvm.Cond.code ({ cls := "SoftSolverModel", name := "<init>", desc := "()V" } : Jvm.MethodName) prog_3_method_1_code (1 : Nat) (Option.none : Option Jvm.ClassFile.FieldType)) ∈ lw_all := lw_g (lw_at lw_m0 146 rfl) rfl
theorem q162 : (Jvm.Cond.methodLink "SoftSolverModel" (1 : Nat) ({ cls := "java/lang/Object", name := "<init>", desc := "()V" } : Jvm.MethodName)) ∈ lw_all := lw_g (lw_at lw_m0 147 rfl) rfl
theorem q163 : (Jvm.Cond.fieldLink "SoftSolverModel" (16 : Nat) "SoftSolverModel" "held" "I") ∈ lw_all := lw_g (lw_at lw_m0 148 rfl) rfl
theorem q164 : (Jvm.Cond.fieldLink "SoftSolverModel" (7 : Nat) "SoftSolverModel" "clauses" "[I") ∈ lw_all := lw_g (lw_at lw_m0 149 rfl) rfl
theorem q165 : (Jvm.Cond.fieldLink "SoftSolverModel" (13 : Nat) "SoftSolverModel" "weights" "[I") ∈ lw_all := lw_g (lw_at lw_m0 150 rfl) rfl
theorem q166 : (Jvm.Cond.lays "SoftSolverModel" "SoftSolverModel" "held" "I") ∈ lw_all := lw_g (lw_at lw_m0 151 rfl) rfl
theorem q167 : (Jvm.Cond.soleField "SoftSolverModel" "held") ∈ lw_all := lw_g (lw_at lw_m0 152 rfl) rfl
theorem q168 : (Jvm.Cond.laysFinal "SoftSolverModel" "SoftSolverModel" "clauses" "[I") ∈ lw_all := lw_g (lw_at lw_m0 153 rfl) rfl
theorem q169 : (Jvm.Cond.soleField "SoftSolverModel" "clauses") ∈ lw_all := lw_g (lw_at lw_m0 154 rfl) rfl
theorem q170 : (Jvm.Cond.laysFinal "SoftSolverModel" "SoftSolverModel" "weights" "[I") ∈ lw_all := lw_g (lw_at lw_m0 155 rfl) rfl
theorem q171 : (Jvm.Cond.soleField "SoftSolverModel" "weights") ∈ lw_all := lw_g (lw_at lw_m0 156 rfl) rfl
theorem q172 : (Jvm.Cond.superclass "SoftSolverModel" "java/lang/Object") ∈ lw_all := lw_g (lw_at lw_m0 157 rfl) rfl
theorem q174 : (Jvm.Cond.instanceMethod ({ cls := "SoftSolverModel", name := "hard", desc := "(I)I" } : Jvm.MethodName)) ∈ lw_all := lw_g (lw_at lw_m0 159 rfl) rfl
theorem q175 : (Jvm.Cond.selects "SoftSolverModel" ({ cls := "SoftSolverModel", name := "hard", desc := "(I)I" } : Jvm.MethodName) ({ cls := "SoftSolverModel", name := "hard", desc := "(I)I" } : Jvm.MethodName)) ∈ lw_all := lw_g (lw_at lw_m0 160 rfl) rfl
theorem q176 : (Jvm.Cond.code ({ cls := "SoftSolverModel", name := "hard", desc := "(I)I" } : Jvm.MethodName) prog_3_method_3_code (2 : Nat) (Option.some Jvm.ClassFile.FieldType.int)) ∈ lw_all := lw_g (lw_at lw_m0 161 rfl) rfl
theorem q177 : (Jvm.Cond.methodLink "SoftSolverModel" (21 : Nat) ({ cls := "SoftSolverModel", name := "add", desc := "(II)I" } : Jvm.MethodName)) ∈ lw_all := lw_g (lw_at lw_m0 162 rfl) rfl
theorem q178 : (Jvm.Cond.privateMethod ({ cls := "SoftSolverModel", name := "add", desc := "(II)I" } : Jvm.MethodName)) ∈ lw_tbl := lw_at lw_m0 163 rfl
theorem q179 : (Jvm.Cond.instanceMethod ({ cls := "SoftSolverModel", name := "add", desc := "(II)I" } : Jvm.MethodName)) ∈ lw_all := lw_g (lw_at lw_m0 164 rfl) rfl
theorem q180 : (Jvm.Cond.code ({ cls := "SoftSolverModel", name := "add", desc := "(II)I" } : Jvm.MethodName) prog_3_method_2_code (3 : Nat) (Option.some Jvm.ClassFile.FieldType.int)) ∈ lw_all := lw_g (lw_at lw_m0 165 rfl) rfl
theorem q181 : (Jvm.Cond.constant "SoftSolverModel" (20 : Nat) (65535 : Int32)) ∈ lw_all := lw_g (lw_at lw_m0 166 rfl) rfl
theorem q183 : (Jvm.Cond.instanceMethod ({ cls := "SoftSolverModel", name := "soft", desc := "(II)I" } : Jvm.MethodName)) ∈ lw_all := lw_g (lw_at lw_m0 168 rfl) rfl
theorem q184 : (Jvm.Cond.selects "SoftSolverModel" ({ cls := "SoftSolverModel", name := "soft", desc := "(II)I" } : Jvm.MethodName) ({ cls := "SoftSolverModel", name := "soft", desc := "(II)I" } : Jvm.MethodName)) ∈ lw_all := lw_g (lw_at lw_m0 169 rfl) rfl
theorem q185 : (Jvm.Cond.code ({ cls := "SoftSolverModel", name := "soft", desc := "(II)I" } : Jvm.MethodName) prog_3_method_4_code (3 : Nat) (Option.some Jvm.ClassFile.FieldType.int)) ∈ lw_all := lw_g (lw_at lw_m0 170 rfl) rfl
theorem q187 : (Jvm.Cond.instanceMethod ({ cls := "SoftSolverModel", name := "drop", desc := "(I)I" } : Jvm.MethodName)) ∈ lw_all := lw_g (lw_at lw_m0 172 rfl) rfl
theorem q188 : (Jvm.Cond.selects "SoftSolverModel" ({ cls := "SoftSolverModel", name := "drop", desc := "(I)I" } : Jvm.MethodName) ({ cls := "SoftSolverModel", name := "drop", desc := "(I)I" } : Jvm.MethodName)) ∈ lw_all := lw_g (lw_at lw_m0 173 rfl) rfl
theorem q189 : (Jvm.Cond.code ({ cls := "SoftSolverModel", name := "drop", desc := "(I)I" } : Jvm.MethodName) prog_3_method_5_code (3 : Nat) (Option.some Jvm.ClassFile.FieldType.int)) ∈ lw_all := lw_g (lw_at lw_m0 174 rfl) rfl
theorem q191 : (Jvm.Cond.instanceMethod ({ cls := "SoftSolverModel", name := "possible", desc := "()I" } : Jvm.MethodName)) ∈ lw_all := lw_g (lw_at lw_m0 176 rfl) rfl
theorem q192 : (Jvm.Cond.selects "SoftSolverModel" ({ cls := "SoftSolverModel", name := "possible", desc := "()I" } : Jvm.MethodName) ({ cls := "SoftSolverModel", name := "possible", desc := "()I" } : Jvm.MethodName)) ∈ lw_all := lw_g (lw_at lw_m0 177 rfl) rfl
theorem q193 : (Jvm.Cond.code ({ cls := "SoftSolverModel", name := "possible", desc := "()I" } : Jvm.MethodName) prog_3_method_9_code (1 : Nat) (Option.some Jvm.ClassFile.FieldType.int)) ∈ lw_all := lw_g (lw_at lw_m0 178 rfl) rfl
theorem q194 : (Jvm.Cond.methodLink "SoftSolverModel" (32 : Nat) ({ cls := "SoftSolverModel", name := "loss", desc := "()I" } : Jvm.MethodName)) ∈ lw_all := lw_g (lw_at lw_m0 179 rfl) rfl
theorem q195 : (Jvm.Cond.instanceMethod ({ cls := "SoftSolverModel", name := "loss", desc := "()I" } : Jvm.MethodName)) ∈ lw_all := lw_g (lw_at lw_m0 180 rfl) rfl
theorem q196 : (Jvm.Cond.selects "SoftSolverModel" ({ cls := "SoftSolverModel", name := "loss", desc := "()I" } : Jvm.MethodName) ({ cls := "SoftSolverModel", name := "loss", desc := "()I" } : Jvm.MethodName)) ∈ lw_all := lw_g (lw_at lw_m0 181 rfl) rfl
theorem q197 : (Jvm.Cond.code ({ cls := "SoftSolverModel", name := "loss", desc := "()I" } : Jvm.MethodName) prog_3_method_11_code (4 : Nat) (Option.some Jvm.ClassFile.FieldType.int)) ∈ lw_all := lw_g (lw_at lw_m0 182 rfl) rfl
theorem q198 : (Jvm.Cond.methodLink "SoftSolverModel" (36 : Nat) ({ cls := "SoftSolverModel", name := "lossOf", desc := "(I)I" } : Jvm.MethodName)) ∈ lw_all := lw_g (lw_at lw_m0 183 rfl) rfl
theorem q199 : (Jvm.Cond.privateMethod ({ cls := "SoftSolverModel", name := "lossOf", desc := "(I)I" } : Jvm.MethodName)) ∈ lw_tbl := lw_at lw_m0 184 rfl
theorem q200 : (Jvm.Cond.instanceMethod ({ cls := "SoftSolverModel", name := "lossOf", desc := "(I)I" } : Jvm.MethodName)) ∈ lw_all := lw_g (lw_at lw_m0 185 rfl) rfl
theorem q201 : (Jvm.Cond.code ({ cls := "SoftSolverModel", name := "lossOf", desc := "(I)I" } : Jvm.MethodName) prog_3_method_8_code (4 : Nat) (Option.some Jvm.ClassFile.FieldType.int)) ∈ lw_all := lw_g (lw_at lw_m0 186 rfl) rfl
theorem q202 : (Jvm.Cond.methodLink "SoftSolverModel" (29 : Nat) ({ cls := "SoftSolverModel", name := "holds", desc := "(II)Z" } : Jvm.MethodName)) ∈ lw_all := lw_g (lw_at lw_m0 187 rfl) rfl
theorem q203 : (Jvm.Cond.static ({ cls := "SoftSolverModel", name := "holds", desc := "(II)Z" } : Jvm.MethodName)) ∈ lw_all := lw_g (lw_at lw_m0 188 rfl) rfl
theorem q204 : (Jvm.Cond.code ({ cls := "SoftSolverModel", name := "holds", desc := "(II)Z" } : Jvm.MethodName) prog_3_method_7_code (3 : Nat) (Option.some Jvm.ClassFile.FieldType.boolean)) ∈ lw_all := lw_g (lw_at lw_m0 189 rfl) rfl
theorem q205 : (Jvm.Cond.methodLink "SoftSolverModel" (25 : Nat) ({ cls := "SoftSolverModel", name := "so", desc := "(II)Z" } : Jvm.MethodName)) ∈ lw_all := lw_g (lw_at lw_m0 190 rfl) rfl
theorem q206 : (Jvm.Cond.static ({ cls := "SoftSolverModel", name := "so", desc := "(II)Z" } : Jvm.MethodName)) ∈ lw_all := lw_g (lw_at lw_m0 191 rfl) rfl
theorem q207 : (Jvm.Cond.code ({ cls := "SoftSolverModel", name := "so", desc := "(II)Z" } : Jvm.MethodName) prog_3_method_6_code (2 : Nat) (Option.some Jvm.ClassFile.FieldType.boolean)) ∈ lw_all := lw_g (lw_at lw_m0 192 rfl) rfl
theorem q208 : (Jvm.Cond.methodLink "SoftSolverModel" (40 : Nat) ({ cls := "SoftSolverModel", name := "lesser", desc := "(II)I" } : Jvm.MethodName)) ∈ lw_all := lw_g (lw_at lw_m0 193 rfl) rfl
theorem q209 : (Jvm.Cond.static ({ cls := "SoftSolverModel", name := "lesser", desc := "(II)I" } : Jvm.MethodName)) ∈ lw_all := lw_g (lw_at lw_m0 194 rfl) rfl
theorem q210 : (Jvm.Cond.code ({ cls := "SoftSolverModel", name := "lesser", desc := "(II)I" } : Jvm.MethodName) prog_3_method_10_code (2 : Nat) (Option.some Jvm.ClassFile.FieldType.int)) ∈ lw_all := lw_g (lw_at lw_m0 195 rfl) rfl
theorem q213 : (Jvm.Cond.instanceMethod ({ cls := "SoftSolverModel", name := "best", desc := "()I" } : Jvm.MethodName)) ∈ lw_all := lw_g (lw_at lw_m0 198 rfl) rfl
theorem q214 : (Jvm.Cond.selects "SoftSolverModel" ({ cls := "SoftSolverModel", name := "best", desc := "()I" } : Jvm.MethodName) ({ cls := "SoftSolverModel", name := "best", desc := "()I" } : Jvm.MethodName)) ∈ lw_all := lw_g (lw_at lw_m0 199 rfl) rfl
theorem q215 : (Jvm.Cond.code ({ cls := "SoftSolverModel", name := "best", desc := "()I" } : Jvm.MethodName) prog_3_method_12_code (3 : Nat) (Option.some Jvm.ClassFile.FieldType.int)) ∈ lw_all := lw_g (lw_at lw_m0 200 rfl) rfl
theorem q217 : (Jvm.Cond.instanceMethod ({ cls := "SoftSolverModel", name := "lossWith", desc := "(I)I" } : Jvm.MethodName)) ∈ lw_all := lw_g (lw_at lw_m0 202 rfl) rfl
theorem q218 : (Jvm.Cond.selects "SoftSolverModel" ({ cls := "SoftSolverModel", name := "lossWith", desc := "(I)I" } : Jvm.MethodName) ({ cls := "SoftSolverModel", name := "lossWith", desc := "(I)I" } : Jvm.MethodName)) ∈ lw_all := lw_g (lw_at lw_m0 203 rfl) rfl
theorem q219 : (Jvm.Cond.code ({ cls := "SoftSolverModel", name := "lossWith", desc := "(I)I" } : Jvm.MethodName) prog_3_method_13_code (5 : Nat) (Option.some Jvm.ClassFile.FieldType.int)) ∈ lw_all := lw_g (lw_at lw_m0 204 rfl) rfl
theorem q221 : (Jvm.Cond.instanceMethod ({ cls := "SoftSolverModel", name := "lossAgainst", desc := "(I)I" } : Jvm.MethodName)) ∈ lw_all := lw_g (lw_at lw_m0 206 rfl) rfl
theorem q222 : (Jvm.Cond.selects "SoftSolverModel" ({ cls := "SoftSolverModel", name := "lossAgainst", desc := "(I)I" } : Jvm.MethodName) ({ cls := "SoftSolverModel", name := "lossAgainst", desc := "(I)I" } : Jvm.MethodName)) ∈ lw_all := lw_g (lw_at lw_m0 207 rfl) rfl
theorem q223 : (Jvm.Cond.code ({ cls := "SoftSolverModel", name := "lossAgainst", desc := "(I)I" } : Jvm.MethodName) prog_3_method_14_code (5 : Nat) (Option.some Jvm.ClassFile.FieldType.int)) ∈ lw_all := lw_g (lw_at lw_m0 208 rfl) rfl
theorem q225 : (Jvm.Cond.instanceMethod ({ cls := "SoftSolverModel", name := "kept", desc := "()I" } : Jvm.MethodName)) ∈ lw_all := lw_g (lw_at lw_m0 210 rfl) rfl
theorem q226 : (Jvm.Cond.selects "SoftSolverModel" ({ cls := "SoftSolverModel", name := "kept", desc := "()I" } : Jvm.MethodName) ({ cls := "SoftSolverModel", name := "kept", desc := "()I" } : Jvm.MethodName)) ∈ lw_all := lw_g (lw_at lw_m0 211 rfl) rfl
theorem q227 : (Jvm.Cond.code ({ cls := "SoftSolverModel", name := "kept", desc := "()I" } : Jvm.MethodName) prog_3_method_15_code (4 : Nat) (Option.some Jvm.ClassFile.FieldType.int)) ∈ lw_all := lw_g (lw_at lw_m0 212 rfl) rfl
theorem q228 : (Jvm.Cond.methodLink "SoftSolverModel" (43 : Nat) ({ cls := "SoftSolverModel", name := "best", desc := "()I" } : Jvm.MethodName)) ∈ lw_all := lw_g (lw_at lw_m0 213 rfl) rfl
theorem in_X1 : ∀ w ∈ wsX10, w ∈ lw_all := lw_in wsX10 [166, 168, 170] (by decide +kernel) (by decide +kernel)
/-! the law's own entry -/
abbrev cL_law : ByteArray := code
theorem q15 : (Jvm.Cond.initialized "SoftSolverLaw") ∈ lw_all := lw_g (lw_at lw_m0 0 rfl) rfl
theorem q18 : (Jvm.Cond.classLink "SoftSolverLaw" (7 : Nat) "SoftSolver") ∈ lw_all := lw_g (lw_at lw_m0 3 rfl) rfl
theorem q20 : (Jvm.Cond.methodLink "SoftSolverLaw" (9 : Nat) ({ cls := "SoftSolver", name := "<init>", desc := "()V" } : Jvm.MethodName)) ∈ lw_all := lw_g (lw_at lw_m0 5 rfl) rfl
theorem q68 : (Jvm.Cond.methodLink "SoftSolverLaw" (13 : Nat) ({ cls := "SoftSolver", name := "hard", desc := "(I)I" } : Jvm.MethodName)) ∈ lw_all := lw_g (lw_at lw_m0 53 rfl) rfl
theorem q77 : (Jvm.Cond.methodLink "SoftSolverLaw" (18 : Nat) ({ cls := "SoftSolver", name := "soft", desc := "(II)I" } : Jvm.MethodName)) ∈ lw_all := lw_g (lw_at lw_m0 62 rfl) rfl
theorem q81 : (Jvm.Cond.methodLink "SoftSolverLaw" (23 : Nat) ({ cls := "SoftSolver", name := "drop", desc := "(I)I" } : Jvm.MethodName)) ∈ lw_all := lw_g (lw_at lw_m0 66 rfl) rfl
theorem q85 : (Jvm.Cond.methodLink "SoftSolverLaw" (27 : Nat) ({ cls := "SoftSolver", name := "possible", desc := "()I" } : Jvm.MethodName)) ∈ lw_all := lw_g (lw_at lw_m0 70 rfl) rfl
theorem q133 : (Jvm.Cond.methodLink "SoftSolverLaw" (32 : Nat) ({ cls := "SoftSolver", name := "loss", desc := "()I" } : Jvm.MethodName)) ∈ lw_all := lw_g (lw_at lw_m0 118 rfl) rfl
theorem q137 : (Jvm.Cond.methodLink "SoftSolverLaw" (36 : Nat) ({ cls := "SoftSolver", name := "best", desc := "()I" } : Jvm.MethodName)) ∈ lw_all := lw_g (lw_at lw_m0 122 rfl) rfl
theorem q141 : (Jvm.Cond.methodLink "SoftSolverLaw" (40 : Nat) ({ cls := "SoftSolver", name := "lossWith", desc := "(I)I" } : Jvm.MethodName)) ∈ lw_all := lw_g (lw_at lw_m0 126 rfl) rfl
theorem q145 : (Jvm.Cond.methodLink "SoftSolverLaw" (44 : Nat) ({ cls := "SoftSolver", name := "lossAgainst", desc := "(I)I" } : Jvm.MethodName)) ∈ lw_all := lw_g (lw_at lw_m0 130 rfl) rfl
theorem q149 : (Jvm.Cond.methodLink "SoftSolverLaw" (48 : Nat) ({ cls := "SoftSolver", name := "kept", desc := "()I" } : Jvm.MethodName)) ∈ lw_all := lw_g (lw_at lw_m0 134 rfl) rfl
theorem q157 : (Jvm.Cond.classLink "SoftSolverLaw" (10 : Nat) "SoftSolverModel") ∈ lw_all := lw_g (lw_at lw_m0 142 rfl) rfl
theorem q159 : (Jvm.Cond.methodLink "SoftSolverLaw" (12 : Nat) ({ cls := "SoftSolverModel", name := "<init>", desc := "()V" } : Jvm.MethodName)) ∈ lw_all := lw_g (lw_at lw_m0 144 rfl) rfl
theorem q173 : (Jvm.Cond.methodLink "SoftSolverLaw" (17 : Nat) ({ cls := "SoftSolverModel", name := "hard", desc := "(I)I" } : Jvm.MethodName)) ∈ lw_all := lw_g (lw_at lw_m0 158 rfl) rfl
theorem q182 : (Jvm.Cond.methodLink "SoftSolverLaw" (22 : Nat) ({ cls := "SoftSolverModel", name := "soft", desc := "(II)I" } : Jvm.MethodName)) ∈ lw_all := lw_g (lw_at lw_m0 167 rfl) rfl
theorem q186 : (Jvm.Cond.methodLink "SoftSolverLaw" (26 : Nat) ({ cls := "SoftSolverModel", name := "drop", desc := "(I)I" } : Jvm.MethodName)) ∈ lw_all := lw_g (lw_at lw_m0 171 rfl) rfl
theorem q190 : (Jvm.Cond.methodLink "SoftSolverLaw" (31 : Nat) ({ cls := "SoftSolverModel", name := "possible", desc := "()I" } : Jvm.MethodName)) ∈ lw_all := lw_g (lw_at lw_m0 175 rfl) rfl
theorem q211 : (Jvm.Cond.methodLink "SoftSolverLaw" (35 : Nat) ({ cls := "SoftSolverModel", name := "loss", desc := "()I" } : Jvm.MethodName)) ∈ lw_all := lw_g (lw_at lw_m0 196 rfl) rfl
theorem q212 : (Jvm.Cond.methodLink "SoftSolverLaw" (39 : Nat) ({ cls := "SoftSolverModel", name := "best", desc := "()I" } : Jvm.MethodName)) ∈ lw_all := lw_g (lw_at lw_m0 197 rfl) rfl
theorem q216 : (Jvm.Cond.methodLink "SoftSolverLaw" (43 : Nat) ({ cls := "SoftSolverModel", name := "lossWith", desc := "(I)I" } : Jvm.MethodName)) ∈ lw_all := lw_g (lw_at lw_m0 201 rfl) rfl
theorem q220 : (Jvm.Cond.methodLink "SoftSolverLaw" (47 : Nat) ({ cls := "SoftSolverModel", name := "lossAgainst", desc := "(I)I" } : Jvm.MethodName)) ∈ lw_all := lw_g (lw_at lw_m0 205 rfl) rfl
theorem q224 : (Jvm.Cond.methodLink "SoftSolverLaw" (51 : Nat) ({ cls := "SoftSolverModel", name := "kept", desc := "()I" } : Jvm.MethodName)) ∈ lw_all := lw_g (lw_at lw_m0 209 rfl) rfl
theorem q66 : (Jvm.Cond.arrayClass Jvm.ClassFile.FieldType.int) ∈ lw_all := lw_g (lw_at lw_m0 51 rfl) rfl
theorem q67 : (Jvm.Cond.arrayClass Jvm.ClassFile.FieldType.boolean) ∈ lw_all := lw_g (lw_at lw_m0 52 rfl) rfl
end
section
set_option maxRecDepth 100000
theorem dX0_init_0 : decode cX0_init 0 = .ok (.aload_n 0, 1) := by decide +kernel
theorem dX0_init_1 : decode cX0_init 1 = .ok (.invokespecial 1, 3) := by decide +kernel
theorem dX0_init_4 : decode cX0_init 4 = .ok (.aload_n 0, 1) := by decide +kernel
theorem dX0_init_5 : decode cX0_init 5 = .ok (.bipush 24, 2) := by decide +kernel
theorem dX0_init_7 : decode cX0_init 7 = .ok (.newarray .int, 2) := by decide +kernel
theorem dX0_init_9 : decode cX0_init 9 = .ok (.putfield 7, 3) := by decide +kernel
theorem dX0_init_12 : decode cX0_init 12 = .ok (.aload_n 0, 1) := by decide +kernel
theorem dX0_init_13 : decode cX0_init 13 = .ok (.bipush 24, 2) := by decide +kernel
theorem dX0_init_15 : decode cX0_init 15 = .ok (.newarray .int, 2) := by decide +kernel
theorem dX0_init_17 : decode cX0_init 17 = .ok (.putfield 13, 3) := by decide +kernel
theorem dX0_init_20 : decode cX0_init 20 = .ok (.aload_n 0, 1) := by decide +kernel
theorem dX0_init_21 : decode cX0_init 21 = .ok (.bipush 8, 2) := by decide +kernel
theorem dX0_init_23 : decode cX0_init 23 = .ok (.newarray .int, 2) := by decide +kernel
theorem dX0_init_25 : decode cX0_init 25 = .ok (.putfield 16, 3) := by decide +kernel
theorem dX0_init_28 : decode cX0_init 28 = .ok (.aload_n 0, 1) := by decide +kernel
theorem dX0_init_29 : decode cX0_init 29 = .ok (.bipush 8, 2) := by decide +kernel
theorem dX0_init_31 : decode cX0_init 31 = .ok (.newarray .int, 2) := by decide +kernel
theorem dX0_init_33 : decode cX0_init 33 = .ok (.putfield 19, 3) := by decide +kernel
theorem dX0_init_36 : decode cX0_init 36 = .ok (.aload_n 0, 1) := by decide +kernel
theorem dX0_init_37 : decode cX0_init 37 = .ok (.bipush 8, 2) := by decide +kernel
theorem dX0_init_39 : decode cX0_init 39 = .ok (.newarray .int, 2) := by decide +kernel
theorem dX0_init_41 : decode cX0_init 41 = .ok (.putfield 22, 3) := by decide +kernel
theorem dX0_init_44 : decode cX0_init 44 = .ok (.aload_n 0, 1) := by decide +kernel
theorem dX0_init_45 : decode cX0_init 45 = .ok (.bipush 8, 2) := by decide +kernel
theorem dX0_init_47 : decode cX0_init 47 = .ok (.newarray .int, 2) := by decide +kernel
theorem dX0_init_49 : decode cX0_init 49 = .ok (.putfield 25, 3) := by decide +kernel
theorem dX0_init_52 : decode cX0_init 52 = .ok (.aload_n 0, 1) := by decide +kernel
theorem dX0_init_53 : decode cX0_init 53 = .ok (.bipush 8, 2) := by decide +kernel
theorem dX0_init_55 : decode cX0_init 55 = .ok (.newarray .int, 2) := by decide +kernel
theorem dX0_init_57 : decode cX0_init 57 = .ok (.putfield 28, 3) := by decide +kernel
theorem dX0_init_60 : decode cX0_init 60 = .ok (.aload_n 0, 1) := by decide +kernel
theorem dX0_init_61 : decode cX0_init 61 = .ok (.bipush 24, 2) := by decide +kernel
theorem dX0_init_63 : decode cX0_init 63 = .ok (.newarray .int, 2) := by decide +kernel
theorem dX0_init_65 : decode cX0_init 65 = .ok (.putfield 31, 3) := by decide +kernel
theorem dX0_init_68 : decode cX0_init 68 = .ok (.aload_n 0, 1) := by decide +kernel
theorem dX0_init_69 : decode cX0_init 69 = .ok (.bipush 24, 2) := by decide +kernel
theorem dX0_init_71 : decode cX0_init 71 = .ok (.newarray .boolean, 2) := by decide +kernel
theorem dX0_init_73 : decode cX0_init 73 = .ok (.putfield 34, 3) := by decide +kernel
theorem dX0_init_76 : decode cX0_init 76 = .ok (.return_, 1) := by decide +kernel
theorem dX0_hard_0 : decode cX0_hard 0 = .ok (.aload_n 0, 1) := by decide +kernel
theorem dX0_hard_1 : decode cX0_hard 1 = .ok (.iload_n 1, 1) := by decide +kernel
theorem dX0_hard_2 : decode cX0_hard 2 = .ok (.iconst 0, 1) := by decide +kernel
theorem dX0_hard_3 : decode cX0_hard 3 = .ok (.invokevirtual 38, 3) := by decide +kernel
theorem dX0_hard_6 : decode cX0_hard 6 = .ok (.ireturn, 1) := by decide +kernel
theorem dX0_addClause_0 : decode cX0_addClause 0 = .ok (.aload_n 0, 1) := by decide +kernel
theorem dX0_addClause_1 : decode cX0_addClause 1 = .ok (.getfield 42, 3) := by decide +kernel
theorem dX0_addClause_4 : decode cX0_addClause 4 = .ok (.bipush 24, 2) := by decide +kernel
theorem dX0_addClause_6 : decode cX0_addClause 6 = .ok (.if_icmp .lt 5, 3) := by decide +kernel
theorem dX0_addClause_9 : decode cX0_addClause 9 = .ok (.iconst (-1), 1) := by decide +kernel
theorem dX0_addClause_10 : decode cX0_addClause 10 = .ok (.ireturn, 1) := by decide +kernel
theorem dX0_addClause_11 : decode cX0_addClause 11 = .ok (.aload_n 0, 1) := by decide +kernel
theorem dX0_addClause_12 : decode cX0_addClause 12 = .ok (.getfield 7, 3) := by decide +kernel
theorem dX0_addClause_15 : decode cX0_addClause 15 = .ok (.aload_n 0, 1) := by decide +kernel
theorem dX0_addClause_16 : decode cX0_addClause 16 = .ok (.getfield 42, 3) := by decide +kernel
theorem dX0_addClause_19 : decode cX0_addClause 19 = .ok (.iload_n 1, 1) := by decide +kernel
theorem dX0_addClause_20 : decode cX0_addClause 20 = .ok (.ldc 62, 2) := by decide +kernel
theorem dX0_addClause_22 : decode cX0_addClause 22 = .ok (.iand, 1) := by decide +kernel
theorem dX0_addClause_23 : decode cX0_addClause 23 = .ok (.iastore, 1) := by decide +kernel
theorem dX0_addClause_24 : decode cX0_addClause 24 = .ok (.aload_n 0, 1) := by decide +kernel
theorem dX0_addClause_25 : decode cX0_addClause 25 = .ok (.getfield 13, 3) := by decide +kernel
theorem dX0_addClause_28 : decode cX0_addClause 28 = .ok (.aload_n 0, 1) := by decide +kernel
theorem dX0_addClause_29 : decode cX0_addClause 29 = .ok (.getfield 42, 3) := by decide +kernel
theorem dX0_addClause_32 : decode cX0_addClause 32 = .ok (.iload_n 2, 1) := by decide +kernel
theorem dX0_addClause_33 : decode cX0_addClause 33 = .ok (.iastore, 1) := by decide +kernel
theorem dX0_addClause_34 : decode cX0_addClause 34 = .ok (.aload_n 0, 1) := by decide +kernel
theorem dX0_addClause_35 : decode cX0_addClause 35 = .ok (.dup, 1) := by decide +kernel
theorem dX0_addClause_36 : decode cX0_addClause 36 = .ok (.getfield 42, 3) := by decide +kernel
theorem dX0_addClause_39 : decode cX0_addClause 39 = .ok (.iconst 1, 1) := by decide +kernel
theorem dX0_addClause_40 : decode cX0_addClause 40 = .ok (.iadd, 1) := by decide +kernel
theorem dX0_addClause_41 : decode cX0_addClause 41 = .ok (.putfield 42, 3) := by decide +kernel
theorem dX0_addClause_44 : decode cX0_addClause 44 = .ok (.aload_n 0, 1) := by decide +kernel
theorem dX0_addClause_45 : decode cX0_addClause 45 = .ok (.getfield 42, 3) := by decide +kernel
theorem dX0_addClause_48 : decode cX0_addClause 48 = .ok (.ireturn, 1) := by decide +kernel
theorem dX0_soft_0 : decode cX0_soft 0 = .ok (.iload_n 2, 1) := by decide +kernel
theorem dX0_soft_1 : decode cX0_soft 1 = .ok (.iconst 1, 1) := by decide +kernel
theorem dX0_soft_2 : decode cX0_soft 2 = .ok (.if_icmp .lt 9, 3) := by decide +kernel
theorem dX0_soft_5 : decode cX0_soft 5 = .ok (.iload_n 2, 1) := by decide +kernel
theorem dX0_soft_6 : decode cX0_soft 6 = .ok (.bipush 50, 2) := by decide +kernel
theorem dX0_soft_8 : decode cX0_soft 8 = .ok (.if_icmp .le 7, 3) := by decide +kernel
theorem dX0_soft_11 : decode cX0_soft 11 = .ok (.iconst (-1), 1) := by decide +kernel
theorem dX0_soft_12 : decode cX0_soft 12 = .ok (.goto 9, 3) := by decide +kernel
theorem dX0_soft_15 : decode cX0_soft 15 = .ok (.aload_n 0, 1) := by decide +kernel
theorem dX0_soft_16 : decode cX0_soft 16 = .ok (.iload_n 1, 1) := by decide +kernel
theorem dX0_soft_17 : decode cX0_soft 17 = .ok (.iload_n 2, 1) := by decide +kernel
theorem dX0_soft_18 : decode cX0_soft 18 = .ok (.invokevirtual 38, 3) := by decide +kernel
theorem dX0_soft_21 : decode cX0_soft 21 = .ok (.ireturn, 1) := by decide +kernel
theorem dX0_drop_0 : decode cX0_drop 0 = .ok (.iload_n 1, 1) := by decide +kernel
theorem dX0_drop_1 : decode cX0_drop 1 = .ok (.ifCond .lt 11, 3) := by decide +kernel
theorem dX0_drop_4 : decode cX0_drop 4 = .ok (.iload_n 1, 1) := by decide +kernel
theorem dX0_drop_5 : decode cX0_drop 5 = .ok (.aload_n 0, 1) := by decide +kernel
theorem dX0_drop_6 : decode cX0_drop 6 = .ok (.getfield 42, 3) := by decide +kernel
theorem dX0_drop_9 : decode cX0_drop 9 = .ok (.if_icmp .lt 5, 3) := by decide +kernel
theorem dX0_drop_12 : decode cX0_drop 12 = .ok (.iconst (-1), 1) := by decide +kernel
theorem dX0_drop_13 : decode cX0_drop 13 = .ok (.ireturn, 1) := by decide +kernel
theorem dX0_drop_14 : decode cX0_drop 14 = .ok (.aload_n 0, 1) := by decide +kernel
theorem dX0_drop_15 : decode cX0_drop 15 = .ok (.dup, 1) := by decide +kernel
theorem dX0_drop_16 : decode cX0_drop 16 = .ok (.getfield 42, 3) := by decide +kernel
theorem dX0_drop_19 : decode cX0_drop 19 = .ok (.iconst 1, 1) := by decide +kernel
theorem dX0_drop_20 : decode cX0_drop 20 = .ok (.isub, 1) := by decide +kernel
theorem dX0_drop_21 : decode cX0_drop 21 = .ok (.putfield 42, 3) := by decide +kernel
theorem dX0_drop_24 : decode cX0_drop 24 = .ok (.iload_n 1, 1) := by decide +kernel
theorem dX0_drop_25 : decode cX0_drop 25 = .ok (.istore_n 2, 1) := by decide +kernel
theorem dX0_drop_26 : decode cX0_drop 26 = .ok (.iload_n 2, 1) := by decide +kernel
theorem dX0_drop_27 : decode cX0_drop 27 = .ok (.aload_n 0, 1) := by decide +kernel
theorem dX0_drop_28 : decode cX0_drop 28 = .ok (.getfield 42, 3) := by decide +kernel
theorem dX0_drop_31 : decode cX0_drop 31 = .ok (.if_icmp .ge 37, 3) := by decide +kernel
theorem dX0_drop_34 : decode cX0_drop 34 = .ok (.aload_n 0, 1) := by decide +kernel
theorem dX0_drop_35 : decode cX0_drop 35 = .ok (.getfield 7, 3) := by decide +kernel
theorem dX0_drop_38 : decode cX0_drop 38 = .ok (.iload_n 2, 1) := by decide +kernel
theorem dX0_drop_39 : decode cX0_drop 39 = .ok (.aload_n 0, 1) := by decide +kernel
theorem dX0_drop_40 : decode cX0_drop 40 = .ok (.getfield 7, 3) := by decide +kernel
theorem dX0_drop_43 : decode cX0_drop 43 = .ok (.iload_n 2, 1) := by decide +kernel
theorem dX0_drop_44 : decode cX0_drop 44 = .ok (.iconst 1, 1) := by decide +kernel
theorem dX0_drop_45 : decode cX0_drop 45 = .ok (.iadd, 1) := by decide +kernel
theorem dX0_drop_46 : decode cX0_drop 46 = .ok (.iaload, 1) := by decide +kernel
theorem dX0_drop_47 : decode cX0_drop 47 = .ok (.iastore, 1) := by decide +kernel
theorem dX0_drop_48 : decode cX0_drop 48 = .ok (.aload_n 0, 1) := by decide +kernel
theorem dX0_drop_49 : decode cX0_drop 49 = .ok (.getfield 13, 3) := by decide +kernel
theorem dX0_drop_52 : decode cX0_drop 52 = .ok (.iload_n 2, 1) := by decide +kernel
theorem dX0_drop_53 : decode cX0_drop 53 = .ok (.aload_n 0, 1) := by decide +kernel
theorem dX0_drop_54 : decode cX0_drop 54 = .ok (.getfield 13, 3) := by decide +kernel
theorem dX0_drop_57 : decode cX0_drop 57 = .ok (.iload_n 2, 1) := by decide +kernel
theorem dX0_drop_58 : decode cX0_drop 58 = .ok (.iconst 1, 1) := by decide +kernel
theorem dX0_drop_59 : decode cX0_drop 59 = .ok (.iadd, 1) := by decide +kernel
theorem dX0_drop_60 : decode cX0_drop 60 = .ok (.iaload, 1) := by decide +kernel
theorem dX0_drop_61 : decode cX0_drop 61 = .ok (.iastore, 1) := by decide +kernel
theorem dX0_drop_62 : decode cX0_drop 62 = .ok (.iinc 2 1, 3) := by decide +kernel
theorem dX0_drop_65 : decode cX0_drop 65 = .ok (.goto (-39), 3) := by decide +kernel
theorem dX0_drop_68 : decode cX0_drop 68 = .ok (.aload_n 0, 1) := by decide +kernel
theorem dX0_drop_69 : decode cX0_drop 69 = .ok (.getfield 42, 3) := by decide +kernel
theorem dX0_drop_72 : decode cX0_drop 72 = .ok (.ireturn, 1) := by decide +kernel
theorem dX0_possible_0 : decode cX0_possible 0 = .ok (.aload_n 0, 1) := by decide +kernel
theorem dX0_possible_1 : decode cX0_possible 1 = .ok (.invokevirtual 46, 3) := by decide +kernel
theorem dX0_possible_4 : decode cX0_possible 4 = .ok (.aload_n 0, 1) := by decide +kernel
theorem dX0_possible_5 : decode cX0_possible 5 = .ok (.invokevirtual 49, 3) := by decide +kernel
theorem dX0_possible_8 : decode cX0_possible 8 = .ok (.aload_n 0, 1) := by decide +kernel
theorem dX0_possible_9 : decode cX0_possible 9 = .ok (.getfield 52, 3) := by decide +kernel
theorem dX0_possible_12 : decode cX0_possible 12 = .ok (.ifCond .lt 7, 3) := by decide +kernel
theorem dX0_possible_15 : decode cX0_possible 15 = .ok (.iconst 1, 1) := by decide +kernel
theorem dX0_possible_16 : decode cX0_possible 16 = .ok (.goto 4, 3) := by decide +kernel
theorem dX0_possible_19 : decode cX0_possible 19 = .ok (.iconst 0, 1) := by decide +kernel
theorem dX0_possible_20 : decode cX0_possible 20 = .ok (.ireturn, 1) := by decide +kernel
theorem dX0_freeAll_0 : decode cX0_freeAll 0 = .ok (.iconst 0, 1) := by decide +kernel
theorem dX0_freeAll_1 : decode cX0_freeAll 1 = .ok (.istore_n 1, 1) := by decide +kernel
theorem dX0_freeAll_2 : decode cX0_freeAll 2 = .ok (.iload_n 1, 1) := by decide +kernel
theorem dX0_freeAll_3 : decode cX0_freeAll 3 = .ok (.bipush 8, 2) := by decide +kernel
theorem dX0_freeAll_5 : decode cX0_freeAll 5 = .ok (.if_icmp .ge 16, 3) := by decide +kernel
theorem dX0_freeAll_8 : decode cX0_freeAll 8 = .ok (.aload_n 0, 1) := by decide +kernel
theorem dX0_freeAll_9 : decode cX0_freeAll 9 = .ok (.getfield 19, 3) := by decide +kernel
theorem dX0_freeAll_12 : decode cX0_freeAll 12 = .ok (.iload_n 1, 1) := by decide +kernel
theorem dX0_freeAll_13 : decode cX0_freeAll 13 = .ok (.iconst (-1), 1) := by decide +kernel
theorem dX0_freeAll_14 : decode cX0_freeAll 14 = .ok (.iastore, 1) := by decide +kernel
theorem dX0_freeAll_15 : decode cX0_freeAll 15 = .ok (.iinc 1 1, 3) := by decide +kernel
theorem dX0_freeAll_18 : decode cX0_freeAll 18 = .ok (.goto (-16), 3) := by decide +kernel
theorem dX0_freeAll_21 : decode cX0_freeAll 21 = .ok (.return_, 1) := by decide +kernel
theorem dX0_search_0 : decode cX0_search 0 = .ok (.aload_n 0, 1) := by decide +kernel
theorem dX0_search_1 : decode cX0_search 1 = .ok (.sipush 2000, 3) := by decide +kernel
theorem dX0_search_4 : decode cX0_search 4 = .ok (.putfield 55, 3) := by decide +kernel
theorem dX0_search_7 : decode cX0_search 7 = .ok (.aload_n 0, 1) := by decide +kernel
theorem dX0_search_8 : decode cX0_search 8 = .ok (.iconst (-1), 1) := by decide +kernel
theorem dX0_search_9 : decode cX0_search 9 = .ok (.putfield 52, 3) := by decide +kernel
theorem dX0_search_12 : decode cX0_search 12 = .ok (.iconst 0, 1) := by decide +kernel
theorem dX0_search_13 : decode cX0_search 13 = .ok (.istore_n 1, 1) := by decide +kernel
theorem dX0_search_14 : decode cX0_search 14 = .ok (.iload_n 1, 1) := by decide +kernel
theorem dX0_search_15 : decode cX0_search 15 = .ok (.bipush 8, 2) := by decide +kernel
theorem dX0_search_17 : decode cX0_search 17 = .ok (.if_icmp .ge 16, 3) := by decide +kernel
theorem dX0_search_20 : decode cX0_search 20 = .ok (.aload_n 0, 1) := by decide +kernel
theorem dX0_search_21 : decode cX0_search 21 = .ok (.getfield 16, 3) := by decide +kernel
theorem dX0_search_24 : decode cX0_search 24 = .ok (.iload_n 1, 1) := by decide +kernel
theorem dX0_search_25 : decode cX0_search 25 = .ok (.iconst (-1), 1) := by decide +kernel
theorem dX0_search_26 : decode cX0_search 26 = .ok (.iastore, 1) := by decide +kernel
theorem dX0_search_27 : decode cX0_search 27 = .ok (.iinc 1 1, 3) := by decide +kernel
theorem dX0_search_30 : decode cX0_search 30 = .ok (.goto (-16), 3) := by decide +kernel
theorem dX0_search_33 : decode cX0_search 33 = .ok (.bipush 7, 2) := by decide +kernel
theorem dX0_search_35 : decode cX0_search 35 = .ok (.istore_n 1, 1) := by decide +kernel
theorem dX0_search_36 : decode cX0_search 36 = .ok (.iconst 0, 1) := by decide +kernel
theorem dX0_search_37 : decode cX0_search 37 = .ok (.istore_n 2, 1) := by decide +kernel
theorem dX0_search_38 : decode cX0_search 38 = .ok (.iload_n 2, 1) := by decide +kernel
theorem dX0_search_39 : decode cX0_search 39 = .ok (.sipush 2000, 3) := by decide +kernel
theorem dX0_search_42 : decode cX0_search 42 = .ok (.if_icmp .ge 68, 3) := by decide +kernel
theorem dX0_search_45 : decode cX0_search 45 = .ok (.iload_n 1, 1) := by decide +kernel
theorem dX0_search_46 : decode cX0_search 46 = .ok (.bipush 8, 2) := by decide +kernel
theorem dX0_search_48 : decode cX0_search 48 = .ok (.if_icmp .ge 62, 3) := by decide +kernel
theorem dX0_search_51 : decode cX0_search 51 = .ok (.iload_n 1, 1) := by decide +kernel
theorem dX0_search_52 : decode cX0_search 52 = .ok (.ifCond .ge 11, 3) := by decide +kernel
theorem dX0_search_55 : decode cX0_search 55 = .ok (.aload_n 0, 1) := by decide +kernel
theorem dX0_search_56 : decode cX0_search 56 = .ok (.invokevirtual 63, 3) := by decide +kernel
theorem dX0_search_59 : decode cX0_search 59 = .ok (.istore_n 1, 1) := by decide +kernel
theorem dX0_search_60 : decode cX0_search 60 = .ok (.goto 44, 3) := by decide +kernel
theorem dX0_search_63 : decode cX0_search 63 = .ok (.aload_n 0, 1) := by decide +kernel
theorem dX0_search_64 : decode cX0_search 64 = .ok (.getfield 16, 3) := by decide +kernel
theorem dX0_search_67 : decode cX0_search 67 = .ok (.iload_n 1, 1) := by decide +kernel
theorem dX0_search_68 : decode cX0_search 68 = .ok (.aload_n 0, 1) := by decide +kernel
theorem dX0_search_69 : decode cX0_search 69 = .ok (.iload_n 1, 1) := by decide +kernel
theorem dX0_search_70 : decode cX0_search 70 = .ok (.invokevirtual 67, 3) := by decide +kernel
theorem dX0_search_73 : decode cX0_search 73 = .ok (.iastore, 1) := by decide +kernel
theorem dX0_search_74 : decode cX0_search 74 = .ok (.aload_n 0, 1) := by decide +kernel
theorem dX0_search_75 : decode cX0_search 75 = .ok (.getfield 16, 3) := by decide +kernel
theorem dX0_search_78 : decode cX0_search 78 = .ok (.iload_n 1, 1) := by decide +kernel
theorem dX0_search_79 : decode cX0_search 79 = .ok (.iaload, 1) := by decide +kernel
theorem dX0_search_80 : decode cX0_search 80 = .ok (.ifCond .ge 9, 3) := by decide +kernel
theorem dX0_search_83 : decode cX0_search 83 = .ok (.iload_n 1, 1) := by decide +kernel
theorem dX0_search_84 : decode cX0_search 84 = .ok (.iconst 1, 1) := by decide +kernel
theorem dX0_search_85 : decode cX0_search 85 = .ok (.iadd, 1) := by decide +kernel
theorem dX0_search_86 : decode cX0_search 86 = .ok (.goto 17, 3) := by decide +kernel
theorem dX0_search_89 : decode cX0_search 89 = .ok (.aload_n 0, 1) := by decide +kernel
theorem dX0_search_90 : decode cX0_search 90 = .ok (.invokevirtual 71, 3) := by decide +kernel
theorem dX0_search_93 : decode cX0_search 93 = .ok (.ifCond .eq 9, 3) := by decide +kernel
theorem dX0_search_96 : decode cX0_search 96 = .ok (.iload_n 1, 1) := by decide +kernel
theorem dX0_search_97 : decode cX0_search 97 = .ok (.iconst 1, 1) := by decide +kernel
theorem dX0_search_98 : decode cX0_search 98 = .ok (.isub, 1) := by decide +kernel
theorem dX0_search_99 : decode cX0_search 99 = .ok (.goto 4, 3) := by decide +kernel
theorem dX0_search_102 : decode cX0_search 102 = .ok (.iload_n 1, 1) := by decide +kernel
theorem dX0_search_103 : decode cX0_search 103 = .ok (.istore_n 1, 1) := by decide +kernel
theorem dX0_search_104 : decode cX0_search 104 = .ok (.iinc 2 1, 3) := by decide +kernel
theorem dX0_search_107 : decode cX0_search 107 = .ok (.goto (-69), 3) := by decide +kernel
theorem dX0_search_110 : decode cX0_search 110 = .ok (.return_, 1) := by decide +kernel
theorem dX0_takeLeaf_0 : decode cX0_takeLeaf 0 = .ok (.aload_n 0, 1) := by decide +kernel
theorem dX0_takeLeaf_1 : decode cX0_takeLeaf 1 = .ok (.aload_n 0, 1) := by decide +kernel
theorem dX0_takeLeaf_2 : decode cX0_takeLeaf 2 = .ok (.invokevirtual 75, 3) := by decide +kernel
theorem dX0_takeLeaf_5 : decode cX0_takeLeaf 5 = .ok (.putfield 55, 3) := by decide +kernel
theorem dX0_takeLeaf_8 : decode cX0_takeLeaf 8 = .ok (.aload_n 0, 1) := by decide +kernel
theorem dX0_takeLeaf_9 : decode cX0_takeLeaf 9 = .ok (.iconst 0, 1) := by decide +kernel
theorem dX0_takeLeaf_10 : decode cX0_takeLeaf 10 = .ok (.putfield 52, 3) := by decide +kernel
theorem dX0_takeLeaf_13 : decode cX0_takeLeaf 13 = .ok (.iconst 0, 1) := by decide +kernel
theorem dX0_takeLeaf_14 : decode cX0_takeLeaf 14 = .ok (.istore_n 1, 1) := by decide +kernel
theorem dX0_takeLeaf_15 : decode cX0_takeLeaf 15 = .ok (.iload_n 1, 1) := by decide +kernel
theorem dX0_takeLeaf_16 : decode cX0_takeLeaf 16 = .ok (.bipush 8, 2) := by decide +kernel
theorem dX0_takeLeaf_18 : decode cX0_takeLeaf 18 = .ok (.if_icmp .ge 26, 3) := by decide +kernel
theorem dX0_takeLeaf_21 : decode cX0_takeLeaf 21 = .ok (.aload_n 0, 1) := by decide +kernel
theorem dX0_takeLeaf_22 : decode cX0_takeLeaf 22 = .ok (.dup, 1) := by decide +kernel
theorem dX0_takeLeaf_23 : decode cX0_takeLeaf 23 = .ok (.getfield 52, 3) := by decide +kernel
theorem dX0_takeLeaf_26 : decode cX0_takeLeaf 26 = .ok (.aload_n 0, 1) := by decide +kernel
theorem dX0_takeLeaf_27 : decode cX0_takeLeaf 27 = .ok (.getfield 16, 3) := by decide +kernel
theorem dX0_takeLeaf_30 : decode cX0_takeLeaf 30 = .ok (.iload_n 1, 1) := by decide +kernel
theorem dX0_takeLeaf_31 : decode cX0_takeLeaf 31 = .ok (.iaload, 1) := by decide +kernel
theorem dX0_takeLeaf_32 : decode cX0_takeLeaf 32 = .ok (.iload_n 1, 1) := by decide +kernel
theorem dX0_takeLeaf_33 : decode cX0_takeLeaf 33 = .ok (.ishl, 1) := by decide +kernel
theorem dX0_takeLeaf_34 : decode cX0_takeLeaf 34 = .ok (.ior, 1) := by decide +kernel
theorem dX0_takeLeaf_35 : decode cX0_takeLeaf 35 = .ok (.putfield 52, 3) := by decide +kernel
theorem dX0_takeLeaf_38 : decode cX0_takeLeaf 38 = .ok (.iinc 1 1, 3) := by decide +kernel
theorem dX0_takeLeaf_41 : decode cX0_takeLeaf 41 = .ok (.goto (-26), 3) := by decide +kernel
theorem dX0_takeLeaf_44 : decode cX0_takeLeaf 44 = .ok (.iconst 0, 1) := by decide +kernel
theorem dX0_takeLeaf_45 : decode cX0_takeLeaf 45 = .ok (.ireturn, 1) := by decide +kernel
theorem dX0_lossSoFar_0 : decode cX0_lossSoFar 0 = .ok (.iconst 0, 1) := by decide +kernel
theorem dX0_lossSoFar_1 : decode cX0_lossSoFar 1 = .ok (.istore_n 1, 1) := by decide +kernel
theorem dX0_lossSoFar_2 : decode cX0_lossSoFar 2 = .ok (.iconst 0, 1) := by decide +kernel
theorem dX0_lossSoFar_3 : decode cX0_lossSoFar 3 = .ok (.istore_n 2, 1) := by decide +kernel
theorem dX0_lossSoFar_4 : decode cX0_lossSoFar 4 = .ok (.iload_n 2, 1) := by decide +kernel
theorem dX0_lossSoFar_5 : decode cX0_lossSoFar 5 = .ok (.aload_n 0, 1) := by decide +kernel
theorem dX0_lossSoFar_6 : decode cX0_lossSoFar 6 = .ok (.getfield 42, 3) := by decide +kernel
theorem dX0_lossSoFar_9 : decode cX0_lossSoFar 9 = .ok (.if_icmp .ge 34, 3) := by decide +kernel
theorem dX0_lossSoFar_12 : decode cX0_lossSoFar 12 = .ok (.iload_n 1, 1) := by decide +kernel
theorem dX0_lossSoFar_13 : decode cX0_lossSoFar 13 = .ok (.aload_n 0, 1) := by decide +kernel
theorem dX0_lossSoFar_14 : decode cX0_lossSoFar 14 = .ok (.iload_n 2, 1) := by decide +kernel
theorem dX0_lossSoFar_15 : decode cX0_lossSoFar 15 = .ok (.aload_n 0, 1) := by decide +kernel
theorem dX0_lossSoFar_16 : decode cX0_lossSoFar 16 = .ok (.getfield 16, 3) := by decide +kernel
theorem dX0_lossSoFar_19 : decode cX0_lossSoFar 19 = .ok (.invokevirtual 78, 3) := by decide +kernel
theorem dX0_lossSoFar_22 : decode cX0_lossSoFar 22 = .ok (.ifCond .ne 12, 3) := by decide +kernel
theorem dX0_lossSoFar_25 : decode cX0_lossSoFar 25 = .ok (.aload_n 0, 1) := by decide +kernel
theorem dX0_lossSoFar_26 : decode cX0_lossSoFar 26 = .ok (.getfield 13, 3) := by decide +kernel
theorem dX0_lossSoFar_29 : decode cX0_lossSoFar 29 = .ok (.iload_n 2, 1) := by decide +kernel
theorem dX0_lossSoFar_30 : decode cX0_lossSoFar 30 = .ok (.iaload, 1) := by decide +kernel
theorem dX0_lossSoFar_31 : decode cX0_lossSoFar 31 = .ok (.goto 4, 3) := by decide +kernel
theorem dX0_lossSoFar_34 : decode cX0_lossSoFar 34 = .ok (.iconst 0, 1) := by decide +kernel
theorem dX0_lossSoFar_35 : decode cX0_lossSoFar 35 = .ok (.iadd, 1) := by decide +kernel
theorem dX0_lossSoFar_36 : decode cX0_lossSoFar 36 = .ok (.istore_n 1, 1) := by decide +kernel
theorem dX0_lossSoFar_37 : decode cX0_lossSoFar 37 = .ok (.iinc 2 1, 3) := by decide +kernel
theorem dX0_lossSoFar_40 : decode cX0_lossSoFar 40 = .ok (.goto (-36), 3) := by decide +kernel
theorem dX0_lossSoFar_43 : decode cX0_lossSoFar 43 = .ok (.iload_n 1, 1) := by decide +kernel
theorem dX0_lossSoFar_44 : decode cX0_lossSoFar 44 = .ok (.ireturn, 1) := by decide +kernel
theorem dX0_openLiterals_0 : decode cX0_openLiterals 0 = .ok (.aload_n 0, 1) := by decide +kernel
theorem dX0_openLiterals_1 : decode cX0_openLiterals 1 = .ok (.getfield 7, 3) := by decide +kernel
theorem dX0_openLiterals_4 : decode cX0_openLiterals 4 = .ok (.iload_n 1, 1) := by decide +kernel
theorem dX0_openLiterals_5 : decode cX0_openLiterals 5 = .ok (.iaload, 1) := by decide +kernel
theorem dX0_openLiterals_6 : decode cX0_openLiterals 6 = .ok (.istore_n 3, 1) := by decide +kernel
theorem dX0_openLiterals_7 : decode cX0_openLiterals 7 = .ok (.iconst 0, 1) := by decide +kernel
theorem dX0_openLiterals_8 : decode cX0_openLiterals 8 = .ok (.istore 4, 2) := by decide +kernel
theorem dX0_openLiterals_10 : decode cX0_openLiterals 10 = .ok (.iload 4, 2) := by decide +kernel
theorem dX0_openLiterals_12 : decode cX0_openLiterals 12 = .ok (.bipush 8, 2) := by decide +kernel
theorem dX0_openLiterals_14 : decode cX0_openLiterals 14 = .ok (.if_icmp .ge 32, 3) := by decide +kernel
theorem dX0_openLiterals_17 : decode cX0_openLiterals 17 = .ok (.aload_n 2, 1) := by decide +kernel
theorem dX0_openLiterals_18 : decode cX0_openLiterals 18 = .ok (.iload 4, 2) := by decide +kernel
theorem dX0_openLiterals_20 : decode cX0_openLiterals 20 = .ok (.iaload, 1) := by decide +kernel
theorem dX0_openLiterals_21 : decode cX0_openLiterals 21 = .ok (.ifCond .lt 19, 3) := by decide +kernel
theorem dX0_openLiterals_24 : decode cX0_openLiterals 24 = .ok (.iload_n 3, 1) := by decide +kernel
theorem dX0_openLiterals_25 : decode cX0_openLiterals 25 = .ok (.iconst 1, 1) := by decide +kernel
theorem dX0_openLiterals_26 : decode cX0_openLiterals 26 = .ok (.iconst 2, 1) := by decide +kernel
theorem dX0_openLiterals_27 : decode cX0_openLiterals 27 = .ok (.iload 4, 2) := by decide +kernel
theorem dX0_openLiterals_29 : decode cX0_openLiterals 29 = .ok (.imul, 1) := by decide +kernel
theorem dX0_openLiterals_30 : decode cX0_openLiterals 30 = .ok (.aload_n 2, 1) := by decide +kernel
theorem dX0_openLiterals_31 : decode cX0_openLiterals 31 = .ok (.iload 4, 2) := by decide +kernel
theorem dX0_openLiterals_33 : decode cX0_openLiterals 33 = .ok (.iaload, 1) := by decide +kernel
theorem dX0_openLiterals_34 : decode cX0_openLiterals 34 = .ok (.iadd, 1) := by decide +kernel
theorem dX0_openLiterals_35 : decode cX0_openLiterals 35 = .ok (.ishl, 1) := by decide +kernel
theorem dX0_openLiterals_36 : decode cX0_openLiterals 36 = .ok (.iconst (-1), 1) := by decide +kernel
theorem dX0_openLiterals_37 : decode cX0_openLiterals 37 = .ok (.ixor, 1) := by decide +kernel
end
section
set_option maxRecDepth 100000
theorem dX0_openLiterals_38 : decode cX0_openLiterals 38 = .ok (.iand, 1) := by decide +kernel
theorem dX0_openLiterals_39 : decode cX0_openLiterals 39 = .ok (.istore_n 3, 1) := by decide +kernel
theorem dX0_openLiterals_40 : decode cX0_openLiterals 40 = .ok (.iinc 4 1, 3) := by decide +kernel
theorem dX0_openLiterals_43 : decode cX0_openLiterals 43 = .ok (.goto (-33), 3) := by decide +kernel
theorem dX0_openLiterals_46 : decode cX0_openLiterals 46 = .ok (.iload_n 3, 1) := by decide +kernel
theorem dX0_openLiterals_47 : decode cX0_openLiterals 47 = .ok (.ireturn, 1) := by decide +kernel
theorem dX0_nextValue_0 : decode cX0_nextValue 0 = .ok (.aload_n 0, 1) := by decide +kernel
theorem dX0_nextValue_1 : decode cX0_nextValue 1 = .ok (.getfield 16, 3) := by decide +kernel
theorem dX0_nextValue_4 : decode cX0_nextValue 4 = .ok (.iload_n 1, 1) := by decide +kernel
theorem dX0_nextValue_5 : decode cX0_nextValue 5 = .ok (.iaload, 1) := by decide +kernel
theorem dX0_nextValue_6 : decode cX0_nextValue 6 = .ok (.iconst 1, 1) := by decide +kernel
theorem dX0_nextValue_7 : decode cX0_nextValue 7 = .ok (.iadd, 1) := by decide +kernel
theorem dX0_nextValue_8 : decode cX0_nextValue 8 = .ok (.istore_n 2, 1) := by decide +kernel
theorem dX0_nextValue_9 : decode cX0_nextValue 9 = .ok (.iload_n 2, 1) := by decide +kernel
theorem dX0_nextValue_10 : decode cX0_nextValue 10 = .ok (.iconst 2, 1) := by decide +kernel
theorem dX0_nextValue_11 : decode cX0_nextValue 11 = .ok (.if_icmp .ge 30, 3) := by decide +kernel
theorem dX0_nextValue_14 : decode cX0_nextValue 14 = .ok (.aload_n 0, 1) := by decide +kernel
theorem dX0_nextValue_15 : decode cX0_nextValue 15 = .ok (.getfield 19, 3) := by decide +kernel
theorem dX0_nextValue_18 : decode cX0_nextValue 18 = .ok (.iload_n 1, 1) := by decide +kernel
theorem dX0_nextValue_19 : decode cX0_nextValue 19 = .ok (.iaload, 1) := by decide +kernel
theorem dX0_nextValue_20 : decode cX0_nextValue 20 = .ok (.ifCond .lt 13, 3) := by decide +kernel
theorem dX0_nextValue_23 : decode cX0_nextValue 23 = .ok (.aload_n 0, 1) := by decide +kernel
theorem dX0_nextValue_24 : decode cX0_nextValue 24 = .ok (.getfield 19, 3) := by decide +kernel
theorem dX0_nextValue_27 : decode cX0_nextValue 27 = .ok (.iload_n 1, 1) := by decide +kernel
theorem dX0_nextValue_28 : decode cX0_nextValue 28 = .ok (.iaload, 1) := by decide +kernel
theorem dX0_nextValue_29 : decode cX0_nextValue 29 = .ok (.iload_n 2, 1) := by decide +kernel
theorem dX0_nextValue_30 : decode cX0_nextValue 30 = .ok (.if_icmp .ne 5, 3) := by decide +kernel
theorem dX0_nextValue_33 : decode cX0_nextValue 33 = .ok (.iload_n 2, 1) := by decide +kernel
theorem dX0_nextValue_34 : decode cX0_nextValue 34 = .ok (.ireturn, 1) := by decide +kernel
theorem dX0_nextValue_35 : decode cX0_nextValue 35 = .ok (.iinc 2 1, 3) := by decide +kernel
theorem dX0_nextValue_38 : decode cX0_nextValue 38 = .ok (.goto (-29), 3) := by decide +kernel
theorem dX0_nextValue_41 : decode cX0_nextValue 41 = .ok (.iconst (-1), 1) := by decide +kernel
theorem dX0_nextValue_42 : decode cX0_nextValue 42 = .ok (.ireturn, 1) := by decide +kernel
theorem dX0_worthwhile_0 : decode cX0_worthwhile 0 = .ok (.aload_n 0, 1) := by decide +kernel
theorem dX0_worthwhile_1 : decode cX0_worthwhile 1 = .ok (.invokevirtual 75, 3) := by decide +kernel
theorem dX0_worthwhile_4 : decode cX0_worthwhile 4 = .ok (.istore_n 1, 1) := by decide +kernel
theorem dX0_worthwhile_5 : decode cX0_worthwhile 5 = .ok (.iconst 0, 1) := by decide +kernel
theorem dX0_worthwhile_6 : decode cX0_worthwhile 6 = .ok (.istore_n 2, 1) := by decide +kernel
theorem dX0_worthwhile_7 : decode cX0_worthwhile 7 = .ok (.iload_n 2, 1) := by decide +kernel
theorem dX0_worthwhile_8 : decode cX0_worthwhile 8 = .ok (.aload_n 0, 1) := by decide +kernel
theorem dX0_worthwhile_9 : decode cX0_worthwhile 9 = .ok (.getfield 42, 3) := by decide +kernel
theorem dX0_worthwhile_12 : decode cX0_worthwhile 12 = .ok (.if_icmp .ge 79, 3) := by decide +kernel
theorem dX0_worthwhile_15 : decode cX0_worthwhile 15 = .ok (.aload_n 0, 1) := by decide +kernel
theorem dX0_worthwhile_16 : decode cX0_worthwhile 16 = .ok (.getfield 13, 3) := by decide +kernel
theorem dX0_worthwhile_19 : decode cX0_worthwhile 19 = .ok (.iload_n 2, 1) := by decide +kernel
theorem dX0_worthwhile_20 : decode cX0_worthwhile 20 = .ok (.iaload, 1) := by decide +kernel
theorem dX0_worthwhile_21 : decode cX0_worthwhile 21 = .ok (.ifCond .ne 17, 3) := by decide +kernel
theorem dX0_worthwhile_24 : decode cX0_worthwhile 24 = .ok (.aload_n 0, 1) := by decide +kernel
theorem dX0_worthwhile_25 : decode cX0_worthwhile 25 = .ok (.iload_n 2, 1) := by decide +kernel
theorem dX0_worthwhile_26 : decode cX0_worthwhile 26 = .ok (.aload_n 0, 1) := by decide +kernel
theorem dX0_worthwhile_27 : decode cX0_worthwhile 27 = .ok (.getfield 16, 3) := by decide +kernel
theorem dX0_worthwhile_30 : decode cX0_worthwhile 30 = .ok (.invokevirtual 78, 3) := by decide +kernel
theorem dX0_worthwhile_33 : decode cX0_worthwhile 33 = .ok (.ifCond .ne 5, 3) := by decide +kernel
theorem dX0_worthwhile_36 : decode cX0_worthwhile 36 = .ok (.iconst 0, 1) := by decide +kernel
theorem dX0_worthwhile_37 : decode cX0_worthwhile 37 = .ok (.ireturn, 1) := by decide +kernel
theorem dX0_worthwhile_38 : decode cX0_worthwhile 38 = .ok (.aload_n 0, 1) := by decide +kernel
theorem dX0_worthwhile_39 : decode cX0_worthwhile 39 = .ok (.getfield 13, 3) := by decide +kernel
theorem dX0_worthwhile_42 : decode cX0_worthwhile 42 = .ok (.iload_n 2, 1) := by decide +kernel
theorem dX0_worthwhile_43 : decode cX0_worthwhile 43 = .ok (.iaload, 1) := by decide +kernel
theorem dX0_worthwhile_44 : decode cX0_worthwhile 44 = .ok (.ifCond .le 19, 3) := by decide +kernel
theorem dX0_worthwhile_47 : decode cX0_worthwhile 47 = .ok (.aload_n 0, 1) := by decide +kernel
theorem dX0_worthwhile_48 : decode cX0_worthwhile 48 = .ok (.iload_n 2, 1) := by decide +kernel
theorem dX0_worthwhile_49 : decode cX0_worthwhile 49 = .ok (.aload_n 0, 1) := by decide +kernel
theorem dX0_worthwhile_50 : decode cX0_worthwhile 50 = .ok (.getfield 16, 3) := by decide +kernel
theorem dX0_worthwhile_53 : decode cX0_worthwhile 53 = .ok (.invokevirtual 78, 3) := by decide +kernel
theorem dX0_worthwhile_56 : decode cX0_worthwhile 56 = .ok (.ifCond .eq 7, 3) := by decide +kernel
theorem dX0_worthwhile_59 : decode cX0_worthwhile 59 = .ok (.iconst 1, 1) := by decide +kernel
theorem dX0_worthwhile_60 : decode cX0_worthwhile 60 = .ok (.goto 4, 3) := by decide +kernel
theorem dX0_worthwhile_63 : decode cX0_worthwhile 63 = .ok (.iconst 0, 1) := by decide +kernel
theorem dX0_worthwhile_64 : decode cX0_worthwhile 64 = .ok (.istore_n 3, 1) := by decide +kernel
theorem dX0_worthwhile_65 : decode cX0_worthwhile 65 = .ok (.aload_n 0, 1) := by decide +kernel
theorem dX0_worthwhile_66 : decode cX0_worthwhile 66 = .ok (.getfield 31, 3) := by decide +kernel
theorem dX0_worthwhile_69 : decode cX0_worthwhile 69 = .ok (.iload_n 2, 1) := by decide +kernel
theorem dX0_worthwhile_70 : decode cX0_worthwhile 70 = .ok (.iload_n 3, 1) := by decide +kernel
theorem dX0_worthwhile_71 : decode cX0_worthwhile 71 = .ok (.ifCond .eq 12, 3) := by decide +kernel
theorem dX0_worthwhile_74 : decode cX0_worthwhile 74 = .ok (.aload_n 0, 1) := by decide +kernel
theorem dX0_worthwhile_75 : decode cX0_worthwhile 75 = .ok (.getfield 13, 3) := by decide +kernel
theorem dX0_worthwhile_78 : decode cX0_worthwhile 78 = .ok (.iload_n 2, 1) := by decide +kernel
theorem dX0_worthwhile_79 : decode cX0_worthwhile 79 = .ok (.iaload, 1) := by decide +kernel
theorem dX0_worthwhile_80 : decode cX0_worthwhile 80 = .ok (.goto 4, 3) := by decide +kernel
theorem dX0_worthwhile_83 : decode cX0_worthwhile 83 = .ok (.iconst 0, 1) := by decide +kernel
theorem dX0_worthwhile_84 : decode cX0_worthwhile 84 = .ok (.iastore, 1) := by decide +kernel
theorem dX0_worthwhile_85 : decode cX0_worthwhile 85 = .ok (.iinc 2 1, 3) := by decide +kernel
theorem dX0_worthwhile_88 : decode cX0_worthwhile 88 = .ok (.goto (-81), 3) := by decide +kernel
theorem dX0_worthwhile_91 : decode cX0_worthwhile 91 = .ok (.iconst 0, 1) := by decide +kernel
theorem dX0_worthwhile_92 : decode cX0_worthwhile 92 = .ok (.istore_n 2, 1) := by decide +kernel
theorem dX0_worthwhile_93 : decode cX0_worthwhile 93 = .ok (.iload_n 2, 1) := by decide +kernel
theorem dX0_worthwhile_94 : decode cX0_worthwhile 94 = .ok (.bipush 25, 2) := by decide +kernel
theorem dX0_worthwhile_96 : decode cX0_worthwhile 96 = .ok (.if_icmp .ge 47, 3) := by decide +kernel
theorem dX0_worthwhile_99 : decode cX0_worthwhile 99 = .ok (.iload_n 1, 1) := by decide +kernel
theorem dX0_worthwhile_100 : decode cX0_worthwhile 100 = .ok (.aload_n 0, 1) := by decide +kernel
theorem dX0_worthwhile_101 : decode cX0_worthwhile 101 = .ok (.getfield 55, 3) := by decide +kernel
theorem dX0_worthwhile_104 : decode cX0_worthwhile 104 = .ok (.if_icmp .ge 39, 3) := by decide +kernel
theorem dX0_worthwhile_107 : decode cX0_worthwhile 107 = .ok (.aload_n 0, 1) := by decide +kernel
theorem dX0_worthwhile_108 : decode cX0_worthwhile 108 = .ok (.invokevirtual 82, 3) := by decide +kernel
theorem dX0_worthwhile_111 : decode cX0_worthwhile 111 = .ok (.istore_n 3, 1) := by decide +kernel
theorem dX0_worthwhile_112 : decode cX0_worthwhile 112 = .ok (.iload_n 3, 1) := by decide +kernel
theorem dX0_worthwhile_113 : decode cX0_worthwhile 113 = .ok (.ifCond .ge 5, 3) := by decide +kernel
theorem dX0_worthwhile_116 : decode cX0_worthwhile 116 = .ok (.iconst 1, 1) := by decide +kernel
theorem dX0_worthwhile_117 : decode cX0_worthwhile 117 = .ok (.ireturn, 1) := by decide +kernel
theorem dX0_worthwhile_118 : decode cX0_worthwhile 118 = .ok (.aload_n 0, 1) := by decide +kernel
theorem dX0_worthwhile_119 : decode cX0_worthwhile 119 = .ok (.iload_n 3, 1) := by decide +kernel
theorem dX0_worthwhile_120 : decode cX0_worthwhile 120 = .ok (.invokevirtual 85, 3) := by decide +kernel
theorem dX0_worthwhile_123 : decode cX0_worthwhile 123 = .ok (.istore 4, 2) := by decide +kernel
theorem dX0_worthwhile_125 : decode cX0_worthwhile 125 = .ok (.iload 4, 2) := by decide +kernel
theorem dX0_worthwhile_127 : decode cX0_worthwhile 127 = .ok (.ifCond .ne 5, 3) := by decide +kernel
theorem dX0_worthwhile_130 : decode cX0_worthwhile 130 = .ok (.iconst 0, 1) := by decide +kernel
theorem dX0_worthwhile_131 : decode cX0_worthwhile 131 = .ok (.ireturn, 1) := by decide +kernel
theorem dX0_worthwhile_132 : decode cX0_worthwhile 132 = .ok (.iload_n 1, 1) := by decide +kernel
theorem dX0_worthwhile_133 : decode cX0_worthwhile 133 = .ok (.iload 4, 2) := by decide +kernel
theorem dX0_worthwhile_135 : decode cX0_worthwhile 135 = .ok (.iadd, 1) := by decide +kernel
theorem dX0_worthwhile_136 : decode cX0_worthwhile 136 = .ok (.istore_n 1, 1) := by decide +kernel
theorem dX0_worthwhile_137 : decode cX0_worthwhile 137 = .ok (.iinc 2 1, 3) := by decide +kernel
theorem dX0_worthwhile_140 : decode cX0_worthwhile 140 = .ok (.goto (-47), 3) := by decide +kernel
theorem dX0_worthwhile_143 : decode cX0_worthwhile 143 = .ok (.iload_n 1, 1) := by decide +kernel
theorem dX0_worthwhile_144 : decode cX0_worthwhile 144 = .ok (.aload_n 0, 1) := by decide +kernel
theorem dX0_worthwhile_145 : decode cX0_worthwhile 145 = .ok (.getfield 55, 3) := by decide +kernel
theorem dX0_worthwhile_148 : decode cX0_worthwhile 148 = .ok (.if_icmp .ge 7, 3) := by decide +kernel
theorem dX0_worthwhile_151 : decode cX0_worthwhile 151 = .ok (.iconst 1, 1) := by decide +kernel
theorem dX0_worthwhile_152 : decode cX0_worthwhile 152 = .ok (.goto 4, 3) := by decide +kernel
theorem dX0_worthwhile_155 : decode cX0_worthwhile 155 = .ok (.iconst 0, 1) := by decide +kernel
theorem dX0_worthwhile_156 : decode cX0_worthwhile 156 = .ok (.ireturn, 1) := by decide +kernel
theorem dX0_unitSteps_0 : decode cX0_unitSteps 0 = .ok (.iconst 0, 1) := by decide +kernel
theorem dX0_unitSteps_1 : decode cX0_unitSteps 1 = .ok (.istore_n 1, 1) := by decide +kernel
theorem dX0_unitSteps_2 : decode cX0_unitSteps 2 = .ok (.iload_n 1, 1) := by decide +kernel
theorem dX0_unitSteps_3 : decode cX0_unitSteps 3 = .ok (.bipush 8, 2) := by decide +kernel
theorem dX0_unitSteps_5 : decode cX0_unitSteps 5 = .ok (.if_icmp .ge 28, 3) := by decide +kernel
theorem dX0_unitSteps_8 : decode cX0_unitSteps 8 = .ok (.aload_n 0, 1) := by decide +kernel
theorem dX0_unitSteps_9 : decode cX0_unitSteps 9 = .ok (.getfield 22, 3) := by decide +kernel
theorem dX0_unitSteps_12 : decode cX0_unitSteps 12 = .ok (.iload_n 1, 1) := by decide +kernel
theorem dX0_unitSteps_13 : decode cX0_unitSteps 13 = .ok (.aload_n 0, 1) := by decide +kernel
theorem dX0_unitSteps_14 : decode cX0_unitSteps 14 = .ok (.getfield 16, 3) := by decide +kernel
theorem dX0_unitSteps_17 : decode cX0_unitSteps 17 = .ok (.iload_n 1, 1) := by decide +kernel
theorem dX0_unitSteps_18 : decode cX0_unitSteps 18 = .ok (.iaload, 1) := by decide +kernel
theorem dX0_unitSteps_19 : decode cX0_unitSteps 19 = .ok (.iastore, 1) := by decide +kernel
theorem dX0_unitSteps_20 : decode cX0_unitSteps 20 = .ok (.aload_n 0, 1) := by decide +kernel
theorem dX0_unitSteps_21 : decode cX0_unitSteps 21 = .ok (.getfield 25, 3) := by decide +kernel
theorem dX0_unitSteps_24 : decode cX0_unitSteps 24 = .ok (.iload_n 1, 1) := by decide +kernel
theorem dX0_unitSteps_25 : decode cX0_unitSteps 25 = .ok (.iconst (-1), 1) := by decide +kernel
theorem dX0_unitSteps_26 : decode cX0_unitSteps 26 = .ok (.iastore, 1) := by decide +kernel
theorem dX0_unitSteps_27 : decode cX0_unitSteps 27 = .ok (.iinc 1 1, 3) := by decide +kernel
theorem dX0_unitSteps_30 : decode cX0_unitSteps 30 = .ok (.goto (-28), 3) := by decide +kernel
theorem dX0_unitSteps_33 : decode cX0_unitSteps 33 = .ok (.aload_n 0, 1) := by decide +kernel
theorem dX0_unitSteps_34 : decode cX0_unitSteps 34 = .ok (.iconst 0, 1) := by decide +kernel
theorem dX0_unitSteps_35 : decode cX0_unitSteps 35 = .ok (.putfield 88, 3) := by decide +kernel
theorem dX0_unitSteps_38 : decode cX0_unitSteps 38 = .ok (.iconst 1, 1) := by decide +kernel
theorem dX0_unitSteps_39 : decode cX0_unitSteps 39 = .ok (.istore_n 1, 1) := by decide +kernel
theorem dX0_unitSteps_40 : decode cX0_unitSteps 40 = .ok (.iconst 0, 1) := by decide +kernel
theorem dX0_unitSteps_41 : decode cX0_unitSteps 41 = .ok (.istore_n 2, 1) := by decide +kernel
theorem dX0_unitSteps_42 : decode cX0_unitSteps 42 = .ok (.iload_n 2, 1) := by decide +kernel
theorem dX0_unitSteps_43 : decode cX0_unitSteps 43 = .ok (.bipush 9, 2) := by decide +kernel
theorem dX0_unitSteps_45 : decode cX0_unitSteps 45 = .ok (.if_icmp .ge 87, 3) := by decide +kernel
theorem dX0_unitSteps_48 : decode cX0_unitSteps 48 = .ok (.iload_n 1, 1) := by decide +kernel
theorem dX0_unitSteps_49 : decode cX0_unitSteps 49 = .ok (.ifCond .eq 83, 3) := by decide +kernel
theorem dX0_unitSteps_52 : decode cX0_unitSteps 52 = .ok (.iconst 0, 1) := by decide +kernel
theorem dX0_unitSteps_53 : decode cX0_unitSteps 53 = .ok (.istore_n 1, 1) := by decide +kernel
theorem dX0_unitSteps_54 : decode cX0_unitSteps 54 = .ok (.iconst 0, 1) := by decide +kernel
theorem dX0_unitSteps_55 : decode cX0_unitSteps 55 = .ok (.istore_n 3, 1) := by decide +kernel
theorem dX0_unitSteps_56 : decode cX0_unitSteps 56 = .ok (.iload_n 3, 1) := by decide +kernel
theorem dX0_unitSteps_57 : decode cX0_unitSteps 57 = .ok (.aload_n 0, 1) := by decide +kernel
theorem dX0_unitSteps_58 : decode cX0_unitSteps 58 = .ok (.getfield 42, 3) := by decide +kernel
theorem dX0_unitSteps_61 : decode cX0_unitSteps 61 = .ok (.if_icmp .ge 65, 3) := by decide +kernel
theorem dX0_unitSteps_64 : decode cX0_unitSteps 64 = .ok (.aload_n 0, 1) := by decide +kernel
theorem dX0_unitSteps_65 : decode cX0_unitSteps 65 = .ok (.getfield 13, 3) := by decide +kernel
theorem dX0_unitSteps_68 : decode cX0_unitSteps 68 = .ok (.iload_n 3, 1) := by decide +kernel
theorem dX0_unitSteps_69 : decode cX0_unitSteps 69 = .ok (.iaload, 1) := by decide +kernel
theorem dX0_unitSteps_70 : decode cX0_unitSteps 70 = .ok (.ifCond .eq 12, 3) := by decide +kernel
theorem dX0_unitSteps_73 : decode cX0_unitSteps 73 = .ok (.aload_n 0, 1) := by decide +kernel
theorem dX0_unitSteps_74 : decode cX0_unitSteps 74 = .ok (.getfield 31, 3) := by decide +kernel
theorem dX0_unitSteps_77 : decode cX0_unitSteps 77 = .ok (.iload_n 3, 1) := by decide +kernel
theorem dX0_unitSteps_78 : decode cX0_unitSteps 78 = .ok (.iaload, 1) := by decide +kernel
theorem dX0_unitSteps_79 : decode cX0_unitSteps 79 = .ok (.ifCond .le 41, 3) := by decide +kernel
theorem dX0_unitSteps_82 : decode cX0_unitSteps 82 = .ok (.aload_n 0, 1) := by decide +kernel
theorem dX0_unitSteps_83 : decode cX0_unitSteps 83 = .ok (.iload_n 3, 1) := by decide +kernel
theorem dX0_unitSteps_84 : decode cX0_unitSteps 84 = .ok (.aload_n 0, 1) := by decide +kernel
theorem dX0_unitSteps_85 : decode cX0_unitSteps 85 = .ok (.getfield 22, 3) := by decide +kernel
theorem dX0_unitSteps_88 : decode cX0_unitSteps 88 = .ok (.invokevirtual 78, 3) := by decide +kernel
theorem dX0_unitSteps_91 : decode cX0_unitSteps 91 = .ok (.istore 4, 2) := by decide +kernel
theorem dX0_unitSteps_93 : decode cX0_unitSteps 93 = .ok (.iload 4, 2) := by decide +kernel
theorem dX0_unitSteps_95 : decode cX0_unitSteps 95 = .ok (.ifCond .ne 5, 3) := by decide +kernel
theorem dX0_unitSteps_98 : decode cX0_unitSteps 98 = .ok (.iload_n 3, 1) := by decide +kernel
theorem dX0_unitSteps_99 : decode cX0_unitSteps 99 = .ok (.ireturn, 1) := by decide +kernel
theorem dX0_unitSteps_100 : decode cX0_unitSteps 100 = .ok (.aload_n 0, 1) := by decide +kernel
theorem dX0_unitSteps_101 : decode cX0_unitSteps 101 = .ok (.iload_n 3, 1) := by decide +kernel
theorem dX0_unitSteps_102 : decode cX0_unitSteps 102 = .ok (.iload 4, 2) := by decide +kernel
theorem dX0_unitSteps_104 : decode cX0_unitSteps 104 = .ok (.invokevirtual 91, 3) := by decide +kernel
theorem dX0_unitSteps_107 : decode cX0_unitSteps 107 = .ok (.ifCond .ne 7, 3) := by decide +kernel
theorem dX0_unitSteps_110 : decode cX0_unitSteps 110 = .ok (.iload_n 1, 1) := by decide +kernel
theorem dX0_unitSteps_111 : decode cX0_unitSteps 111 = .ok (.ifCond .eq 7, 3) := by decide +kernel
theorem dX0_unitSteps_114 : decode cX0_unitSteps 114 = .ok (.iconst 1, 1) := by decide +kernel
theorem dX0_unitSteps_115 : decode cX0_unitSteps 115 = .ok (.goto 4, 3) := by decide +kernel
theorem dX0_unitSteps_118 : decode cX0_unitSteps 118 = .ok (.iconst 0, 1) := by decide +kernel
theorem dX0_unitSteps_119 : decode cX0_unitSteps 119 = .ok (.istore_n 1, 1) := by decide +kernel
theorem dX0_unitSteps_120 : decode cX0_unitSteps 120 = .ok (.iinc 3 1, 3) := by decide +kernel
theorem dX0_unitSteps_123 : decode cX0_unitSteps 123 = .ok (.goto (-67), 3) := by decide +kernel
theorem dX0_unitSteps_126 : decode cX0_unitSteps 126 = .ok (.iinc 2 1, 3) := by decide +kernel
theorem dX0_unitSteps_129 : decode cX0_unitSteps 129 = .ok (.goto (-87), 3) := by decide +kernel
theorem dX0_unitSteps_132 : decode cX0_unitSteps 132 = .ok (.iconst (-1), 1) := by decide +kernel
theorem dX0_unitSteps_133 : decode cX0_unitSteps 133 = .ok (.ireturn, 1) := by decide +kernel
theorem dX0_step_0 : decode cX0_step 0 = .ok (.iload_n 2, 1) := by decide +kernel
theorem dX0_step_1 : decode cX0_step 1 = .ok (.iload_n 2, 1) := by decide +kernel
theorem dX0_step_2 : decode cX0_step 2 = .ok (.iconst 1, 1) := by decide +kernel
theorem dX0_step_3 : decode cX0_step 3 = .ok (.isub, 1) := by decide +kernel
theorem dX0_step_4 : decode cX0_step 4 = .ok (.iand, 1) := by decide +kernel
theorem dX0_step_5 : decode cX0_step 5 = .ok (.ifCond .eq 5, 3) := by decide +kernel
theorem dX0_step_8 : decode cX0_step 8 = .ok (.iconst 0, 1) := by decide +kernel
theorem dX0_step_9 : decode cX0_step 9 = .ok (.ireturn, 1) := by decide +kernel
theorem dX0_step_10 : decode cX0_step 10 = .ok (.iconst 0, 1) := by decide +kernel
theorem dX0_step_11 : decode cX0_step 11 = .ok (.istore_n 3, 1) := by decide +kernel
theorem dX0_step_12 : decode cX0_step 12 = .ok (.iload_n 3, 1) := by decide +kernel
theorem dX0_step_13 : decode cX0_step 13 = .ok (.bipush 8, 2) := by decide +kernel
theorem dX0_step_15 : decode cX0_step 15 = .ok (.if_icmp .ge 90, 3) := by decide +kernel
theorem dX0_step_18 : decode cX0_step 18 = .ok (.iload_n 2, 1) := by decide +kernel
theorem dX0_step_19 : decode cX0_step 19 = .ok (.iconst 2, 1) := by decide +kernel
theorem dX0_step_20 : decode cX0_step 20 = .ok (.iload_n 3, 1) := by decide +kernel
theorem dX0_step_21 : decode cX0_step 21 = .ok (.imul, 1) := by decide +kernel
theorem dX0_step_22 : decode cX0_step 22 = .ok (.iushr, 1) := by decide +kernel
theorem dX0_step_23 : decode cX0_step 23 = .ok (.iconst 3, 1) := by decide +kernel
theorem dX0_step_24 : decode cX0_step 24 = .ok (.iand, 1) := by decide +kernel
theorem dX0_step_25 : decode cX0_step 25 = .ok (.ifCond .eq 7, 3) := by decide +kernel
theorem dX0_step_28 : decode cX0_step 28 = .ok (.iconst 1, 1) := by decide +kernel
theorem dX0_step_29 : decode cX0_step 29 = .ok (.goto 4, 3) := by decide +kernel
theorem dX0_step_32 : decode cX0_step 32 = .ok (.iconst 0, 1) := by decide +kernel
theorem dX0_step_33 : decode cX0_step 33 = .ok (.istore 4, 2) := by decide +kernel
theorem dX0_step_35 : decode cX0_step 35 = .ok (.iload 4, 2) := by decide +kernel
theorem dX0_step_37 : decode cX0_step 37 = .ok (.ifCond .eq 62, 3) := by decide +kernel
theorem dX0_step_40 : decode cX0_step 40 = .ok (.aload_n 0, 1) := by decide +kernel
theorem dX0_step_41 : decode cX0_step 41 = .ok (.getfield 22, 3) := by decide +kernel
theorem dX0_step_44 : decode cX0_step 44 = .ok (.iload_n 3, 1) := by decide +kernel
theorem dX0_step_45 : decode cX0_step 45 = .ok (.iaload, 1) := by decide +kernel
theorem dX0_step_46 : decode cX0_step 46 = .ok (.ifCond .ge 53, 3) := by decide +kernel
theorem dX0_step_49 : decode cX0_step 49 = .ok (.aload_n 0, 1) := by decide +kernel
theorem dX0_step_50 : decode cX0_step 50 = .ok (.getfield 22, 3) := by decide +kernel
theorem dX0_step_53 : decode cX0_step 53 = .ok (.iload_n 3, 1) := by decide +kernel
theorem dX0_step_54 : decode cX0_step 54 = .ok (.iload_n 2, 1) := by decide +kernel
theorem dX0_step_55 : decode cX0_step 55 = .ok (.iconst 2, 1) := by decide +kernel
theorem dX0_step_56 : decode cX0_step 56 = .ok (.iload_n 3, 1) := by decide +kernel
theorem dX0_step_57 : decode cX0_step 57 = .ok (.imul, 1) := by decide +kernel
theorem dX0_step_58 : decode cX0_step 58 = .ok (.iushr, 1) := by decide +kernel
theorem dX0_step_59 : decode cX0_step 59 = .ok (.iconst 1, 1) := by decide +kernel
theorem dX0_step_60 : decode cX0_step 60 = .ok (.iand, 1) := by decide +kernel
theorem dX0_step_61 : decode cX0_step 61 = .ok (.ifCond .eq 7, 3) := by decide +kernel
theorem dX0_step_64 : decode cX0_step 64 = .ok (.iconst 1, 1) := by decide +kernel
theorem dX0_step_65 : decode cX0_step 65 = .ok (.goto 4, 3) := by decide +kernel
theorem dX0_step_68 : decode cX0_step 68 = .ok (.iconst 0, 1) := by decide +kernel
theorem dX0_step_69 : decode cX0_step 69 = .ok (.iastore, 1) := by decide +kernel
theorem dX0_step_70 : decode cX0_step 70 = .ok (.aload_n 0, 1) := by decide +kernel
theorem dX0_step_71 : decode cX0_step 71 = .ok (.getfield 25, 3) := by decide +kernel
theorem dX0_step_74 : decode cX0_step 74 = .ok (.iload_n 3, 1) := by decide +kernel
theorem dX0_step_75 : decode cX0_step 75 = .ok (.iload_n 1, 1) := by decide +kernel
theorem dX0_step_76 : decode cX0_step 76 = .ok (.iastore, 1) := by decide +kernel
theorem dX0_step_77 : decode cX0_step 77 = .ok (.aload_n 0, 1) := by decide +kernel
theorem dX0_step_78 : decode cX0_step 78 = .ok (.getfield 28, 3) := by decide +kernel
theorem dX0_step_81 : decode cX0_step 81 = .ok (.aload_n 0, 1) := by decide +kernel
theorem dX0_step_82 : decode cX0_step 82 = .ok (.getfield 88, 3) := by decide +kernel
theorem dX0_step_85 : decode cX0_step 85 = .ok (.iload_n 3, 1) := by decide +kernel
theorem dX0_step_86 : decode cX0_step 86 = .ok (.iastore, 1) := by decide +kernel
theorem dX0_step_87 : decode cX0_step 87 = .ok (.aload_n 0, 1) := by decide +kernel
theorem dX0_step_88 : decode cX0_step 88 = .ok (.dup, 1) := by decide +kernel
theorem dX0_step_89 : decode cX0_step 89 = .ok (.getfield 88, 3) := by decide +kernel
theorem dX0_step_92 : decode cX0_step 92 = .ok (.iconst 1, 1) := by decide +kernel
theorem dX0_step_93 : decode cX0_step 93 = .ok (.iadd, 1) := by decide +kernel
theorem dX0_step_94 : decode cX0_step 94 = .ok (.putfield 88, 3) := by decide +kernel
theorem dX0_step_97 : decode cX0_step 97 = .ok (.iconst 1, 1) := by decide +kernel
theorem dX0_step_98 : decode cX0_step 98 = .ok (.ireturn, 1) := by decide +kernel
theorem dX0_step_99 : decode cX0_step 99 = .ok (.iinc 3 1, 3) := by decide +kernel
theorem dX0_step_102 : decode cX0_step 102 = .ok (.goto (-90), 3) := by decide +kernel
theorem dX0_step_105 : decode cX0_step 105 = .ok (.iconst 0, 1) := by decide +kernel
theorem dX0_step_106 : decode cX0_step 106 = .ok (.ireturn, 1) := by decide +kernel
theorem dX0_book_0 : decode cX0_book 0 = .ok (.iconst 0, 1) := by decide +kernel
theorem dX0_book_1 : decode cX0_book 1 = .ok (.istore_n 2, 1) := by decide +kernel
theorem dX0_book_2 : decode cX0_book 2 = .ok (.iload_n 2, 1) := by decide +kernel
theorem dX0_book_3 : decode cX0_book 3 = .ok (.aload_n 0, 1) := by decide +kernel
theorem dX0_book_4 : decode cX0_book 4 = .ok (.getfield 42, 3) := by decide +kernel
theorem dX0_book_7 : decode cX0_book 7 = .ok (.if_icmp .ge 25, 3) := by decide +kernel
theorem dX0_book_10 : decode cX0_book 10 = .ok (.aload_n 0, 1) := by decide +kernel
theorem dX0_book_11 : decode cX0_book 11 = .ok (.getfield 34, 3) := by decide +kernel
theorem dX0_book_14 : decode cX0_book 14 = .ok (.iload_n 2, 1) := by decide +kernel
theorem dX0_book_15 : decode cX0_book 15 = .ok (.iload_n 2, 1) := by decide +kernel
theorem dX0_book_16 : decode cX0_book 16 = .ok (.iload_n 1, 1) := by decide +kernel
theorem dX0_book_17 : decode cX0_book 17 = .ok (.if_icmp .ne 7, 3) := by decide +kernel
theorem dX0_book_20 : decode cX0_book 20 = .ok (.iconst 1, 1) := by decide +kernel
theorem dX0_book_21 : decode cX0_book 21 = .ok (.goto 4, 3) := by decide +kernel
theorem dX0_book_24 : decode cX0_book 24 = .ok (.iconst 0, 1) := by decide +kernel
theorem dX0_book_25 : decode cX0_book 25 = .ok (.bastore, 1) := by decide +kernel
theorem dX0_book_26 : decode cX0_book 26 = .ok (.iinc 2 1, 3) := by decide +kernel
theorem dX0_book_29 : decode cX0_book 29 = .ok (.goto (-27), 3) := by decide +kernel
theorem dX0_book_32 : decode cX0_book 32 = .ok (.aload_n 0, 1) := by decide +kernel
theorem dX0_book_33 : decode cX0_book 33 = .ok (.iload_n 1, 1) := by decide +kernel
theorem dX0_book_34 : decode cX0_book 34 = .ok (.invokevirtual 94, 3) := by decide +kernel
theorem dX0_book_37 : decode cX0_book 37 = .ok (.istore_n 2, 1) := by decide +kernel
theorem dX0_book_38 : decode cX0_book 38 = .ok (.aload_n 0, 1) := by decide +kernel
theorem dX0_book_39 : decode cX0_book 39 = .ok (.getfield 88, 3) := by decide +kernel
theorem dX0_book_42 : decode cX0_book 42 = .ok (.iconst 1, 1) := by decide +kernel
theorem dX0_book_43 : decode cX0_book 43 = .ok (.isub, 1) := by decide +kernel
theorem dX0_book_44 : decode cX0_book 44 = .ok (.istore_n 3, 1) := by decide +kernel
theorem dX0_book_45 : decode cX0_book 45 = .ok (.iload_n 3, 1) := by decide +kernel
end
section
set_option maxRecDepth 100000
theorem dX0_book_46 : decode cX0_book 46 = .ok (.ifCond .lt 53, 3) := by decide +kernel
theorem dX0_book_49 : decode cX0_book 49 = .ok (.aload_n 0, 1) := by decide +kernel
theorem dX0_book_50 : decode cX0_book 50 = .ok (.getfield 28, 3) := by decide +kernel
theorem dX0_book_53 : decode cX0_book 53 = .ok (.iload_n 3, 1) := by decide +kernel
theorem dX0_book_54 : decode cX0_book 54 = .ok (.iaload, 1) := by decide +kernel
theorem dX0_book_55 : decode cX0_book 55 = .ok (.istore 4, 2) := by decide +kernel
theorem dX0_book_57 : decode cX0_book 57 = .ok (.iload_n 2, 1) := by decide +kernel
theorem dX0_book_58 : decode cX0_book 58 = .ok (.iload 4, 2) := by decide +kernel
theorem dX0_book_60 : decode cX0_book 60 = .ok (.iushr, 1) := by decide +kernel
theorem dX0_book_61 : decode cX0_book 61 = .ok (.iconst 1, 1) := by decide +kernel
theorem dX0_book_62 : decode cX0_book 62 = .ok (.iand, 1) := by decide +kernel
theorem dX0_book_63 : decode cX0_book 63 = .ok (.ifCond .eq 30, 3) := by decide +kernel
theorem dX0_book_66 : decode cX0_book 66 = .ok (.aload_n 0, 1) := by decide +kernel
theorem dX0_book_67 : decode cX0_book 67 = .ok (.getfield 34, 3) := by decide +kernel
theorem dX0_book_70 : decode cX0_book 70 = .ok (.aload_n 0, 1) := by decide +kernel
theorem dX0_book_71 : decode cX0_book 71 = .ok (.getfield 25, 3) := by decide +kernel
theorem dX0_book_74 : decode cX0_book 74 = .ok (.iload 4, 2) := by decide +kernel
theorem dX0_book_76 : decode cX0_book 76 = .ok (.iaload, 1) := by decide +kernel
theorem dX0_book_77 : decode cX0_book 77 = .ok (.iconst 1, 1) := by decide +kernel
theorem dX0_book_78 : decode cX0_book 78 = .ok (.bastore, 1) := by decide +kernel
theorem dX0_book_79 : decode cX0_book 79 = .ok (.iload_n 2, 1) := by decide +kernel
theorem dX0_book_80 : decode cX0_book 80 = .ok (.aload_n 0, 1) := by decide +kernel
theorem dX0_book_81 : decode cX0_book 81 = .ok (.aload_n 0, 1) := by decide +kernel
theorem dX0_book_82 : decode cX0_book 82 = .ok (.getfield 25, 3) := by decide +kernel
theorem dX0_book_85 : decode cX0_book 85 = .ok (.iload 4, 2) := by decide +kernel
theorem dX0_book_87 : decode cX0_book 87 = .ok (.iaload, 1) := by decide +kernel
theorem dX0_book_88 : decode cX0_book 88 = .ok (.invokevirtual 94, 3) := by decide +kernel
theorem dX0_book_91 : decode cX0_book 91 = .ok (.ior, 1) := by decide +kernel
theorem dX0_book_92 : decode cX0_book 92 = .ok (.istore_n 2, 1) := by decide +kernel
theorem dX0_book_93 : decode cX0_book 93 = .ok (.iinc 3 (-1), 3) := by decide +kernel
theorem dX0_book_96 : decode cX0_book 96 = .ok (.goto (-51), 3) := by decide +kernel
theorem dX0_book_99 : decode cX0_book 99 = .ok (.iconst 0, 1) := by decide +kernel
theorem dX0_book_100 : decode cX0_book 100 = .ok (.istore_n 3, 1) := by decide +kernel
theorem dX0_book_101 : decode cX0_book 101 = .ok (.iconst 0, 1) := by decide +kernel
theorem dX0_book_102 : decode cX0_book 102 = .ok (.istore 4, 2) := by decide +kernel
theorem dX0_book_104 : decode cX0_book 104 = .ok (.iload 4, 2) := by decide +kernel
theorem dX0_book_106 : decode cX0_book 106 = .ok (.aload_n 0, 1) := by decide +kernel
theorem dX0_book_107 : decode cX0_book 107 = .ok (.getfield 42, 3) := by decide +kernel
theorem dX0_book_110 : decode cX0_book 110 = .ok (.if_icmp .ge 68, 3) := by decide +kernel
theorem dX0_book_113 : decode cX0_book 113 = .ok (.aload_n 0, 1) := by decide +kernel
theorem dX0_book_114 : decode cX0_book 114 = .ok (.getfield 34, 3) := by decide +kernel
theorem dX0_book_117 : decode cX0_book 117 = .ok (.iload 4, 2) := by decide +kernel
theorem dX0_book_119 : decode cX0_book 119 = .ok (.baload, 1) := by decide +kernel
theorem dX0_book_120 : decode cX0_book 120 = .ok (.ifCond .eq 17, 3) := by decide +kernel
theorem dX0_book_123 : decode cX0_book 123 = .ok (.aload_n 0, 1) := by decide +kernel
theorem dX0_book_124 : decode cX0_book 124 = .ok (.getfield 13, 3) := by decide +kernel
theorem dX0_book_127 : decode cX0_book 127 = .ok (.iload 4, 2) := by decide +kernel
theorem dX0_book_129 : decode cX0_book 129 = .ok (.iaload, 1) := by decide +kernel
theorem dX0_book_130 : decode cX0_book 130 = .ok (.ifCond .le 7, 3) := by decide +kernel
theorem dX0_book_133 : decode cX0_book 133 = .ok (.iconst 1, 1) := by decide +kernel
theorem dX0_book_134 : decode cX0_book 134 = .ok (.goto 4, 3) := by decide +kernel
theorem dX0_book_137 : decode cX0_book 137 = .ok (.iconst 0, 1) := by decide +kernel
theorem dX0_book_138 : decode cX0_book 138 = .ok (.istore 5, 2) := by decide +kernel
theorem dX0_book_140 : decode cX0_book 140 = .ok (.iload 5, 2) := by decide +kernel
theorem dX0_book_142 : decode cX0_book 142 = .ok (.ifCond .eq 28, 3) := by decide +kernel
theorem dX0_book_145 : decode cX0_book 145 = .ok (.iload_n 3, 1) := by decide +kernel
theorem dX0_book_146 : decode cX0_book 146 = .ok (.ifCond .eq 14, 3) := by decide +kernel
theorem dX0_book_149 : decode cX0_book 149 = .ok (.aload_n 0, 1) := by decide +kernel
theorem dX0_book_150 : decode cX0_book 150 = .ok (.getfield 31, 3) := by decide +kernel
theorem dX0_book_153 : decode cX0_book 153 = .ok (.iload 4, 2) := by decide +kernel
theorem dX0_book_155 : decode cX0_book 155 = .ok (.iaload, 1) := by decide +kernel
theorem dX0_book_156 : decode cX0_book 156 = .ok (.iload_n 3, 1) := by decide +kernel
theorem dX0_book_157 : decode cX0_book 157 = .ok (.if_icmp .ge 13, 3) := by decide +kernel
theorem dX0_book_160 : decode cX0_book 160 = .ok (.aload_n 0, 1) := by decide +kernel
theorem dX0_book_161 : decode cX0_book 161 = .ok (.getfield 31, 3) := by decide +kernel
theorem dX0_book_164 : decode cX0_book 164 = .ok (.iload 4, 2) := by decide +kernel
theorem dX0_book_166 : decode cX0_book 166 = .ok (.iaload, 1) := by decide +kernel
theorem dX0_book_167 : decode cX0_book 167 = .ok (.goto 4, 3) := by decide +kernel
theorem dX0_book_170 : decode cX0_book 170 = .ok (.iload_n 3, 1) := by decide +kernel
theorem dX0_book_171 : decode cX0_book 171 = .ok (.istore_n 3, 1) := by decide +kernel
theorem dX0_book_172 : decode cX0_book 172 = .ok (.iinc 4 1, 3) := by decide +kernel
theorem dX0_book_175 : decode cX0_book 175 = .ok (.goto (-71), 3) := by decide +kernel
theorem dX0_book_178 : decode cX0_book 178 = .ok (.iconst 0, 1) := by decide +kernel
theorem dX0_book_179 : decode cX0_book 179 = .ok (.istore 4, 2) := by decide +kernel
theorem dX0_book_181 : decode cX0_book 181 = .ok (.iload 4, 2) := by decide +kernel
theorem dX0_book_183 : decode cX0_book 183 = .ok (.aload_n 0, 1) := by decide +kernel
theorem dX0_book_184 : decode cX0_book 184 = .ok (.getfield 42, 3) := by decide +kernel
theorem dX0_book_187 : decode cX0_book 187 = .ok (.if_icmp .ge 44, 3) := by decide +kernel
theorem dX0_book_190 : decode cX0_book 190 = .ok (.aload_n 0, 1) := by decide +kernel
theorem dX0_book_191 : decode cX0_book 191 = .ok (.getfield 31, 3) := by decide +kernel
theorem dX0_book_194 : decode cX0_book 194 = .ok (.iload 4, 2) := by decide +kernel
theorem dX0_book_196 : decode cX0_book 196 = .ok (.dup2, 1) := by decide +kernel
theorem dX0_book_197 : decode cX0_book 197 = .ok (.iaload, 1) := by decide +kernel
theorem dX0_book_198 : decode cX0_book 198 = .ok (.aload_n 0, 1) := by decide +kernel
theorem dX0_book_199 : decode cX0_book 199 = .ok (.getfield 34, 3) := by decide +kernel
theorem dX0_book_202 : decode cX0_book 202 = .ok (.iload 4, 2) := by decide +kernel
theorem dX0_book_204 : decode cX0_book 204 = .ok (.baload, 1) := by decide +kernel
theorem dX0_book_205 : decode cX0_book 205 = .ok (.ifCond .eq 17, 3) := by decide +kernel
theorem dX0_book_208 : decode cX0_book 208 = .ok (.aload_n 0, 1) := by decide +kernel
theorem dX0_book_209 : decode cX0_book 209 = .ok (.getfield 13, 3) := by decide +kernel
theorem dX0_book_212 : decode cX0_book 212 = .ok (.iload 4, 2) := by decide +kernel
theorem dX0_book_214 : decode cX0_book 214 = .ok (.iaload, 1) := by decide +kernel
theorem dX0_book_215 : decode cX0_book 215 = .ok (.ifCond .le 7, 3) := by decide +kernel
theorem dX0_book_218 : decode cX0_book 218 = .ok (.iload_n 3, 1) := by decide +kernel
theorem dX0_book_219 : decode cX0_book 219 = .ok (.goto 4, 3) := by decide +kernel
theorem dX0_book_222 : decode cX0_book 222 = .ok (.iconst 0, 1) := by decide +kernel
theorem dX0_book_223 : decode cX0_book 223 = .ok (.isub, 1) := by decide +kernel
theorem dX0_book_224 : decode cX0_book 224 = .ok (.iastore, 1) := by decide +kernel
theorem dX0_book_225 : decode cX0_book 225 = .ok (.iinc 4 1, 3) := by decide +kernel
theorem dX0_book_228 : decode cX0_book 228 = .ok (.goto (-47), 3) := by decide +kernel
theorem dX0_book_231 : decode cX0_book 231 = .ok (.iload_n 3, 1) := by decide +kernel
theorem dX0_book_232 : decode cX0_book 232 = .ok (.ireturn, 1) := by decide +kernel
theorem dX0_variablesOf_0 : decode cX0_variablesOf 0 = .ok (.iconst 0, 1) := by decide +kernel
theorem dX0_variablesOf_1 : decode cX0_variablesOf 1 = .ok (.istore_n 2, 1) := by decide +kernel
theorem dX0_variablesOf_2 : decode cX0_variablesOf 2 = .ok (.iconst 0, 1) := by decide +kernel
theorem dX0_variablesOf_3 : decode cX0_variablesOf 3 = .ok (.istore_n 3, 1) := by decide +kernel
theorem dX0_variablesOf_4 : decode cX0_variablesOf 4 = .ok (.iload_n 3, 1) := by decide +kernel
theorem dX0_variablesOf_5 : decode cX0_variablesOf 5 = .ok (.bipush 8, 2) := by decide +kernel
theorem dX0_variablesOf_7 : decode cX0_variablesOf 7 = .ok (.if_icmp .ge 34, 3) := by decide +kernel
theorem dX0_variablesOf_10 : decode cX0_variablesOf 10 = .ok (.iload_n 2, 1) := by decide +kernel
theorem dX0_variablesOf_11 : decode cX0_variablesOf 11 = .ok (.aload_n 0, 1) := by decide +kernel
theorem dX0_variablesOf_12 : decode cX0_variablesOf 12 = .ok (.getfield 7, 3) := by decide +kernel
theorem dX0_variablesOf_15 : decode cX0_variablesOf 15 = .ok (.iload_n 1, 1) := by decide +kernel
theorem dX0_variablesOf_16 : decode cX0_variablesOf 16 = .ok (.iaload, 1) := by decide +kernel
theorem dX0_variablesOf_17 : decode cX0_variablesOf 17 = .ok (.iconst 2, 1) := by decide +kernel
theorem dX0_variablesOf_18 : decode cX0_variablesOf 18 = .ok (.iload_n 3, 1) := by decide +kernel
theorem dX0_variablesOf_19 : decode cX0_variablesOf 19 = .ok (.imul, 1) := by decide +kernel
theorem dX0_variablesOf_20 : decode cX0_variablesOf 20 = .ok (.iushr, 1) := by decide +kernel
theorem dX0_variablesOf_21 : decode cX0_variablesOf 21 = .ok (.iconst 3, 1) := by decide +kernel
theorem dX0_variablesOf_22 : decode cX0_variablesOf 22 = .ok (.iand, 1) := by decide +kernel
theorem dX0_variablesOf_23 : decode cX0_variablesOf 23 = .ok (.ifCond .eq 9, 3) := by decide +kernel
theorem dX0_variablesOf_26 : decode cX0_variablesOf 26 = .ok (.iconst 1, 1) := by decide +kernel
theorem dX0_variablesOf_27 : decode cX0_variablesOf 27 = .ok (.iload_n 3, 1) := by decide +kernel
theorem dX0_variablesOf_28 : decode cX0_variablesOf 28 = .ok (.ishl, 1) := by decide +kernel
theorem dX0_variablesOf_29 : decode cX0_variablesOf 29 = .ok (.goto 4, 3) := by decide +kernel
theorem dX0_variablesOf_32 : decode cX0_variablesOf 32 = .ok (.iconst 0, 1) := by decide +kernel
theorem dX0_variablesOf_33 : decode cX0_variablesOf 33 = .ok (.ior, 1) := by decide +kernel
theorem dX0_variablesOf_34 : decode cX0_variablesOf 34 = .ok (.istore_n 2, 1) := by decide +kernel
theorem dX0_variablesOf_35 : decode cX0_variablesOf 35 = .ok (.iinc 3 1, 3) := by decide +kernel
theorem dX0_variablesOf_38 : decode cX0_variablesOf 38 = .ok (.goto (-34), 3) := by decide +kernel
theorem dX0_variablesOf_41 : decode cX0_variablesOf 41 = .ok (.iload_n 2, 1) := by decide +kernel
theorem dX0_variablesOf_42 : decode cX0_variablesOf 42 = .ok (.ireturn, 1) := by decide +kernel
theorem dX0_loss_0 : decode cX0_loss 0 = .ok (.aload_n 0, 1) := by decide +kernel
theorem dX0_loss_1 : decode cX0_loss 1 = .ok (.invokevirtual 46, 3) := by decide +kernel
theorem dX0_loss_4 : decode cX0_loss 4 = .ok (.aload_n 0, 1) := by decide +kernel
theorem dX0_loss_5 : decode cX0_loss 5 = .ok (.invokevirtual 49, 3) := by decide +kernel
theorem dX0_loss_8 : decode cX0_loss 8 = .ok (.aload_n 0, 1) := by decide +kernel
theorem dX0_loss_9 : decode cX0_loss 9 = .ok (.getfield 52, 3) := by decide +kernel
theorem dX0_loss_12 : decode cX0_loss 12 = .ok (.ifCond .lt 10, 3) := by decide +kernel
theorem dX0_loss_15 : decode cX0_loss 15 = .ok (.aload_n 0, 1) := by decide +kernel
theorem dX0_loss_16 : decode cX0_loss 16 = .ok (.getfield 55, 3) := by decide +kernel
theorem dX0_loss_19 : decode cX0_loss 19 = .ok (.goto 4, 3) := by decide +kernel
theorem dX0_loss_22 : decode cX0_loss 22 = .ok (.iconst (-1), 1) := by decide +kernel
theorem dX0_loss_23 : decode cX0_loss 23 = .ok (.ireturn, 1) := by decide +kernel
theorem dX0_best_0 : decode cX0_best 0 = .ok (.aload_n 0, 1) := by decide +kernel
theorem dX0_best_1 : decode cX0_best 1 = .ok (.invokevirtual 46, 3) := by decide +kernel
theorem dX0_best_4 : decode cX0_best 4 = .ok (.aload_n 0, 1) := by decide +kernel
theorem dX0_best_5 : decode cX0_best 5 = .ok (.invokevirtual 49, 3) := by decide +kernel
theorem dX0_best_8 : decode cX0_best 8 = .ok (.aload_n 0, 1) := by decide +kernel
theorem dX0_best_9 : decode cX0_best 9 = .ok (.getfield 52, 3) := by decide +kernel
theorem dX0_best_12 : decode cX0_best 12 = .ok (.ireturn, 1) := by decide +kernel
theorem dX0_lossWith_0 : decode cX0_lossWith 0 = .ok (.aload_n 0, 1) := by decide +kernel
theorem dX0_lossWith_1 : decode cX0_lossWith 1 = .ok (.invokevirtual 46, 3) := by decide +kernel
theorem dX0_lossWith_4 : decode cX0_lossWith 4 = .ok (.aload_n 0, 1) := by decide +kernel
theorem dX0_lossWith_5 : decode cX0_lossWith 5 = .ok (.getfield 19, 3) := by decide +kernel
theorem dX0_lossWith_8 : decode cX0_lossWith 8 = .ok (.iload_n 1, 1) := by decide +kernel
theorem dX0_lossWith_9 : decode cX0_lossWith 9 = .ok (.iconst 1, 1) := by decide +kernel
theorem dX0_lossWith_10 : decode cX0_lossWith 10 = .ok (.ishr, 1) := by decide +kernel
theorem dX0_lossWith_11 : decode cX0_lossWith 11 = .ok (.bipush 7, 2) := by decide +kernel
theorem dX0_lossWith_13 : decode cX0_lossWith 13 = .ok (.iand, 1) := by decide +kernel
theorem dX0_lossWith_14 : decode cX0_lossWith 14 = .ok (.iconst 1, 1) := by decide +kernel
theorem dX0_lossWith_15 : decode cX0_lossWith 15 = .ok (.iload_n 1, 1) := by decide +kernel
theorem dX0_lossWith_16 : decode cX0_lossWith 16 = .ok (.iconst 1, 1) := by decide +kernel
theorem dX0_lossWith_17 : decode cX0_lossWith 17 = .ok (.iand, 1) := by decide +kernel
theorem dX0_lossWith_18 : decode cX0_lossWith 18 = .ok (.isub, 1) := by decide +kernel
theorem dX0_lossWith_19 : decode cX0_lossWith 19 = .ok (.iastore, 1) := by decide +kernel
theorem dX0_lossWith_20 : decode cX0_lossWith 20 = .ok (.aload_n 0, 1) := by decide +kernel
theorem dX0_lossWith_21 : decode cX0_lossWith 21 = .ok (.invokevirtual 49, 3) := by decide +kernel
theorem dX0_lossWith_24 : decode cX0_lossWith 24 = .ok (.aload_n 0, 1) := by decide +kernel
theorem dX0_lossWith_25 : decode cX0_lossWith 25 = .ok (.getfield 52, 3) := by decide +kernel
theorem dX0_lossWith_28 : decode cX0_lossWith 28 = .ok (.ifCond .lt 10, 3) := by decide +kernel
theorem dX0_lossWith_31 : decode cX0_lossWith 31 = .ok (.aload_n 0, 1) := by decide +kernel
theorem dX0_lossWith_32 : decode cX0_lossWith 32 = .ok (.getfield 55, 3) := by decide +kernel
theorem dX0_lossWith_35 : decode cX0_lossWith 35 = .ok (.goto 4, 3) := by decide +kernel
theorem dX0_lossWith_38 : decode cX0_lossWith 38 = .ok (.iconst (-1), 1) := by decide +kernel
theorem dX0_lossWith_39 : decode cX0_lossWith 39 = .ok (.ireturn, 1) := by decide +kernel
theorem dX0_lossAgainst_0 : decode cX0_lossAgainst 0 = .ok (.aload_n 0, 1) := by decide +kernel
theorem dX0_lossAgainst_1 : decode cX0_lossAgainst 1 = .ok (.invokevirtual 46, 3) := by decide +kernel
theorem dX0_lossAgainst_4 : decode cX0_lossAgainst 4 = .ok (.iconst 0, 1) := by decide +kernel
theorem dX0_lossAgainst_5 : decode cX0_lossAgainst 5 = .ok (.istore_n 2, 1) := by decide +kernel
theorem dX0_lossAgainst_6 : decode cX0_lossAgainst 6 = .ok (.iload_n 2, 1) := by decide +kernel
theorem dX0_lossAgainst_7 : decode cX0_lossAgainst 7 = .ok (.bipush 16, 2) := by decide +kernel
theorem dX0_lossAgainst_9 : decode cX0_lossAgainst 9 = .ok (.if_icmp .ge 56, 3) := by decide +kernel
theorem dX0_lossAgainst_12 : decode cX0_lossAgainst 12 = .ok (.iload_n 1, 1) := by decide +kernel
theorem dX0_lossAgainst_13 : decode cX0_lossAgainst 13 = .ok (.iload_n 2, 1) := by decide +kernel
theorem dX0_lossAgainst_14 : decode cX0_lossAgainst 14 = .ok (.iushr, 1) := by decide +kernel
theorem dX0_lossAgainst_15 : decode cX0_lossAgainst 15 = .ok (.iconst 1, 1) := by decide +kernel
theorem dX0_lossAgainst_16 : decode cX0_lossAgainst 16 = .ok (.iand, 1) := by decide +kernel
theorem dX0_lossAgainst_17 : decode cX0_lossAgainst 17 = .ok (.ifCond .eq 42, 3) := by decide +kernel
theorem dX0_lossAgainst_20 : decode cX0_lossAgainst 20 = .ok (.iload_n 2, 1) := by decide +kernel
theorem dX0_lossAgainst_21 : decode cX0_lossAgainst 21 = .ok (.iconst 1, 1) := by decide +kernel
theorem dX0_lossAgainst_22 : decode cX0_lossAgainst 22 = .ok (.ishr, 1) := by decide +kernel
theorem dX0_lossAgainst_23 : decode cX0_lossAgainst 23 = .ok (.istore_n 3, 1) := by decide +kernel
theorem dX0_lossAgainst_24 : decode cX0_lossAgainst 24 = .ok (.iload_n 2, 1) := by decide +kernel
theorem dX0_lossAgainst_25 : decode cX0_lossAgainst 25 = .ok (.iconst 1, 1) := by decide +kernel
theorem dX0_lossAgainst_26 : decode cX0_lossAgainst 26 = .ok (.iand, 1) := by decide +kernel
theorem dX0_lossAgainst_27 : decode cX0_lossAgainst 27 = .ok (.istore 4, 2) := by decide +kernel
theorem dX0_lossAgainst_29 : decode cX0_lossAgainst 29 = .ok (.aload_n 0, 1) := by decide +kernel
theorem dX0_lossAgainst_30 : decode cX0_lossAgainst 30 = .ok (.getfield 19, 3) := by decide +kernel
theorem dX0_lossAgainst_33 : decode cX0_lossAgainst 33 = .ok (.iload_n 3, 1) := by decide +kernel
theorem dX0_lossAgainst_34 : decode cX0_lossAgainst 34 = .ok (.iaload, 1) := by decide +kernel
theorem dX0_lossAgainst_35 : decode cX0_lossAgainst 35 = .ok (.ifCond .lt 16, 3) := by decide +kernel
theorem dX0_lossAgainst_38 : decode cX0_lossAgainst 38 = .ok (.aload_n 0, 1) := by decide +kernel
theorem dX0_lossAgainst_39 : decode cX0_lossAgainst 39 = .ok (.getfield 19, 3) := by decide +kernel
theorem dX0_lossAgainst_42 : decode cX0_lossAgainst 42 = .ok (.iload_n 3, 1) := by decide +kernel
theorem dX0_lossAgainst_43 : decode cX0_lossAgainst 43 = .ok (.iaload, 1) := by decide +kernel
theorem dX0_lossAgainst_44 : decode cX0_lossAgainst 44 = .ok (.iload 4, 2) := by decide +kernel
theorem dX0_lossAgainst_46 : decode cX0_lossAgainst 46 = .ok (.if_icmp .eq 5, 3) := by decide +kernel
theorem dX0_lossAgainst_49 : decode cX0_lossAgainst 49 = .ok (.iconst (-1), 1) := by decide +kernel
theorem dX0_lossAgainst_50 : decode cX0_lossAgainst 50 = .ok (.ireturn, 1) := by decide +kernel
theorem dX0_lossAgainst_51 : decode cX0_lossAgainst 51 = .ok (.aload_n 0, 1) := by decide +kernel
theorem dX0_lossAgainst_52 : decode cX0_lossAgainst 52 = .ok (.getfield 19, 3) := by decide +kernel
theorem dX0_lossAgainst_55 : decode cX0_lossAgainst 55 = .ok (.iload_n 3, 1) := by decide +kernel
theorem dX0_lossAgainst_56 : decode cX0_lossAgainst 56 = .ok (.iload 4, 2) := by decide +kernel
theorem dX0_lossAgainst_58 : decode cX0_lossAgainst 58 = .ok (.iastore, 1) := by decide +kernel
theorem dX0_lossAgainst_59 : decode cX0_lossAgainst 59 = .ok (.iinc 2 1, 3) := by decide +kernel
theorem dX0_lossAgainst_62 : decode cX0_lossAgainst 62 = .ok (.goto (-56), 3) := by decide +kernel
theorem dX0_lossAgainst_65 : decode cX0_lossAgainst 65 = .ok (.aload_n 0, 1) := by decide +kernel
theorem dX0_lossAgainst_66 : decode cX0_lossAgainst 66 = .ok (.invokevirtual 49, 3) := by decide +kernel
theorem dX0_lossAgainst_69 : decode cX0_lossAgainst 69 = .ok (.aload_n 0, 1) := by decide +kernel
theorem dX0_lossAgainst_70 : decode cX0_lossAgainst 70 = .ok (.getfield 52, 3) := by decide +kernel
theorem dX0_lossAgainst_73 : decode cX0_lossAgainst 73 = .ok (.ifCond .lt 10, 3) := by decide +kernel
theorem dX0_lossAgainst_76 : decode cX0_lossAgainst 76 = .ok (.aload_n 0, 1) := by decide +kernel
theorem dX0_lossAgainst_77 : decode cX0_lossAgainst 77 = .ok (.getfield 55, 3) := by decide +kernel
theorem dX0_lossAgainst_80 : decode cX0_lossAgainst 80 = .ok (.goto 4, 3) := by decide +kernel
theorem dX0_lossAgainst_83 : decode cX0_lossAgainst 83 = .ok (.iconst (-1), 1) := by decide +kernel
theorem dX0_lossAgainst_84 : decode cX0_lossAgainst 84 = .ok (.ireturn, 1) := by decide +kernel
theorem dX0_kept_0 : decode cX0_kept 0 = .ok (.aload_n 0, 1) := by decide +kernel
theorem dX0_kept_1 : decode cX0_kept 1 = .ok (.invokevirtual 46, 3) := by decide +kernel
theorem dX0_kept_4 : decode cX0_kept 4 = .ok (.aload_n 0, 1) := by decide +kernel
theorem dX0_kept_5 : decode cX0_kept 5 = .ok (.invokevirtual 49, 3) := by decide +kernel
theorem dX0_kept_8 : decode cX0_kept 8 = .ok (.aload_n 0, 1) := by decide +kernel
theorem dX0_kept_9 : decode cX0_kept 9 = .ok (.getfield 52, 3) := by decide +kernel
theorem dX0_kept_12 : decode cX0_kept 12 = .ok (.ifCond .ge 5, 3) := by decide +kernel
theorem dX0_kept_15 : decode cX0_kept 15 = .ok (.iconst (-1), 1) := by decide +kernel
theorem dX0_kept_16 : decode cX0_kept 16 = .ok (.ireturn, 1) := by decide +kernel
theorem dX0_kept_17 : decode cX0_kept 17 = .ok (.iconst 0, 1) := by decide +kernel
theorem dX0_kept_18 : decode cX0_kept 18 = .ok (.istore_n 1, 1) := by decide +kernel
theorem dX0_kept_19 : decode cX0_kept 19 = .ok (.iconst 0, 1) := by decide +kernel
theorem dX0_kept_20 : decode cX0_kept 20 = .ok (.istore_n 2, 1) := by decide +kernel
theorem dX0_kept_21 : decode cX0_kept 21 = .ok (.iload_n 2, 1) := by decide +kernel
theorem dX0_kept_22 : decode cX0_kept 22 = .ok (.aload_n 0, 1) := by decide +kernel
theorem dX0_kept_23 : decode cX0_kept 23 = .ok (.getfield 42, 3) := by decide +kernel
theorem dX0_kept_26 : decode cX0_kept 26 = .ok (.if_icmp .ge 38, 3) := by decide +kernel
theorem dX0_kept_29 : decode cX0_kept 29 = .ok (.iload_n 1, 1) := by decide +kernel
theorem dX0_kept_30 : decode cX0_kept 30 = .ok (.aload_n 0, 1) := by decide +kernel
theorem dX0_kept_31 : decode cX0_kept 31 = .ok (.getfield 13, 3) := by decide +kernel
theorem dX0_kept_34 : decode cX0_kept 34 = .ok (.iload_n 2, 1) := by decide +kernel
theorem dX0_kept_35 : decode cX0_kept 35 = .ok (.iaload, 1) := by decide +kernel
theorem dX0_kept_36 : decode cX0_kept 36 = .ok (.ifCond .le 19, 3) := by decide +kernel
theorem dX0_kept_39 : decode cX0_kept 39 = .ok (.aload_n 0, 1) := by decide +kernel
theorem dX0_kept_40 : decode cX0_kept 40 = .ok (.iload_n 2, 1) := by decide +kernel
theorem dX0_kept_41 : decode cX0_kept 41 = .ok (.aload_n 0, 1) := by decide +kernel
theorem dX0_kept_42 : decode cX0_kept 42 = .ok (.getfield 52, 3) := by decide +kernel
theorem dX0_kept_45 : decode cX0_kept 45 = .ok (.invokevirtual 58, 3) := by decide +kernel
theorem dX0_kept_48 : decode cX0_kept 48 = .ok (.ifCond .eq 7, 3) := by decide +kernel
theorem dX0_kept_51 : decode cX0_kept 51 = .ok (.iconst 1, 1) := by decide +kernel
theorem dX0_kept_52 : decode cX0_kept 52 = .ok (.goto 4, 3) := by decide +kernel
theorem dX0_kept_55 : decode cX0_kept 55 = .ok (.iconst 0, 1) := by decide +kernel
theorem dX0_kept_56 : decode cX0_kept 56 = .ok (.iadd, 1) := by decide +kernel
theorem dX0_kept_57 : decode cX0_kept 57 = .ok (.istore_n 1, 1) := by decide +kernel
theorem dX0_kept_58 : decode cX0_kept 58 = .ok (.iinc 2 1, 3) := by decide +kernel
theorem dX0_kept_61 : decode cX0_kept 61 = .ok (.goto (-40), 3) := by decide +kernel
theorem dX0_kept_64 : decode cX0_kept 64 = .ok (.iload_n 1, 1) := by decide +kernel
theorem dX0_kept_65 : decode cX0_kept 65 = .ok (.ireturn, 1) := by decide +kernel
theorem dX0_holdsFor_0 : decode cX0_holdsFor 0 = .ok (.iconst 0, 1) := by decide +kernel
theorem dX0_holdsFor_1 : decode cX0_holdsFor 1 = .ok (.istore_n 3, 1) := by decide +kernel
theorem dX0_holdsFor_2 : decode cX0_holdsFor 2 = .ok (.iload_n 3, 1) := by decide +kernel
theorem dX0_holdsFor_3 : decode cX0_holdsFor 3 = .ok (.bipush 8, 2) := by decide +kernel
theorem dX0_holdsFor_5 : decode cX0_holdsFor 5 = .ok (.if_icmp .ge 38, 3) := by decide +kernel
theorem dX0_holdsFor_8 : decode cX0_holdsFor 8 = .ok (.iconst 2, 1) := by decide +kernel
theorem dX0_holdsFor_9 : decode cX0_holdsFor 9 = .ok (.iload_n 3, 1) := by decide +kernel
theorem dX0_holdsFor_10 : decode cX0_holdsFor 10 = .ok (.imul, 1) := by decide +kernel
theorem dX0_holdsFor_11 : decode cX0_holdsFor 11 = .ok (.iconst 1, 1) := by decide +kernel
theorem dX0_holdsFor_12 : decode cX0_holdsFor 12 = .ok (.iadd, 1) := by decide +kernel
theorem dX0_holdsFor_13 : decode cX0_holdsFor 13 = .ok (.iload_n 2, 1) := by decide +kernel
theorem dX0_holdsFor_14 : decode cX0_holdsFor 14 = .ok (.iload_n 3, 1) := by decide +kernel
theorem dX0_holdsFor_15 : decode cX0_holdsFor 15 = .ok (.iushr, 1) := by decide +kernel
theorem dX0_holdsFor_16 : decode cX0_holdsFor 16 = .ok (.iconst 1, 1) := by decide +kernel
theorem dX0_holdsFor_17 : decode cX0_holdsFor 17 = .ok (.iand, 1) := by decide +kernel
theorem dX0_holdsFor_18 : decode cX0_holdsFor 18 = .ok (.isub, 1) := by decide +kernel
theorem dX0_holdsFor_19 : decode cX0_holdsFor 19 = .ok (.istore 4, 2) := by decide +kernel
theorem dX0_holdsFor_21 : decode cX0_holdsFor 21 = .ok (.aload_n 0, 1) := by decide +kernel
theorem dX0_holdsFor_22 : decode cX0_holdsFor 22 = .ok (.getfield 7, 3) := by decide +kernel
theorem dX0_holdsFor_25 : decode cX0_holdsFor 25 = .ok (.iload_n 1, 1) := by decide +kernel
theorem dX0_holdsFor_26 : decode cX0_holdsFor 26 = .ok (.iaload, 1) := by decide +kernel
theorem dX0_holdsFor_27 : decode cX0_holdsFor 27 = .ok (.iload 4, 2) := by decide +kernel
theorem dX0_holdsFor_29 : decode cX0_holdsFor 29 = .ok (.iushr, 1) := by decide +kernel
theorem dX0_holdsFor_30 : decode cX0_holdsFor 30 = .ok (.iconst 1, 1) := by decide +kernel
theorem dX0_holdsFor_31 : decode cX0_holdsFor 31 = .ok (.iand, 1) := by decide +kernel
theorem dX0_holdsFor_32 : decode cX0_holdsFor 32 = .ok (.ifCond .eq 5, 3) := by decide +kernel
theorem dX0_holdsFor_35 : decode cX0_holdsFor 35 = .ok (.iconst 1, 1) := by decide +kernel
theorem dX0_holdsFor_36 : decode cX0_holdsFor 36 = .ok (.ireturn, 1) := by decide +kernel
theorem dX0_holdsFor_37 : decode cX0_holdsFor 37 = .ok (.iinc 3 1, 3) := by decide +kernel
theorem dX0_holdsFor_40 : decode cX0_holdsFor 40 = .ok (.goto (-38), 3) := by decide +kernel
theorem dX0_holdsFor_43 : decode cX0_holdsFor 43 = .ok (.iconst 0, 1) := by decide +kernel
theorem dX0_holdsFor_44 : decode cX0_holdsFor 44 = .ok (.ireturn, 1) := by decide +kernel
end
section
set_option maxRecDepth 100000
theorem dX1_init_0 : decode cX1_init 0 = .ok (.aload_n 0, 1) := by decide +kernel
theorem dX1_init_1 : decode cX1_init 1 = .ok (.invokespecial 1, 3) := by decide +kernel
theorem dX1_init_4 : decode cX1_init 4 = .ok (.aload_n 0, 1) := by decide +kernel
theorem dX1_init_5 : decode cX1_init 5 = .ok (.bipush 24, 2) := by decide +kernel
theorem dX1_init_7 : decode cX1_init 7 = .ok (.newarray .int, 2) := by decide +kernel
theorem dX1_init_9 : decode cX1_init 9 = .ok (.putfield 7, 3) := by decide +kernel
theorem dX1_init_12 : decode cX1_init 12 = .ok (.aload_n 0, 1) := by decide +kernel
theorem dX1_init_13 : decode cX1_init 13 = .ok (.bipush 24, 2) := by decide +kernel
theorem dX1_init_15 : decode cX1_init 15 = .ok (.newarray .int, 2) := by decide +kernel
theorem dX1_init_17 : decode cX1_init 17 = .ok (.putfield 13, 3) := by decide +kernel
theorem dX1_init_20 : decode cX1_init 20 = .ok (.return_, 1) := by decide +kernel
theorem dX1_hard_0 : decode cX1_hard 0 = .ok (.aload_n 0, 1) := by decide +kernel
theorem dX1_hard_1 : decode cX1_hard 1 = .ok (.iload_n 1, 1) := by decide +kernel
theorem dX1_hard_2 : decode cX1_hard 2 = .ok (.iconst 0, 1) := by decide +kernel
theorem dX1_hard_3 : decode cX1_hard 3 = .ok (.invokevirtual 21, 3) := by decide +kernel
theorem dX1_hard_6 : decode cX1_hard 6 = .ok (.ireturn, 1) := by decide +kernel
theorem dX1_add_0 : decode cX1_add 0 = .ok (.aload_n 0, 1) := by decide +kernel
theorem dX1_add_1 : decode cX1_add 1 = .ok (.getfield 16, 3) := by decide +kernel
theorem dX1_add_4 : decode cX1_add 4 = .ok (.bipush 24, 2) := by decide +kernel
theorem dX1_add_6 : decode cX1_add 6 = .ok (.if_icmp .ne 5, 3) := by decide +kernel
theorem dX1_add_9 : decode cX1_add 9 = .ok (.iconst (-1), 1) := by decide +kernel
theorem dX1_add_10 : decode cX1_add 10 = .ok (.ireturn, 1) := by decide +kernel
theorem dX1_add_11 : decode cX1_add 11 = .ok (.aload_n 0, 1) := by decide +kernel
theorem dX1_add_12 : decode cX1_add 12 = .ok (.getfield 7, 3) := by decide +kernel
theorem dX1_add_15 : decode cX1_add 15 = .ok (.aload_n 0, 1) := by decide +kernel
theorem dX1_add_16 : decode cX1_add 16 = .ok (.getfield 16, 3) := by decide +kernel
theorem dX1_add_19 : decode cX1_add 19 = .ok (.iload_n 1, 1) := by decide +kernel
theorem dX1_add_20 : decode cX1_add 20 = .ok (.ldc 20, 2) := by decide +kernel
theorem dX1_add_22 : decode cX1_add 22 = .ok (.iand, 1) := by decide +kernel
theorem dX1_add_23 : decode cX1_add 23 = .ok (.iastore, 1) := by decide +kernel
theorem dX1_add_24 : decode cX1_add 24 = .ok (.aload_n 0, 1) := by decide +kernel
theorem dX1_add_25 : decode cX1_add 25 = .ok (.getfield 13, 3) := by decide +kernel
theorem dX1_add_28 : decode cX1_add 28 = .ok (.aload_n 0, 1) := by decide +kernel
theorem dX1_add_29 : decode cX1_add 29 = .ok (.getfield 16, 3) := by decide +kernel
theorem dX1_add_32 : decode cX1_add 32 = .ok (.iload_n 2, 1) := by decide +kernel
theorem dX1_add_33 : decode cX1_add 33 = .ok (.iastore, 1) := by decide +kernel
theorem dX1_add_34 : decode cX1_add 34 = .ok (.aload_n 0, 1) := by decide +kernel
theorem dX1_add_35 : decode cX1_add 35 = .ok (.dup, 1) := by decide +kernel
theorem dX1_add_36 : decode cX1_add 36 = .ok (.getfield 16, 3) := by decide +kernel
theorem dX1_add_39 : decode cX1_add 39 = .ok (.iconst 1, 1) := by decide +kernel
theorem dX1_add_40 : decode cX1_add 40 = .ok (.iadd, 1) := by decide +kernel
theorem dX1_add_41 : decode cX1_add 41 = .ok (.putfield 16, 3) := by decide +kernel
theorem dX1_add_44 : decode cX1_add 44 = .ok (.aload_n 0, 1) := by decide +kernel
theorem dX1_add_45 : decode cX1_add 45 = .ok (.getfield 16, 3) := by decide +kernel
theorem dX1_add_48 : decode cX1_add 48 = .ok (.ireturn, 1) := by decide +kernel
theorem dX1_soft_0 : decode cX1_soft 0 = .ok (.iload_n 2, 1) := by decide +kernel
theorem dX1_soft_1 : decode cX1_soft 1 = .ok (.iconst 1, 1) := by decide +kernel
theorem dX1_soft_2 : decode cX1_soft 2 = .ok (.if_icmp .lt 9, 3) := by decide +kernel
theorem dX1_soft_5 : decode cX1_soft 5 = .ok (.iload_n 2, 1) := by decide +kernel
theorem dX1_soft_6 : decode cX1_soft 6 = .ok (.bipush 50, 2) := by decide +kernel
theorem dX1_soft_8 : decode cX1_soft 8 = .ok (.if_icmp .le 7, 3) := by decide +kernel
theorem dX1_soft_11 : decode cX1_soft 11 = .ok (.iconst (-1), 1) := by decide +kernel
theorem dX1_soft_12 : decode cX1_soft 12 = .ok (.goto 9, 3) := by decide +kernel
theorem dX1_soft_15 : decode cX1_soft 15 = .ok (.aload_n 0, 1) := by decide +kernel
theorem dX1_soft_16 : decode cX1_soft 16 = .ok (.iload_n 1, 1) := by decide +kernel
theorem dX1_soft_17 : decode cX1_soft 17 = .ok (.iload_n 2, 1) := by decide +kernel
theorem dX1_soft_18 : decode cX1_soft 18 = .ok (.invokevirtual 21, 3) := by decide +kernel
theorem dX1_soft_21 : decode cX1_soft 21 = .ok (.ireturn, 1) := by decide +kernel
theorem dX1_drop_0 : decode cX1_drop 0 = .ok (.iload_n 1, 1) := by decide +kernel
theorem dX1_drop_1 : decode cX1_drop 1 = .ok (.ifCond .lt 11, 3) := by decide +kernel
theorem dX1_drop_4 : decode cX1_drop 4 = .ok (.iload_n 1, 1) := by decide +kernel
theorem dX1_drop_5 : decode cX1_drop 5 = .ok (.aload_n 0, 1) := by decide +kernel
theorem dX1_drop_6 : decode cX1_drop 6 = .ok (.getfield 16, 3) := by decide +kernel
theorem dX1_drop_9 : decode cX1_drop 9 = .ok (.if_icmp .lt 5, 3) := by decide +kernel
theorem dX1_drop_12 : decode cX1_drop 12 = .ok (.iconst (-1), 1) := by decide +kernel
theorem dX1_drop_13 : decode cX1_drop 13 = .ok (.ireturn, 1) := by decide +kernel
theorem dX1_drop_14 : decode cX1_drop 14 = .ok (.aload_n 0, 1) := by decide +kernel
theorem dX1_drop_15 : decode cX1_drop 15 = .ok (.dup, 1) := by decide +kernel
theorem dX1_drop_16 : decode cX1_drop 16 = .ok (.getfield 16, 3) := by decide +kernel
theorem dX1_drop_19 : decode cX1_drop 19 = .ok (.iconst 1, 1) := by decide +kernel
theorem dX1_drop_20 : decode cX1_drop 20 = .ok (.isub, 1) := by decide +kernel
theorem dX1_drop_21 : decode cX1_drop 21 = .ok (.putfield 16, 3) := by decide +kernel
theorem dX1_drop_24 : decode cX1_drop 24 = .ok (.iload_n 1, 1) := by decide +kernel
theorem dX1_drop_25 : decode cX1_drop 25 = .ok (.istore_n 2, 1) := by decide +kernel
theorem dX1_drop_26 : decode cX1_drop 26 = .ok (.iload_n 2, 1) := by decide +kernel
theorem dX1_drop_27 : decode cX1_drop 27 = .ok (.aload_n 0, 1) := by decide +kernel
theorem dX1_drop_28 : decode cX1_drop 28 = .ok (.getfield 16, 3) := by decide +kernel
theorem dX1_drop_31 : decode cX1_drop 31 = .ok (.if_icmp .ge 37, 3) := by decide +kernel
theorem dX1_drop_34 : decode cX1_drop 34 = .ok (.aload_n 0, 1) := by decide +kernel
theorem dX1_drop_35 : decode cX1_drop 35 = .ok (.getfield 7, 3) := by decide +kernel
theorem dX1_drop_38 : decode cX1_drop 38 = .ok (.iload_n 2, 1) := by decide +kernel
theorem dX1_drop_39 : decode cX1_drop 39 = .ok (.aload_n 0, 1) := by decide +kernel
theorem dX1_drop_40 : decode cX1_drop 40 = .ok (.getfield 7, 3) := by decide +kernel
theorem dX1_drop_43 : decode cX1_drop 43 = .ok (.iload_n 2, 1) := by decide +kernel
theorem dX1_drop_44 : decode cX1_drop 44 = .ok (.iconst 1, 1) := by decide +kernel
theorem dX1_drop_45 : decode cX1_drop 45 = .ok (.iadd, 1) := by decide +kernel
theorem dX1_drop_46 : decode cX1_drop 46 = .ok (.iaload, 1) := by decide +kernel
theorem dX1_drop_47 : decode cX1_drop 47 = .ok (.iastore, 1) := by decide +kernel
theorem dX1_drop_48 : decode cX1_drop 48 = .ok (.aload_n 0, 1) := by decide +kernel
theorem dX1_drop_49 : decode cX1_drop 49 = .ok (.getfield 13, 3) := by decide +kernel
theorem dX1_drop_52 : decode cX1_drop 52 = .ok (.iload_n 2, 1) := by decide +kernel
theorem dX1_drop_53 : decode cX1_drop 53 = .ok (.aload_n 0, 1) := by decide +kernel
theorem dX1_drop_54 : decode cX1_drop 54 = .ok (.getfield 13, 3) := by decide +kernel
theorem dX1_drop_57 : decode cX1_drop 57 = .ok (.iload_n 2, 1) := by decide +kernel
theorem dX1_drop_58 : decode cX1_drop 58 = .ok (.iconst 1, 1) := by decide +kernel
theorem dX1_drop_59 : decode cX1_drop 59 = .ok (.iadd, 1) := by decide +kernel
theorem dX1_drop_60 : decode cX1_drop 60 = .ok (.iaload, 1) := by decide +kernel
theorem dX1_drop_61 : decode cX1_drop 61 = .ok (.iastore, 1) := by decide +kernel
theorem dX1_drop_62 : decode cX1_drop 62 = .ok (.iinc 2 1, 3) := by decide +kernel
theorem dX1_drop_65 : decode cX1_drop 65 = .ok (.goto (-39), 3) := by decide +kernel
theorem dX1_drop_68 : decode cX1_drop 68 = .ok (.aload_n 0, 1) := by decide +kernel
theorem dX1_drop_69 : decode cX1_drop 69 = .ok (.getfield 16, 3) := by decide +kernel
theorem dX1_drop_72 : decode cX1_drop 72 = .ok (.ireturn, 1) := by decide +kernel
theorem dX1_possible_0 : decode cX1_possible 0 = .ok (.aload_n 0, 1) := by decide +kernel
theorem dX1_possible_1 : decode cX1_possible 1 = .ok (.invokevirtual 32, 3) := by decide +kernel
theorem dX1_possible_4 : decode cX1_possible 4 = .ok (.ifCond .lt 7, 3) := by decide +kernel
theorem dX1_possible_7 : decode cX1_possible 7 = .ok (.iconst 1, 1) := by decide +kernel
theorem dX1_possible_8 : decode cX1_possible 8 = .ok (.goto 4, 3) := by decide +kernel
theorem dX1_possible_11 : decode cX1_possible 11 = .ok (.iconst 0, 1) := by decide +kernel
theorem dX1_possible_12 : decode cX1_possible 12 = .ok (.ireturn, 1) := by decide +kernel
theorem dX1_loss_0 : decode cX1_loss 0 = .ok (.iconst (-1), 1) := by decide +kernel
theorem dX1_loss_1 : decode cX1_loss 1 = .ok (.istore_n 1, 1) := by decide +kernel
theorem dX1_loss_2 : decode cX1_loss 2 = .ok (.iconst 0, 1) := by decide +kernel
theorem dX1_loss_3 : decode cX1_loss 3 = .ok (.istore_n 2, 1) := by decide +kernel
theorem dX1_loss_4 : decode cX1_loss 4 = .ok (.iload_n 2, 1) := by decide +kernel
theorem dX1_loss_5 : decode cX1_loss 5 = .ok (.sipush 256, 3) := by decide +kernel
theorem dX1_loss_8 : decode cX1_loss 8 = .ok (.if_icmp .ge 21, 3) := by decide +kernel
theorem dX1_loss_11 : decode cX1_loss 11 = .ok (.aload_n 0, 1) := by decide +kernel
theorem dX1_loss_12 : decode cX1_loss 12 = .ok (.iload_n 2, 1) := by decide +kernel
theorem dX1_loss_13 : decode cX1_loss 13 = .ok (.invokevirtual 36, 3) := by decide +kernel
theorem dX1_loss_16 : decode cX1_loss 16 = .ok (.istore_n 3, 1) := by decide +kernel
theorem dX1_loss_17 : decode cX1_loss 17 = .ok (.iload_n 1, 1) := by decide +kernel
theorem dX1_loss_18 : decode cX1_loss 18 = .ok (.iload_n 3, 1) := by decide +kernel
theorem dX1_loss_19 : decode cX1_loss 19 = .ok (.invokestatic 40, 3) := by decide +kernel
theorem dX1_loss_22 : decode cX1_loss 22 = .ok (.istore_n 1, 1) := by decide +kernel
theorem dX1_loss_23 : decode cX1_loss 23 = .ok (.iinc 2 1, 3) := by decide +kernel
theorem dX1_loss_26 : decode cX1_loss 26 = .ok (.goto (-22), 3) := by decide +kernel
theorem dX1_loss_29 : decode cX1_loss 29 = .ok (.iload_n 1, 1) := by decide +kernel
theorem dX1_loss_30 : decode cX1_loss 30 = .ok (.ireturn, 1) := by decide +kernel
theorem dX1_lossOf_0 : decode cX1_lossOf 0 = .ok (.iconst 0, 1) := by decide +kernel
theorem dX1_lossOf_1 : decode cX1_lossOf 1 = .ok (.istore_n 2, 1) := by decide +kernel
theorem dX1_lossOf_2 : decode cX1_lossOf 2 = .ok (.iconst 0, 1) := by decide +kernel
theorem dX1_lossOf_3 : decode cX1_lossOf 3 = .ok (.istore_n 3, 1) := by decide +kernel
theorem dX1_lossOf_4 : decode cX1_lossOf 4 = .ok (.iload_n 3, 1) := by decide +kernel
theorem dX1_lossOf_5 : decode cX1_lossOf 5 = .ok (.aload_n 0, 1) := by decide +kernel
theorem dX1_lossOf_6 : decode cX1_lossOf 6 = .ok (.getfield 16, 3) := by decide +kernel
theorem dX1_lossOf_9 : decode cX1_lossOf 9 = .ok (.if_icmp .ge 42, 3) := by decide +kernel
theorem dX1_lossOf_12 : decode cX1_lossOf 12 = .ok (.aload_n 0, 1) := by decide +kernel
theorem dX1_lossOf_13 : decode cX1_lossOf 13 = .ok (.getfield 7, 3) := by decide +kernel
theorem dX1_lossOf_16 : decode cX1_lossOf 16 = .ok (.iload_n 3, 1) := by decide +kernel
theorem dX1_lossOf_17 : decode cX1_lossOf 17 = .ok (.iaload, 1) := by decide +kernel
theorem dX1_lossOf_18 : decode cX1_lossOf 18 = .ok (.iload_n 1, 1) := by decide +kernel
theorem dX1_lossOf_19 : decode cX1_lossOf 19 = .ok (.invokestatic 29, 3) := by decide +kernel
theorem dX1_lossOf_22 : decode cX1_lossOf 22 = .ok (.ifCond .ne 23, 3) := by decide +kernel
theorem dX1_lossOf_25 : decode cX1_lossOf 25 = .ok (.aload_n 0, 1) := by decide +kernel
theorem dX1_lossOf_26 : decode cX1_lossOf 26 = .ok (.getfield 13, 3) := by decide +kernel
theorem dX1_lossOf_29 : decode cX1_lossOf 29 = .ok (.iload_n 3, 1) := by decide +kernel
theorem dX1_lossOf_30 : decode cX1_lossOf 30 = .ok (.iaload, 1) := by decide +kernel
theorem dX1_lossOf_31 : decode cX1_lossOf 31 = .ok (.ifCond .ne 5, 3) := by decide +kernel
theorem dX1_lossOf_34 : decode cX1_lossOf 34 = .ok (.iconst (-1), 1) := by decide +kernel
theorem dX1_lossOf_35 : decode cX1_lossOf 35 = .ok (.ireturn, 1) := by decide +kernel
theorem dX1_lossOf_36 : decode cX1_lossOf 36 = .ok (.iload_n 2, 1) := by decide +kernel
theorem dX1_lossOf_37 : decode cX1_lossOf 37 = .ok (.aload_n 0, 1) := by decide +kernel
theorem dX1_lossOf_38 : decode cX1_lossOf 38 = .ok (.getfield 13, 3) := by decide +kernel
theorem dX1_lossOf_41 : decode cX1_lossOf 41 = .ok (.iload_n 3, 1) := by decide +kernel
theorem dX1_lossOf_42 : decode cX1_lossOf 42 = .ok (.iaload, 1) := by decide +kernel
theorem dX1_lossOf_43 : decode cX1_lossOf 43 = .ok (.iadd, 1) := by decide +kernel
theorem dX1_lossOf_44 : decode cX1_lossOf 44 = .ok (.istore_n 2, 1) := by decide +kernel
theorem dX1_lossOf_45 : decode cX1_lossOf 45 = .ok (.iinc 3 1, 3) := by decide +kernel
theorem dX1_lossOf_48 : decode cX1_lossOf 48 = .ok (.goto (-44), 3) := by decide +kernel
theorem dX1_lossOf_51 : decode cX1_lossOf 51 = .ok (.iload_n 2, 1) := by decide +kernel
theorem dX1_lossOf_52 : decode cX1_lossOf 52 = .ok (.ireturn, 1) := by decide +kernel
theorem dX1_holds_0 : decode cX1_holds 0 = .ok (.iconst 0, 1) := by decide +kernel
theorem dX1_holds_1 : decode cX1_holds 1 = .ok (.istore_n 2, 1) := by decide +kernel
theorem dX1_holds_2 : decode cX1_holds 2 = .ok (.iload_n 2, 1) := by decide +kernel
theorem dX1_holds_3 : decode cX1_holds 3 = .ok (.bipush 16, 2) := by decide +kernel
theorem dX1_holds_5 : decode cX1_holds 5 = .ok (.if_icmp .ge 28, 3) := by decide +kernel
theorem dX1_holds_8 : decode cX1_holds 8 = .ok (.iload_n 0, 1) := by decide +kernel
theorem dX1_holds_9 : decode cX1_holds 9 = .ok (.iload_n 2, 1) := by decide +kernel
theorem dX1_holds_10 : decode cX1_holds 10 = .ok (.ishr, 1) := by decide +kernel
theorem dX1_holds_11 : decode cX1_holds 11 = .ok (.iconst 1, 1) := by decide +kernel
theorem dX1_holds_12 : decode cX1_holds 12 = .ok (.iand, 1) := by decide +kernel
theorem dX1_holds_13 : decode cX1_holds 13 = .ok (.iconst 1, 1) := by decide +kernel
theorem dX1_holds_14 : decode cX1_holds 14 = .ok (.if_icmp .ne 13, 3) := by decide +kernel
theorem dX1_holds_17 : decode cX1_holds 17 = .ok (.iload_n 2, 1) := by decide +kernel
theorem dX1_holds_18 : decode cX1_holds 18 = .ok (.iload_n 1, 1) := by decide +kernel
theorem dX1_holds_19 : decode cX1_holds 19 = .ok (.invokestatic 25, 3) := by decide +kernel
theorem dX1_holds_22 : decode cX1_holds 22 = .ok (.ifCond .eq 5, 3) := by decide +kernel
theorem dX1_holds_25 : decode cX1_holds 25 = .ok (.iconst 1, 1) := by decide +kernel
theorem dX1_holds_26 : decode cX1_holds 26 = .ok (.ireturn, 1) := by decide +kernel
theorem dX1_holds_27 : decode cX1_holds 27 = .ok (.iinc 2 1, 3) := by decide +kernel
theorem dX1_holds_30 : decode cX1_holds 30 = .ok (.goto (-28), 3) := by decide +kernel
theorem dX1_holds_33 : decode cX1_holds 33 = .ok (.iconst 0, 1) := by decide +kernel
theorem dX1_holds_34 : decode cX1_holds 34 = .ok (.ireturn, 1) := by decide +kernel
theorem dX1_so_0 : decode cX1_so 0 = .ok (.iload_n 1, 1) := by decide +kernel
theorem dX1_so_1 : decode cX1_so 1 = .ok (.iload_n 0, 1) := by decide +kernel
theorem dX1_so_2 : decode cX1_so 2 = .ok (.iconst 2, 1) := by decide +kernel
theorem dX1_so_3 : decode cX1_so 3 = .ok (.idiv, 1) := by decide +kernel
theorem dX1_so_4 : decode cX1_so 4 = .ok (.ishr, 1) := by decide +kernel
theorem dX1_so_5 : decode cX1_so 5 = .ok (.iconst 1, 1) := by decide +kernel
theorem dX1_so_6 : decode cX1_so 6 = .ok (.iand, 1) := by decide +kernel
theorem dX1_so_7 : decode cX1_so 7 = .ok (.iconst 1, 1) := by decide +kernel
theorem dX1_so_8 : decode cX1_so 8 = .ok (.iload_n 0, 1) := by decide +kernel
theorem dX1_so_9 : decode cX1_so 9 = .ok (.iconst 2, 1) := by decide +kernel
theorem dX1_so_10 : decode cX1_so 10 = .ok (.irem, 1) := by decide +kernel
theorem dX1_so_11 : decode cX1_so 11 = .ok (.isub, 1) := by decide +kernel
theorem dX1_so_12 : decode cX1_so 12 = .ok (.if_icmp .ne 7, 3) := by decide +kernel
theorem dX1_so_15 : decode cX1_so 15 = .ok (.iconst 1, 1) := by decide +kernel
theorem dX1_so_16 : decode cX1_so 16 = .ok (.goto 4, 3) := by decide +kernel
theorem dX1_so_19 : decode cX1_so 19 = .ok (.iconst 0, 1) := by decide +kernel
theorem dX1_so_20 : decode cX1_so 20 = .ok (.ireturn, 1) := by decide +kernel
theorem dX1_lesser_0 : decode cX1_lesser 0 = .ok (.iload_n 0, 1) := by decide +kernel
theorem dX1_lesser_1 : decode cX1_lesser 1 = .ok (.ifCond .lt 12, 3) := by decide +kernel
theorem dX1_lesser_4 : decode cX1_lesser 4 = .ok (.iload_n 1, 1) := by decide +kernel
theorem dX1_lesser_5 : decode cX1_lesser 5 = .ok (.ifCond .lt 12, 3) := by decide +kernel
theorem dX1_lesser_8 : decode cX1_lesser 8 = .ok (.iload_n 1, 1) := by decide +kernel
theorem dX1_lesser_9 : decode cX1_lesser 9 = .ok (.iload_n 0, 1) := by decide +kernel
theorem dX1_lesser_10 : decode cX1_lesser 10 = .ok (.if_icmp .ge 7, 3) := by decide +kernel
theorem dX1_lesser_13 : decode cX1_lesser 13 = .ok (.iload_n 1, 1) := by decide +kernel
theorem dX1_lesser_14 : decode cX1_lesser 14 = .ok (.goto 4, 3) := by decide +kernel
theorem dX1_lesser_17 : decode cX1_lesser 17 = .ok (.iload_n 0, 1) := by decide +kernel
theorem dX1_lesser_18 : decode cX1_lesser 18 = .ok (.ireturn, 1) := by decide +kernel
theorem dX1_best_0 : decode cX1_best 0 = .ok (.aload_n 0, 1) := by decide +kernel
theorem dX1_best_1 : decode cX1_best 1 = .ok (.invokevirtual 32, 3) := by decide +kernel
theorem dX1_best_4 : decode cX1_best 4 = .ok (.istore_n 1, 1) := by decide +kernel
theorem dX1_best_5 : decode cX1_best 5 = .ok (.iconst 0, 1) := by decide +kernel
theorem dX1_best_6 : decode cX1_best 6 = .ok (.istore_n 2, 1) := by decide +kernel
theorem dX1_best_7 : decode cX1_best 7 = .ok (.iload_n 2, 1) := by decide +kernel
theorem dX1_best_8 : decode cX1_best 8 = .ok (.sipush 256, 3) := by decide +kernel
theorem dX1_best_11 : decode cX1_best 11 = .ok (.if_icmp .ge 24, 3) := by decide +kernel
theorem dX1_best_14 : decode cX1_best 14 = .ok (.iload_n 1, 1) := by decide +kernel
theorem dX1_best_15 : decode cX1_best 15 = .ok (.ifCond .lt 20, 3) := by decide +kernel
theorem dX1_best_18 : decode cX1_best 18 = .ok (.aload_n 0, 1) := by decide +kernel
theorem dX1_best_19 : decode cX1_best 19 = .ok (.iload_n 2, 1) := by decide +kernel
theorem dX1_best_20 : decode cX1_best 20 = .ok (.invokevirtual 36, 3) := by decide +kernel
theorem dX1_best_23 : decode cX1_best 23 = .ok (.iload_n 1, 1) := by decide +kernel
theorem dX1_best_24 : decode cX1_best 24 = .ok (.if_icmp .ne 5, 3) := by decide +kernel
theorem dX1_best_27 : decode cX1_best 27 = .ok (.iload_n 2, 1) := by decide +kernel
theorem dX1_best_28 : decode cX1_best 28 = .ok (.ireturn, 1) := by decide +kernel
theorem dX1_best_29 : decode cX1_best 29 = .ok (.iinc 2 1, 3) := by decide +kernel
theorem dX1_best_32 : decode cX1_best 32 = .ok (.goto (-25), 3) := by decide +kernel
theorem dX1_best_35 : decode cX1_best 35 = .ok (.iconst (-1), 1) := by decide +kernel
theorem dX1_best_36 : decode cX1_best 36 = .ok (.ireturn, 1) := by decide +kernel
theorem dX1_lossWith_0 : decode cX1_lossWith 0 = .ok (.iconst (-1), 1) := by decide +kernel
theorem dX1_lossWith_1 : decode cX1_lossWith 1 = .ok (.istore_n 2, 1) := by decide +kernel
theorem dX1_lossWith_2 : decode cX1_lossWith 2 = .ok (.iconst 0, 1) := by decide +kernel
theorem dX1_lossWith_3 : decode cX1_lossWith 3 = .ok (.istore_n 3, 1) := by decide +kernel
theorem dX1_lossWith_4 : decode cX1_lossWith 4 = .ok (.iload_n 3, 1) := by decide +kernel
theorem dX1_lossWith_5 : decode cX1_lossWith 5 = .ok (.sipush 256, 3) := by decide +kernel
theorem dX1_lossWith_8 : decode cX1_lossWith 8 = .ok (.if_icmp .ge 34, 3) := by decide +kernel
theorem dX1_lossWith_11 : decode cX1_lossWith 11 = .ok (.aload_n 0, 1) := by decide +kernel
theorem dX1_lossWith_12 : decode cX1_lossWith 12 = .ok (.iload_n 3, 1) := by decide +kernel
theorem dX1_lossWith_13 : decode cX1_lossWith 13 = .ok (.invokevirtual 36, 3) := by decide +kernel
theorem dX1_lossWith_16 : decode cX1_lossWith 16 = .ok (.istore 4, 2) := by decide +kernel
theorem dX1_lossWith_18 : decode cX1_lossWith 18 = .ok (.iload_n 1, 1) := by decide +kernel
theorem dX1_lossWith_19 : decode cX1_lossWith 19 = .ok (.bipush 15, 2) := by decide +kernel
theorem dX1_lossWith_21 : decode cX1_lossWith 21 = .ok (.iand, 1) := by decide +kernel
theorem dX1_lossWith_22 : decode cX1_lossWith 22 = .ok (.iload_n 3, 1) := by decide +kernel
theorem dX1_lossWith_23 : decode cX1_lossWith 23 = .ok (.invokestatic 25, 3) := by decide +kernel
theorem dX1_lossWith_26 : decode cX1_lossWith 26 = .ok (.ifCond .eq 10, 3) := by decide +kernel
theorem dX1_lossWith_29 : decode cX1_lossWith 29 = .ok (.iload_n 2, 1) := by decide +kernel
theorem dX1_lossWith_30 : decode cX1_lossWith 30 = .ok (.iload 4, 2) := by decide +kernel
theorem dX1_lossWith_32 : decode cX1_lossWith 32 = .ok (.invokestatic 40, 3) := by decide +kernel
theorem dX1_lossWith_35 : decode cX1_lossWith 35 = .ok (.istore_n 2, 1) := by decide +kernel
theorem dX1_lossWith_36 : decode cX1_lossWith 36 = .ok (.iinc 3 1, 3) := by decide +kernel
theorem dX1_lossWith_39 : decode cX1_lossWith 39 = .ok (.goto (-35), 3) := by decide +kernel
theorem dX1_lossWith_42 : decode cX1_lossWith 42 = .ok (.iload_n 2, 1) := by decide +kernel
theorem dX1_lossWith_43 : decode cX1_lossWith 43 = .ok (.ireturn, 1) := by decide +kernel
theorem dX1_lossAgainst_0 : decode cX1_lossAgainst 0 = .ok (.iconst (-1), 1) := by decide +kernel
theorem dX1_lossAgainst_1 : decode cX1_lossAgainst 1 = .ok (.istore_n 2, 1) := by decide +kernel
theorem dX1_lossAgainst_2 : decode cX1_lossAgainst 2 = .ok (.iconst 0, 1) := by decide +kernel
theorem dX1_lossAgainst_3 : decode cX1_lossAgainst 3 = .ok (.istore_n 3, 1) := by decide +kernel
theorem dX1_lossAgainst_4 : decode cX1_lossAgainst 4 = .ok (.iload_n 3, 1) := by decide +kernel
theorem dX1_lossAgainst_5 : decode cX1_lossAgainst 5 = .ok (.sipush 256, 3) := by decide +kernel
theorem dX1_lossAgainst_8 : decode cX1_lossAgainst 8 = .ok (.if_icmp .ge 34, 3) := by decide +kernel
theorem dX1_lossAgainst_11 : decode cX1_lossAgainst 11 = .ok (.aload_n 0, 1) := by decide +kernel
theorem dX1_lossAgainst_12 : decode cX1_lossAgainst 12 = .ok (.iload_n 3, 1) := by decide +kernel
theorem dX1_lossAgainst_13 : decode cX1_lossAgainst 13 = .ok (.invokevirtual 36, 3) := by decide +kernel
theorem dX1_lossAgainst_16 : decode cX1_lossAgainst 16 = .ok (.istore 4, 2) := by decide +kernel
theorem dX1_lossAgainst_18 : decode cX1_lossAgainst 18 = .ok (.iload_n 1, 1) := by decide +kernel
theorem dX1_lossAgainst_19 : decode cX1_lossAgainst 19 = .ok (.ldc 20, 2) := by decide +kernel
theorem dX1_lossAgainst_21 : decode cX1_lossAgainst 21 = .ok (.iand, 1) := by decide +kernel
theorem dX1_lossAgainst_22 : decode cX1_lossAgainst 22 = .ok (.iload_n 3, 1) := by decide +kernel
theorem dX1_lossAgainst_23 : decode cX1_lossAgainst 23 = .ok (.invokestatic 29, 3) := by decide +kernel
theorem dX1_lossAgainst_26 : decode cX1_lossAgainst 26 = .ok (.ifCond .ne 10, 3) := by decide +kernel
theorem dX1_lossAgainst_29 : decode cX1_lossAgainst 29 = .ok (.iload_n 2, 1) := by decide +kernel
theorem dX1_lossAgainst_30 : decode cX1_lossAgainst 30 = .ok (.iload 4, 2) := by decide +kernel
theorem dX1_lossAgainst_32 : decode cX1_lossAgainst 32 = .ok (.invokestatic 40, 3) := by decide +kernel
theorem dX1_lossAgainst_35 : decode cX1_lossAgainst 35 = .ok (.istore_n 2, 1) := by decide +kernel
theorem dX1_lossAgainst_36 : decode cX1_lossAgainst 36 = .ok (.iinc 3 1, 3) := by decide +kernel
theorem dX1_lossAgainst_39 : decode cX1_lossAgainst 39 = .ok (.goto (-35), 3) := by decide +kernel
theorem dX1_lossAgainst_42 : decode cX1_lossAgainst 42 = .ok (.iload_n 2, 1) := by decide +kernel
theorem dX1_lossAgainst_43 : decode cX1_lossAgainst 43 = .ok (.ireturn, 1) := by decide +kernel
theorem dX1_kept_0 : decode cX1_kept 0 = .ok (.aload_n 0, 1) := by decide +kernel
theorem dX1_kept_1 : decode cX1_kept 1 = .ok (.invokevirtual 43, 3) := by decide +kernel
theorem dX1_kept_4 : decode cX1_kept 4 = .ok (.istore_n 1, 1) := by decide +kernel
theorem dX1_kept_5 : decode cX1_kept 5 = .ok (.iload_n 1, 1) := by decide +kernel
theorem dX1_kept_6 : decode cX1_kept 6 = .ok (.ifCond .ge 5, 3) := by decide +kernel
theorem dX1_kept_9 : decode cX1_kept 9 = .ok (.iconst (-1), 1) := by decide +kernel
theorem dX1_kept_10 : decode cX1_kept 10 = .ok (.ireturn, 1) := by decide +kernel
theorem dX1_kept_11 : decode cX1_kept 11 = .ok (.iconst 0, 1) := by decide +kernel
theorem dX1_kept_12 : decode cX1_kept 12 = .ok (.istore_n 2, 1) := by decide +kernel
theorem dX1_kept_13 : decode cX1_kept 13 = .ok (.iconst 0, 1) := by decide +kernel
theorem dX1_kept_14 : decode cX1_kept 14 = .ok (.istore_n 3, 1) := by decide +kernel
theorem dX1_kept_15 : decode cX1_kept 15 = .ok (.iload_n 3, 1) := by decide +kernel
theorem dX1_kept_16 : decode cX1_kept 16 = .ok (.aload_n 0, 1) := by decide +kernel
theorem dX1_kept_17 : decode cX1_kept 17 = .ok (.getfield 16, 3) := by decide +kernel
theorem dX1_kept_20 : decode cX1_kept 20 = .ok (.if_icmp .ge 34, 3) := by decide +kernel
theorem dX1_kept_23 : decode cX1_kept 23 = .ok (.aload_n 0, 1) := by decide +kernel
theorem dX1_kept_24 : decode cX1_kept 24 = .ok (.getfield 13, 3) := by decide +kernel
theorem dX1_kept_27 : decode cX1_kept 27 = .ok (.iload_n 3, 1) := by decide +kernel
theorem dX1_kept_28 : decode cX1_kept 28 = .ok (.iaload, 1) := by decide +kernel
theorem dX1_kept_29 : decode cX1_kept 29 = .ok (.ifCond .le 19, 3) := by decide +kernel
theorem dX1_kept_32 : decode cX1_kept 32 = .ok (.aload_n 0, 1) := by decide +kernel
theorem dX1_kept_33 : decode cX1_kept 33 = .ok (.getfield 7, 3) := by decide +kernel
theorem dX1_kept_36 : decode cX1_kept 36 = .ok (.iload_n 3, 1) := by decide +kernel
theorem dX1_kept_37 : decode cX1_kept 37 = .ok (.iaload, 1) := by decide +kernel
theorem dX1_kept_38 : decode cX1_kept 38 = .ok (.iload_n 1, 1) := by decide +kernel
theorem dX1_kept_39 : decode cX1_kept 39 = .ok (.invokestatic 29, 3) := by decide +kernel
theorem dX1_kept_42 : decode cX1_kept 42 = .ok (.ifCond .eq 6, 3) := by decide +kernel
theorem dX1_kept_45 : decode cX1_kept 45 = .ok (.iinc 2 1, 3) := by decide +kernel
theorem dX1_kept_48 : decode cX1_kept 48 = .ok (.iinc 3 1, 3) := by decide +kernel
theorem dX1_kept_51 : decode cX1_kept 51 = .ok (.goto (-36), 3) := by decide +kernel
theorem dX1_kept_54 : decode cX1_kept 54 = .ok (.iload_n 2, 1) := by decide +kernel
theorem dX1_kept_55 : decode cX1_kept 55 = .ok (.ireturn, 1) := by decide +kernel
theorem dJ0_init_0 : decode cJ0_init 0 = .ok (.return_, 1) := by decide +kernel
end
section
set_option maxRecDepth 100000
theorem dL_law_0 : decode cL_law 0 = .ok (.new 7, 3) := by decide +kernel
theorem dL_law_3 : decode cL_law 3 = .ok (.dup, 1) := by decide +kernel
theorem dL_law_4 : decode cL_law 4 = .ok (.invokespecial 9, 3) := by decide +kernel
theorem dL_law_7 : decode cL_law 7 = .ok (.astore_n 1, 1) := by decide +kernel
theorem dL_law_8 : decode cL_law 8 = .ok (.new 10, 3) := by decide +kernel
theorem dL_law_11 : decode cL_law 11 = .ok (.dup, 1) := by decide +kernel
theorem dL_law_12 : decode cL_law 12 = .ok (.invokespecial 12, 3) := by decide +kernel
theorem dL_law_15 : decode cL_law 15 = .ok (.astore_n 2, 1) := by decide +kernel
theorem dL_law_16 : decode cL_law 16 = .ok (.iconst 0, 1) := by decide +kernel
theorem dL_law_17 : decode cL_law 17 = .ok (.istore_n 3, 1) := by decide +kernel
theorem dL_law_18 : decode cL_law 18 = .ok (.iload_n 3, 1) := by decide +kernel
theorem dL_law_19 : decode cL_law 19 = .ok (.aload_n 0, 1) := by decide +kernel
theorem dL_law_20 : decode cL_law 20 = .ok (.arraylength, 1) := by decide +kernel
theorem dL_law_21 : decode cL_law 21 = .ok (.iconst 3, 1) := by decide +kernel
theorem dL_law_22 : decode cL_law 22 = .ok (.isub, 1) := by decide +kernel
theorem dL_law_23 : decode cL_law 23 = .ok (.if_icmp .gt 244, 3) := by decide +kernel
theorem dL_law_26 : decode cL_law 26 = .ok (.aload_n 0, 1) := by decide +kernel
theorem dL_law_27 : decode cL_law 27 = .ok (.iload_n 3, 1) := by decide +kernel
theorem dL_law_28 : decode cL_law 28 = .ok (.iaload, 1) := by decide +kernel
theorem dL_law_29 : decode cL_law 29 = .ok (.bipush 15, 2) := by decide +kernel
theorem dL_law_31 : decode cL_law 31 = .ok (.iand, 1) := by decide +kernel
theorem dL_law_32 : decode cL_law 32 = .ok (.tableswitch 229 0 8 #[52, 75, 108, 131, 144, 157, 170, 193, 216], 52) := by decide +kernel
theorem dL_law_84 : decode cL_law 84 = .ok (.aload_n 1, 1) := by decide +kernel
theorem dL_law_85 : decode cL_law 85 = .ok (.aload_n 0, 1) := by decide +kernel
theorem dL_law_86 : decode cL_law 86 = .ok (.iload_n 3, 1) := by decide +kernel
theorem dL_law_87 : decode cL_law 87 = .ok (.iconst 1, 1) := by decide +kernel
theorem dL_law_88 : decode cL_law 88 = .ok (.iadd, 1) := by decide +kernel
theorem dL_law_89 : decode cL_law 89 = .ok (.iaload, 1) := by decide +kernel
theorem dL_law_90 : decode cL_law 90 = .ok (.invokevirtual 13, 3) := by decide +kernel
theorem dL_law_93 : decode cL_law 93 = .ok (.aload_n 2, 1) := by decide +kernel
theorem dL_law_94 : decode cL_law 94 = .ok (.aload_n 0, 1) := by decide +kernel
theorem dL_law_95 : decode cL_law 95 = .ok (.iload_n 3, 1) := by decide +kernel
theorem dL_law_96 : decode cL_law 96 = .ok (.iconst 1, 1) := by decide +kernel
theorem dL_law_97 : decode cL_law 97 = .ok (.iadd, 1) := by decide +kernel
theorem dL_law_98 : decode cL_law 98 = .ok (.iaload, 1) := by decide +kernel
theorem dL_law_99 : decode cL_law 99 = .ok (.invokevirtual 17, 3) := by decide +kernel
theorem dL_law_102 : decode cL_law 102 = .ok (.if_icmp .eq 159, 3) := by decide +kernel
theorem dL_law_105 : decode cL_law 105 = .ok (.iconst 0, 1) := by decide +kernel
theorem dL_law_106 : decode cL_law 106 = .ok (.ireturn, 1) := by decide +kernel
theorem dL_law_107 : decode cL_law 107 = .ok (.aload_n 1, 1) := by decide +kernel
theorem dL_law_108 : decode cL_law 108 = .ok (.aload_n 0, 1) := by decide +kernel
theorem dL_law_109 : decode cL_law 109 = .ok (.iload_n 3, 1) := by decide +kernel
theorem dL_law_110 : decode cL_law 110 = .ok (.iconst 1, 1) := by decide +kernel
theorem dL_law_111 : decode cL_law 111 = .ok (.iadd, 1) := by decide +kernel
theorem dL_law_112 : decode cL_law 112 = .ok (.iaload, 1) := by decide +kernel
theorem dL_law_113 : decode cL_law 113 = .ok (.aload_n 0, 1) := by decide +kernel
theorem dL_law_114 : decode cL_law 114 = .ok (.iload_n 3, 1) := by decide +kernel
theorem dL_law_115 : decode cL_law 115 = .ok (.iconst 2, 1) := by decide +kernel
theorem dL_law_116 : decode cL_law 116 = .ok (.iadd, 1) := by decide +kernel
theorem dL_law_117 : decode cL_law 117 = .ok (.iaload, 1) := by decide +kernel
theorem dL_law_118 : decode cL_law 118 = .ok (.invokevirtual 18, 3) := by decide +kernel
theorem dL_law_121 : decode cL_law 121 = .ok (.aload_n 2, 1) := by decide +kernel
theorem dL_law_122 : decode cL_law 122 = .ok (.aload_n 0, 1) := by decide +kernel
theorem dL_law_123 : decode cL_law 123 = .ok (.iload_n 3, 1) := by decide +kernel
theorem dL_law_124 : decode cL_law 124 = .ok (.iconst 1, 1) := by decide +kernel
theorem dL_law_125 : decode cL_law 125 = .ok (.iadd, 1) := by decide +kernel
theorem dL_law_126 : decode cL_law 126 = .ok (.iaload, 1) := by decide +kernel
theorem dL_law_127 : decode cL_law 127 = .ok (.aload_n 0, 1) := by decide +kernel
theorem dL_law_128 : decode cL_law 128 = .ok (.iload_n 3, 1) := by decide +kernel
theorem dL_law_129 : decode cL_law 129 = .ok (.iconst 2, 1) := by decide +kernel
theorem dL_law_130 : decode cL_law 130 = .ok (.iadd, 1) := by decide +kernel
theorem dL_law_131 : decode cL_law 131 = .ok (.iaload, 1) := by decide +kernel
theorem dL_law_132 : decode cL_law 132 = .ok (.invokevirtual 22, 3) := by decide +kernel
theorem dL_law_135 : decode cL_law 135 = .ok (.if_icmp .eq 126, 3) := by decide +kernel
theorem dL_law_138 : decode cL_law 138 = .ok (.iconst 0, 1) := by decide +kernel
theorem dL_law_139 : decode cL_law 139 = .ok (.ireturn, 1) := by decide +kernel
theorem dL_law_140 : decode cL_law 140 = .ok (.aload_n 1, 1) := by decide +kernel
theorem dL_law_141 : decode cL_law 141 = .ok (.aload_n 0, 1) := by decide +kernel
theorem dL_law_142 : decode cL_law 142 = .ok (.iload_n 3, 1) := by decide +kernel
theorem dL_law_143 : decode cL_law 143 = .ok (.iconst 1, 1) := by decide +kernel
theorem dL_law_144 : decode cL_law 144 = .ok (.iadd, 1) := by decide +kernel
theorem dL_law_145 : decode cL_law 145 = .ok (.iaload, 1) := by decide +kernel
theorem dL_law_146 : decode cL_law 146 = .ok (.invokevirtual 23, 3) := by decide +kernel
theorem dL_law_149 : decode cL_law 149 = .ok (.aload_n 2, 1) := by decide +kernel
theorem dL_law_150 : decode cL_law 150 = .ok (.aload_n 0, 1) := by decide +kernel
theorem dL_law_151 : decode cL_law 151 = .ok (.iload_n 3, 1) := by decide +kernel
theorem dL_law_152 : decode cL_law 152 = .ok (.iconst 1, 1) := by decide +kernel
theorem dL_law_153 : decode cL_law 153 = .ok (.iadd, 1) := by decide +kernel
theorem dL_law_154 : decode cL_law 154 = .ok (.iaload, 1) := by decide +kernel
theorem dL_law_155 : decode cL_law 155 = .ok (.invokevirtual 26, 3) := by decide +kernel
theorem dL_law_158 : decode cL_law 158 = .ok (.if_icmp .eq 103, 3) := by decide +kernel
theorem dL_law_161 : decode cL_law 161 = .ok (.iconst 0, 1) := by decide +kernel
theorem dL_law_162 : decode cL_law 162 = .ok (.ireturn, 1) := by decide +kernel
theorem dL_law_163 : decode cL_law 163 = .ok (.aload_n 1, 1) := by decide +kernel
theorem dL_law_164 : decode cL_law 164 = .ok (.invokevirtual 27, 3) := by decide +kernel
theorem dL_law_167 : decode cL_law 167 = .ok (.aload_n 2, 1) := by decide +kernel
theorem dL_law_168 : decode cL_law 168 = .ok (.invokevirtual 31, 3) := by decide +kernel
theorem dL_law_171 : decode cL_law 171 = .ok (.if_icmp .eq 90, 3) := by decide +kernel
theorem dL_law_174 : decode cL_law 174 = .ok (.iconst 0, 1) := by decide +kernel
theorem dL_law_175 : decode cL_law 175 = .ok (.ireturn, 1) := by decide +kernel
theorem dL_law_176 : decode cL_law 176 = .ok (.aload_n 1, 1) := by decide +kernel
theorem dL_law_177 : decode cL_law 177 = .ok (.invokevirtual 32, 3) := by decide +kernel
theorem dL_law_180 : decode cL_law 180 = .ok (.aload_n 2, 1) := by decide +kernel
theorem dL_law_181 : decode cL_law 181 = .ok (.invokevirtual 35, 3) := by decide +kernel
theorem dL_law_184 : decode cL_law 184 = .ok (.if_icmp .eq 77, 3) := by decide +kernel
theorem dL_law_187 : decode cL_law 187 = .ok (.iconst 0, 1) := by decide +kernel
theorem dL_law_188 : decode cL_law 188 = .ok (.ireturn, 1) := by decide +kernel
theorem dL_law_189 : decode cL_law 189 = .ok (.aload_n 1, 1) := by decide +kernel
theorem dL_law_190 : decode cL_law 190 = .ok (.invokevirtual 36, 3) := by decide +kernel
theorem dL_law_193 : decode cL_law 193 = .ok (.aload_n 2, 1) := by decide +kernel
theorem dL_law_194 : decode cL_law 194 = .ok (.invokevirtual 39, 3) := by decide +kernel
theorem dL_law_197 : decode cL_law 197 = .ok (.if_icmp .eq 64, 3) := by decide +kernel
theorem dL_law_200 : decode cL_law 200 = .ok (.iconst 0, 1) := by decide +kernel
theorem dL_law_201 : decode cL_law 201 = .ok (.ireturn, 1) := by decide +kernel
theorem dL_law_202 : decode cL_law 202 = .ok (.aload_n 1, 1) := by decide +kernel
theorem dL_law_203 : decode cL_law 203 = .ok (.aload_n 0, 1) := by decide +kernel
theorem dL_law_204 : decode cL_law 204 = .ok (.iload_n 3, 1) := by decide +kernel
theorem dL_law_205 : decode cL_law 205 = .ok (.iconst 1, 1) := by decide +kernel
theorem dL_law_206 : decode cL_law 206 = .ok (.iadd, 1) := by decide +kernel
theorem dL_law_207 : decode cL_law 207 = .ok (.iaload, 1) := by decide +kernel
theorem dL_law_208 : decode cL_law 208 = .ok (.invokevirtual 40, 3) := by decide +kernel
theorem dL_law_211 : decode cL_law 211 = .ok (.aload_n 2, 1) := by decide +kernel
theorem dL_law_212 : decode cL_law 212 = .ok (.aload_n 0, 1) := by decide +kernel
theorem dL_law_213 : decode cL_law 213 = .ok (.iload_n 3, 1) := by decide +kernel
theorem dL_law_214 : decode cL_law 214 = .ok (.iconst 1, 1) := by decide +kernel
theorem dL_law_215 : decode cL_law 215 = .ok (.iadd, 1) := by decide +kernel
theorem dL_law_216 : decode cL_law 216 = .ok (.iaload, 1) := by decide +kernel
theorem dL_law_217 : decode cL_law 217 = .ok (.invokevirtual 43, 3) := by decide +kernel
theorem dL_law_220 : decode cL_law 220 = .ok (.if_icmp .eq 41, 3) := by decide +kernel
theorem dL_law_223 : decode cL_law 223 = .ok (.iconst 0, 1) := by decide +kernel
theorem dL_law_224 : decode cL_law 224 = .ok (.ireturn, 1) := by decide +kernel
theorem dL_law_225 : decode cL_law 225 = .ok (.aload_n 1, 1) := by decide +kernel
theorem dL_law_226 : decode cL_law 226 = .ok (.aload_n 0, 1) := by decide +kernel
theorem dL_law_227 : decode cL_law 227 = .ok (.iload_n 3, 1) := by decide +kernel
theorem dL_law_228 : decode cL_law 228 = .ok (.iconst 1, 1) := by decide +kernel
theorem dL_law_229 : decode cL_law 229 = .ok (.iadd, 1) := by decide +kernel
theorem dL_law_230 : decode cL_law 230 = .ok (.iaload, 1) := by decide +kernel
theorem dL_law_231 : decode cL_law 231 = .ok (.invokevirtual 44, 3) := by decide +kernel
theorem dL_law_234 : decode cL_law 234 = .ok (.aload_n 2, 1) := by decide +kernel
theorem dL_law_235 : decode cL_law 235 = .ok (.aload_n 0, 1) := by decide +kernel
theorem dL_law_236 : decode cL_law 236 = .ok (.iload_n 3, 1) := by decide +kernel
theorem dL_law_237 : decode cL_law 237 = .ok (.iconst 1, 1) := by decide +kernel
theorem dL_law_238 : decode cL_law 238 = .ok (.iadd, 1) := by decide +kernel
theorem dL_law_239 : decode cL_law 239 = .ok (.iaload, 1) := by decide +kernel
theorem dL_law_240 : decode cL_law 240 = .ok (.invokevirtual 47, 3) := by decide +kernel
theorem dL_law_243 : decode cL_law 243 = .ok (.if_icmp .eq 18, 3) := by decide +kernel
theorem dL_law_246 : decode cL_law 246 = .ok (.iconst 0, 1) := by decide +kernel
theorem dL_law_247 : decode cL_law 247 = .ok (.ireturn, 1) := by decide +kernel
theorem dL_law_248 : decode cL_law 248 = .ok (.aload_n 1, 1) := by decide +kernel
theorem dL_law_249 : decode cL_law 249 = .ok (.invokevirtual 48, 3) := by decide +kernel
theorem dL_law_252 : decode cL_law 252 = .ok (.aload_n 2, 1) := by decide +kernel
theorem dL_law_253 : decode cL_law 253 = .ok (.invokevirtual 51, 3) := by decide +kernel
theorem dL_law_256 : decode cL_law 256 = .ok (.if_icmp .eq 5, 3) := by decide +kernel
theorem dL_law_259 : decode cL_law 259 = .ok (.iconst 0, 1) := by decide +kernel
theorem dL_law_260 : decode cL_law 260 = .ok (.ireturn, 1) := by decide +kernel
theorem dL_law_261 : decode cL_law 261 = .ok (.iinc 3 3, 3) := by decide +kernel
theorem dL_law_264 : decode cL_law 264 = .ok (.goto (-246), 3) := by decide +kernel
theorem dL_law_267 : decode cL_law 267 = .ok (.iconst 1, 1) := by decide +kernel
theorem dL_law_268 : decode cL_law 268 = .ok (.ireturn, 1) := by decide +kernel
end
section
/-! ===== Int32 by its bits: bt x i ===== -/
def bt (x : Int32) (i : Nat) : Bool := x.toBitVec.getLsbD i
theorem b_ext {x y : Int32} (h : ∀ i, i < 32 → bt x i = bt y i) : x = y := Int32.toBitVec_inj.mp (BitVec.eq_of_getLsbD_eq (fun i hi => h i hi))
theorem b_or (x y : Int32) (i : Nat) : bt (x ||| y) i = (bt x i || bt y i) := by unfold bt; rw [Int32.toBitVec_or, BitVec.getLsbD_or]
theorem b_and (x y : Int32) (i : Nat) : bt (x &&& y) i = (bt x i && bt y i) := by unfold bt; rw [Int32.toBitVec_and, BitVec.getLsbD_and]
theorem b_xor (x y : Int32) (i : Nat) : bt (x ^^^ y) i = (bt x i ^^ bt y i) := by unfold bt; rw [Int32.toBitVec_xor, BitVec.getLsbD_xor]
theorem b_big {x : Int32} {i : Nat} (h : 32 ≤ i) : bt x i = false := BitVec.getLsbD_of_ge _ _ h
theorem b_255 (i : Nat) : bt 255 i = decide (i < 8) := by
  rcases Nat.lt_or_ge i 32 with h | h
  · exact (by decide +kernel : ∀ i, i < 32 → bt 255 i = decide (i < 8)) i h
  · rw [b_big h, decide_eq_false (by omega)]
theorem b_65535 (i : Nat) : bt 65535 i = decide (i < 16) := by
  rcases Nat.lt_or_ge i 32 with h | h
  · exact (by decide +kernel : ∀ i, i < 32 → bt 65535 i = decide (i < 16)) i h
  · rw [b_big h, decide_eq_false (by omega)]
theorem b_m1 : ∀ i, i < 32 → bt (-1) i = true := by decide +kernel
theorem b_0 (i : Nat) : bt 0 i = false := BitVec.getLsbD_zero
theorem s_l : ∀ n, n < 32 → ((nI n &&& 31).toBitVec.smod 32).toNat = n := by decide +kernel
theorem s_u : ∀ n, n < 32 → (((nI n).toUInt32 &&& Int32.toUInt32 31).toBitVec % 32).toNat = n := by decide +kernel
theorem b_shl (n : Nat) (hn : n < 32) (x : Int32) {i : Nat} (hi : i < 32) : bt (x <<< (nI n &&& 31)) i = (decide (n ≤ i) && bt x (i - n)) := by
  unfold bt
  rw [Int32.toBitVec_shiftLeft]
  show (x.toBitVec <<< ((nI n &&& 31).toBitVec.smod 32).toNat).getLsbD i = _
  rw [s_l n hn, BitVec.getLsbD_shiftLeft]
  rcases Nat.lt_or_ge i n with h | h
  · simp [h, Nat.not_le.mpr h]
  · simp [hi, h, Nat.not_lt.mpr h]
theorem b_ushr (n : Nat) (hn : n < 32) (x : Int32) (i : Nat) : bt ((x.toUInt32 >>> ((nI n).toUInt32 &&& Int32.toUInt32 31)).toInt32) i = bt x (n + i) := by
  show (x.toUInt32 >>> ((nI n).toUInt32 &&& Int32.toUInt32 31)).toBitVec.getLsbD i = x.toUInt32.toBitVec.getLsbD (n + i)
  rw [UInt32.toBitVec_shiftRight]
  show (x.toUInt32.toBitVec >>> (((nI n).toUInt32 &&& Int32.toUInt32 31).toBitVec % 32).toNat).getLsbD i = _
  rw [s_u n hn, BitVec.getLsbD_ushiftRight]
theorem b_sshr (n : Nat) (hn : n < 32) (x : Int32) {i : Nat} (hi : i < 32) : bt (x >>> (nI n &&& 31)) i = if n + i < 32 then bt x (n + i) else bt x 31 := by
  unfold bt
  rw [Int32.toBitVec_shiftRight]
  show (x.toBitVec.sshiftRight ((nI n &&& 31).toBitVec.smod 32).toNat).getLsbD i = _
  rw [s_l n hn, BitVec.getLsbD_sshiftRight, BitVec.msb_eq_getLsbD_last]
  simp [hi]
theorem b_shl8 (x : Int32) {i : Nat} (hi : i < 32) : bt (x <<< ((8 : Int32) &&& 31)) i = (decide (8 ≤ i) && bt x (i - 8)) := b_shl 8 (by omega) x hi
theorem b_shl16 (x : Int32) {i : Nat} (hi : i < 32) : bt (x <<< ((16 : Int32) &&& 31)) i = (decide (16 ≤ i) && bt x (i - 16)) := b_shl 16 (by omega) x hi
theorem b_shl24 (x : Int32) {i : Nat} (hi : i < 32) : bt (x <<< ((24 : Int32) &&& 31)) i = (decide (24 ≤ i) && bt x (i - 24)) := b_shl 24 (by omega) x hi
theorem b_sshr8 (x : Int32) {i : Nat} (hi : i < 32) : bt (x >>> ((8 : Int32) &&& 31)) i = if 8 + i < 32 then bt x (8 + i) else bt x 31 := b_sshr 8 (by omega) x hi
/-! ===== nI under and, xor, >>>, one bit, 65535 ===== -/
theorem nx_and (a b : Nat) : nI a &&& nI b = nI (a &&& b) := by
  apply Int32.toBitVec_inj.1
  show BitVec.ofNat 32 a &&& BitVec.ofNat 32 b = BitVec.ofNat 32 (a &&& b)
  apply BitVec.eq_of_getLsbD_eq
  intro i hi
  simp [hi]
theorem nx_xor (a b : Nat) : nI a ^^^ nI b = nI (a ^^^ b) := by
  apply Int32.toBitVec_inj.1
  show BitVec.ofNat 32 a ^^^ BitVec.ofNat 32 b = BitVec.ofNat 32 (a ^^^ b)
  apply BitVec.eq_of_getLsbD_eq
  intro i hi
  simp [hi]
theorem nx_cnt : ∀ j : Fin 32, (UInt32.ofNat j.val &&& Int32.toUInt32 31).toNat % 32 = j.val := by decide +kernel
theorem nx_ush {k j : Nat} (hk : k < 65536) (hj : j < 32) : ((nI k).toUInt32 >>> ((nI j).toUInt32 &&& Int32.toUInt32 31)).toInt32 = nI (k >>> j) := by
  have hs : k >>> j ≤ k := by
    rw [Nat.shiftRight_eq_div_pow]
    exact Nat.div_le_self _ _
  have e2 : UInt32.ofNat k >>> (UInt32.ofNat j &&& Int32.toUInt32 31) = UInt32.ofNat (k >>> j) := by
    apply UInt32.toNat_inj.1
    have h1 : (UInt32.ofNat k).toNat = k := Nat.mod_eq_of_lt (by omega)
    have h2 : (UInt32.ofNat (k >>> j)).toNat = k >>> j := Nat.mod_eq_of_lt (by omega)
    rw [UInt32.toNat_shiftRight, nx_cnt ⟨j, hj⟩, h1, h2]
  show (UInt32.ofNat k >>> (UInt32.ofNat j &&& Int32.toUInt32 31)).toInt32 = _
  rw [e2]
  rfl
theorem nx_bit {k j : Nat} (hk : k < 65536) (hj : j < 16) : (((nI k).toUInt32 >>> ((nI j).toUInt32 &&& Int32.toUInt32 31)).toInt32 &&& 1) = 0 ↔ k.testBit j = false := by
  rw [nx_ush hk (by omega)]
  show nI (k >>> j) &&& nI 1 = 0 ↔ _
  rw [nx_and, Nat.and_one_is_mod, ← nI_0, nI_eq (by omega) (by omega), Nat.testBit_eq_decide_div_mod_eq, Nat.shiftRight_eq_div_pow, decide_eq_false_iff_not]
  generalize k / 2 ^ j = z
  omega
theorem nx_mod (k : Nat) : nI k &&& 65535 = nI (k % 65536) := by
  show nI k &&& nI 65535 = _
  rw [nx_and, show (65535 : Nat) = 2 ^ 16 - 1 from rfl, Nat.and_two_pow_sub_one_eq_mod]
theorem nx_m16 {k : Nat} (h : k < 65536) : nI k &&& 65535 = nI k := by rw [nx_mod, Nat.mod_eq_of_lt h]
theorem nx_mask (x : Int32) : ∃ k, k < 65536 ∧ x &&& 65535 = nI k := by
  have e : x = nI x.toBitVec.toNat := by
    apply Int32.toBitVec_inj.1
    show x.toBitVec = BitVec.ofNat 32 x.toBitVec.toNat
    simp
  refine ⟨x.toBitVec.toNat % 65536, Nat.mod_lt _ (by omega), ?_⟩
  rw [← nx_mod, ← e]
/-! ===== order of ints, in all its forms, and through longs ===== -/
theorem fa_lt (a b : Int32) : a < b ↔ a.toInt < b.toInt := Int32.lt_iff_toInt_lt
theorem fa_le (a b : Int32) : a ≤ b ↔ a.toInt ≤ b.toInt := Int32.le_iff_toInt_le
theorem fa_eq (a b : Int32) : a = b ↔ a.toInt = b.toInt := Int32.toInt_inj.symm
theorem fa_lt64 (a b : Int64) : a < b ↔ a.toInt < b.toInt := Int64.lt_iff_toInt_lt
theorem fa_le64 (a b : Int64) : a ≤ b ↔ a.toInt ≤ b.toInt := Int64.le_iff_toInt_le
theorem fa_eq64 (a b : Int64) : a = b ↔ a.toInt = b.toInt := Int64.toInt_inj.symm
/-- a comparison of two ints taken as longs -/
theorem fa_wide_lt (a b : Int32) : a.toInt64 < b.toInt64 ↔ a < b := by rw [fa_lt64, fa_lt, Int32.toInt_toInt64, Int32.toInt_toInt64]
theorem fa_wide_le (a b : Int32) : a.toInt64 ≤ b.toInt64 ↔ a ≤ b := by rw [fa_le64, fa_le, Int32.toInt_toInt64, Int32.toInt_toInt64]
theorem fa_wide_eq (a b : Int32) : a.toInt64 = b.toInt64 ↔ a = b := by rw [fa_eq64, fa_eq, Int32.toInt_toInt64, Int32.toInt_toInt64]
/-- one strict comparison gives all the others -/
theorem fa_of_lt {a b : Int32} (h : a < b) : a ≤ b ∧ ¬ b ≤ a ∧ ¬ b < a ∧ a ≠ b ∧ b ≠ a := by
  rw [fa_lt] at h
  refine ⟨?_, ?_, ?_, ?_, ?_⟩
  · rw [fa_le]; omega
  · rw [fa_le]; omega
  · rw [fa_lt]; omega
  · intro e; rw [fa_eq] at e; omega
  · intro e; rw [fa_eq] at e; omega
theorem fa_of_nlt {a b : Int32} (h : ¬ a < b) : b ≤ a := by
  rw [fa_lt] at h
  rw [fa_le]
  omega
theorem fa_of_nle {a b : Int32} (h : ¬ a ≤ b) : b < a := by
  rw [fa_le] at h
  rw [fa_lt]
  omega
theorem fa_le_ne {a b : Int32} (h : a ≤ b) (h2 : a ≠ b) : a < b := by
  rw [fa_le] at h
  rw [fa_lt]
  have h3 : a.toInt ≠ b.toInt := fun e => h2 ((fa_eq a b).mpr e)
  omega
theorem fa_three (a b : Int32) : a < b ∨ a = b ∨ b < a := by
  rw [fa_lt, fa_lt, fa_eq]
  omega
theorem fa_trans {a b c : Int32} (h : a < b) (h2 : b ≤ c) : a < c := by
  rw [fa_lt] at *
  rw [fa_le] at h2
  omega
/-! ===== small literals as numbers ===== -/
theorem fa_lit (n : Nat) : (OfNat.ofNat n : Int32) = nI n := rfl
theorem fa_litL (n : Nat) : (OfNat.ofNat n : Int64) = lN n := rfl
/-! ===== bits of a number: 'or', masks, one bit ===== -/
theorem fa_and (a b : Nat) : nI a &&& nI b = nI (a &&& b) := by
  apply Int32.toBitVec_inj.1
  show BitVec.ofNat 32 a &&& BitVec.ofNat 32 b = BitVec.ofNat 32 (a &&& b)
  apply BitVec.eq_of_getLsbD_eq
  intro i hi
  simp [hi]
theorem fa_or (a b : Nat) : nI a ||| nI b = nI (a ||| b) := by
  apply Int32.toBitVec_inj.1
  show BitVec.ofNat 32 a ||| BitVec.ofNat 32 b = BitVec.ofNat 32 (a ||| b)
  apply BitVec.eq_of_getLsbD_eq
  intro i hi
  simp [hi]
/-- a remainder by a power of two, as a mask -/
theorem fa_mask (n k : Nat) : nI n &&& nI (2 ^ k - 1) = nI (n % 2 ^ k) := by rw [fa_and, Nat.and_two_pow_sub_one_eq_mod]
/-- 'or' of a high part and a low one that don't meet is their sum -/
theorem fa_or_sum {a k : Nat} (b : Nat) (h : a < 2 ^ k) : nI (2 ^ k * b) ||| nI a = nI (2 ^ k * b + a) := by rw [fa_or, Nat.two_pow_add_eq_or_of_lt h]
/-- one bit, by 'and' with a power of two -/
theorem fa_bit {n j : Nat} (hj : j < 31) : nI n &&& nI (2 ^ j) = 0 ↔ n.testBit j = false := by
  have h2 : (2 : Nat) ^ j < 2 ^ 31 := Nat.pow_lt_pow_right (by decide) hj
  have hle : n &&& 2 ^ j ≤ 2 ^ j := Nat.and_le_right
  have e : n &&& 2 ^ j = 0 ↔ n.testBit j = false := by
    constructor
    · intro h
      have h1 : (n &&& 2 ^ j).testBit j = false := by rw [h]; simp
      rw [Nat.testBit_and] at h1
      first | simpa using h1 | simpa [Nat.testBit_two_pow_self] using h1 | simpa [Nat.testBit_two_pow] using h1
    · intro h
      apply Nat.eq_of_testBit_eq
      intro i
      rw [Nat.testBit_and]
      by_cases hi : j = i
      · subst hi; simp [h]
      · first | (simp [Nat.testBit_two_pow, hi]; done) | (simp [Nat.testBit_two_pow_of_ne hi]; done)
  rw [fa_and]
  constructor
  · intro h
    apply e.mp
    rcases Nat.eq_zero_or_pos (n &&& 2 ^ j) with z | z
    · exact z
    · exact absurd h (nI_ne0 z (Nat.lt_of_le_of_lt hle h2))
  · intro h
    rw [e.mpr h]; exact nI_0
/-- a remainder by a power of two of a number that isn't negative, as Java divides -/
theorem fa_rem {a k : Nat} (ha : a < 2 ^ 31) (hk : k < 31) : nI a - nI a / nI (2 ^ k) * nI (2 ^ k) = nI (a % 2 ^ k) := pk_rem ha (Nat.two_pow_pos k) (Nat.pow_lt_pow_right (by decide) hk)
/-! ===== how many places have a property ===== -/
def fb_ct (p : Nat → Bool) : Nat → Nat
  | 0 => 0
  | n + 1 => fb_ct p n + (if p n then 1 else 0)
theorem fb_ct_succ (p : Nat → Bool) (n : Nat) : fb_ct p (n + 1) = fb_ct p n + (if p n then 1 else 0) := rfl
theorem fb_ct_le (p : Nat → Bool) : ∀ n, fb_ct p n ≤ n
  | 0 => Nat.le_refl _
  | n + 1 => by
    have h := fb_ct_le p n
    rw [fb_ct_succ]
    split <;> omega
theorem fb_ct_step (p : Nat → Bool) (m : Nat) : ∀ n, fb_ct p m ≤ fb_ct p (m + n)
  | 0 => Nat.le_refl _
  | n + 1 => by
    have h := fb_ct_step p m n
    show fb_ct p m ≤ fb_ct p (m + n + 1)
    rw [fb_ct_succ]
    omega
theorem fb_ct_mono (p : Nat → Bool) {m n : Nat} (h : m ≤ n) : fb_ct p m ≤ fb_ct p n := by
  have := fb_ct_step p m (n - m)
  rwa [Nat.add_sub_cancel' h] at this
theorem fb_ct_cong {p q : Nat → Bool} : ∀ {n : Nat}, (∀ k, k < n → p k = q k) → fb_ct p n = fb_ct q n
  | 0, _ => rfl
  | n + 1, h => by
    rw [fb_ct_succ, fb_ct_succ, fb_ct_cong (fun k hk => h k (by omega)), h n (by omega)]
/-- one place changed -/
theorem fb_ct_out (p : Nat → Bool) (b : Bool) {i n : Nat} (h : n ≤ i) : fb_ct (fun k => if k = i then b else p k) n = fb_ct p n :=
  fb_ct_cong fun k hk => if_neg (by omega)
theorem fb_ct_upd (p : Nat → Bool) (b : Bool) {i : Nat} : ∀ {n : Nat}, i < n → fb_ct (fun k => if k = i then b else p k) n + (if p i then 1 else 0) = fb_ct p n + (if b then 1 else 0)
  | 0, h => absurd h (Nat.not_lt_zero i)
  | n + 1, h => by
    rw [fb_ct_succ, fb_ct_succ]
    rcases Nat.lt_or_ge i n with q | q
    · have := fb_ct_upd p b q
      have e : (if n = i then b else p n) = p n := if_neg (by omega)
      rw [e]
      omega
    · have e : i = n := by omega
      subst e
      rw [fb_ct_out p b (Nat.le_refl _)]
      simp only [if_true]
      omega
theorem fb_ct_sub {p q : Nat → Bool} : ∀ {n : Nat}, (∀ k, k < n → p k = true → q k = true) → fb_ct p n ≤ fb_ct q n
  | 0, _ => Nat.le_refl _
  | n + 1, h => by
    have h1 := fb_ct_sub (n := n) (p := p) (q := q) (fun k hk => h k (by omega))
    have h2 := h n (by omega)
    rw [fb_ct_succ, fb_ct_succ]
    cases hp : p n <;> cases hq : q n <;> simp_all <;> omega
theorem fb_ct_or {p q : Nat → Bool} : ∀ {n : Nat}, (∀ k, k < n → ¬ (p k = true ∧ q k = true)) → fb_ct (fun k => p k || q k) n = fb_ct p n + fb_ct q n
  | 0, _ => rfl
  | n + 1, h => by
    have h1 := fb_ct_or (n := n) (p := p) (q := q) (fun k hk => h k (by omega))
    have h2 := h n (by omega)
    rw [fb_ct_succ, fb_ct_succ, fb_ct_succ, h1]
    cases hp : p n <;> cases hq : q n <;> simp_all <;> omega
theorem fb_ct_not (p : Nat → Bool) : ∀ n, fb_ct p n + fb_ct (fun k => !p k) n = n
  | 0 => rfl
  | n + 1 => by
    have h := fb_ct_not p n
    rw [fb_ct_succ, fb_ct_succ]
    cases p n <;> simp <;> omega
/-! ===== sums over a range: one place changed, parts, bounds ===== -/
def fb_sm (f : Nat → Nat) : Nat → Nat
  | 0 => 0
  | n + 1 => fb_sm f n + f n
theorem fb_sm_succ (f : Nat → Nat) (n : Nat) : fb_sm f (n + 1) = fb_sm f n + f n := rfl
theorem fb_sm_cong {f g : Nat → Nat} : ∀ {n : Nat}, (∀ k, k < n → f k = g k) → fb_sm f n = fb_sm g n
  | 0, _ => rfl
  | n + 1, h => by rw [fb_sm_succ, fb_sm_succ, fb_sm_cong (fun k hk => h k (by omega)), h n (by omega)]
theorem fb_sm_out (f : Nat → Nat) (v : Nat) {i n : Nat} (h : n ≤ i) : fb_sm (fun k => if k = i then v else f k) n = fb_sm f n :=
  fb_sm_cong fun k hk => if_neg (by omega)
theorem fb_sm_upd (f : Nat → Nat) (v : Nat) {i : Nat} : ∀ {n : Nat}, i < n → fb_sm (fun k => if k = i then v else f k) n + f i = fb_sm f n + v
  | 0, h => absurd h (Nat.not_lt_zero i)
  | n + 1, h => by
    rw [fb_sm_succ, fb_sm_succ]
    rcases Nat.lt_or_ge i n with q | q
    · have := fb_sm_upd f v q
      have e : (if n = i then v else f n) = f n := if_neg (by omega)
      rw [e]
      omega
    · have e : i = n := by omega
      subst e
      rw [fb_sm_out f v (Nat.le_refl _)]
      simp only [if_true]
      omega
theorem fb_sm_add (f g : Nat → Nat) : ∀ n, fb_sm (fun k => f k + g k) n = fb_sm f n + fb_sm g n
  | 0 => rfl
  | n + 1 => by
    have h := fb_sm_add f g n
    rw [fb_sm_succ, fb_sm_succ, fb_sm_succ, h]
    omega
theorem fb_sm_le {f g : Nat → Nat} : ∀ {n : Nat}, (∀ k, k < n → f k ≤ g k) → fb_sm f n ≤ fb_sm g n
  | 0, _ => Nat.le_refl _
  | n + 1, h => by
    have h1 := fb_sm_le (n := n) (f := f) (g := g) (fun k hk => h k (by omega))
    have h2 := h n (by omega)
    rw [fb_sm_succ, fb_sm_succ]
    omega
theorem fb_sm_const (c : Nat) : ∀ n, fb_sm (fun _ => c) n = n * c
  | 0 => by rw [Nat.zero_mul]; rfl
  | n + 1 => by rw [fb_sm_succ, fb_sm_const c n, Nat.succ_mul]
theorem fb_sm_bound {f : Nat → Nat} {c n : Nat} (h : ∀ k, k < n → f k ≤ c) : fb_sm f n ≤ n * c := by
  rw [← fb_sm_const c n]
  exact fb_sm_le h
theorem fb_sm_mono (f : Nat → Nat) (m : Nat) : ∀ n, fb_sm f m ≤ fb_sm f (m + n)
  | 0 => Nat.le_refl _
  | n + 1 => by
    have h := fb_sm_mono f m n
    show fb_sm f m ≤ fb_sm f (m + n + 1)
    rw [fb_sm_succ]
    omega
theorem fb_sm_part (f : Nat → Nat) {i n : Nat} (h : i < n) : fb_sm f i + f i ≤ fb_sm f n := by
  have := fb_sm_mono f (i + 1) (n - (i + 1))
  rw [fb_sm_succ, show i + 1 + (n - (i + 1)) = n by omega] at this
  exact this
theorem fb_sm_split (f : Nat → Nat) (m : Nat) : ∀ n, fb_sm f (m + n) = fb_sm f m + fb_sm (fun k => f (m + k)) n
  | 0 => rfl
  | n + 1 => by
    have h := fb_sm_split f m n
    show fb_sm f (m + n + 1) = _
    rw [fb_sm_succ, fb_sm_succ, h, Nat.add_assoc]
theorem fb_sm_zero {f : Nat → Nat} {n : Nat} (h : fb_sm f n = 0) : ∀ k, k < n → f k = 0 := fun k hk => by
  have := fb_sm_part f hk
  omega
/-! ===== signed ints as whole numbers, within bounds ===== -/
theorem fb_rng (x : Int32) : -2147483648 ≤ x.toInt ∧ x.toInt < 2147483648 := by
  have h1 := Int32.le_toInt x
  have h2 := Int32.toInt_lt x
  omega
theorem fb_bmod {z : Int} (h1 : -2147483648 ≤ z) (h2 : z < 2147483648) : z.bmod (2 ^ 32) = z := by
  rw [Int.bmod_eq_of_le (by omega) (by omega)]
theorem fb_addI {x y : Int32} (h1 : -2147483648 ≤ x.toInt + y.toInt) (h2 : x.toInt + y.toInt < 2147483648) : (x + y).toInt = x.toInt + y.toInt := by
  rw [Int32.toInt_add, fb_bmod h1 h2]
theorem fb_subI {x y : Int32} (h1 : -2147483648 ≤ x.toInt - y.toInt) (h2 : x.toInt - y.toInt < 2147483648) : (x - y).toInt = x.toInt - y.toInt := by
  rw [Int32.toInt_sub, fb_bmod h1 h2]
theorem fb_mulI {x y : Int32} (h1 : -2147483648 ≤ x.toInt * y.toInt) (h2 : x.toInt * y.toInt < 2147483648) : (x * y).toInt = x.toInt * y.toInt := by
  rw [Int32.toInt_mul, fb_bmod h1 h2]
theorem fb_negI {x : Int32} (h : x.toInt ≠ -2147483648) : (-x).toInt = -x.toInt := by
  have := fb_rng x
  rw [Int32.toInt_neg, fb_bmod (by omega) (by omega)]
theorem fb_ofI {z : Int} (h1 : -2147483648 ≤ z) (h2 : z < 2147483648) : (Int32.ofInt z).toInt = z := by
  rw [Int32.toInt_ofInt, fb_bmod h1 h2]
theorem fb_asI (x : Int32) : Int32.ofInt x.toInt = x := Int32.ofInt_toInt x
end
section
/-! plain facts: bits of ints; clauses, assignments, losses -/
theorem bt_nI (n : Nat) {i : Nat} (h : i < 32) : bt (nI n) i = n.testBit i := by
  unfold bt
  show (BitVec.ofNat 32 n).getLsbD i = n.testBit i
  rw [BitVec.getLsbD_ofNat]
  simp [h]
theorem b_1 (i : Nat) : bt 1 i = decide (i = 0) := by
  rcases Nat.lt_or_ge i 32 with h | h
  · exact (by decide +kernel : ∀ i, i < 32 → bt 1 i = decide (i = 0)) i h
  · rw [b_big h, decide_eq_false (by omega)]
theorem b_3 (i : Nat) : bt 3 i = decide (i < 2) := by
  rcases Nat.lt_or_ge i 32 with h | h
  · exact (by decide +kernel : ∀ i, i < 32 → bt 3 i = decide (i < 2)) i h
  · rw [b_big h, decide_eq_false (by omega)]
theorem b_one (n : Nat) (hn : n < 32) {i : Nat} (hi : i < 32) : bt ((1 : Int32) <<< (nI n &&& 31)) i = decide (i = n) := by
  rw [b_shl n hn 1 hi, b_1, Bool.eq_iff_iff]
  simp only [Bool.and_eq_true, decide_eq_true_eq]
  omega
theorem ss_bit (x : Int32) (n : Nat) (hn : n < 32) : ((x.toUInt32 >>> ((nI n).toUInt32 &&& Int32.toUInt32 31)).toInt32 &&& 1) = if bt x n = true then 1 else 0 := by
  apply b_ext
  intro i hi
  rw [b_and, b_ushr n hn, b_1]
  by_cases h : i = 0
  · subst h
    rw [Nat.add_zero]
    cases hb : bt x n
    · simp [b_0]
    · simp [b_1]
  · rw [decide_eq_false h, Bool.and_false]
    cases hb : bt x n
    · simp [b_0]
    · simp [b_1, h]
theorem ss_sbit (x : Int32) (n : Nat) (hn : n < 32) : ((x >>> (nI n &&& 31)) &&& 1) = if bt x n = true then 1 else 0 := by
  apply b_ext
  intro i hi
  rw [b_and, b_sshr n hn x hi, b_1]
  by_cases h : i = 0
  · subst h
    rw [Nat.add_zero, if_pos hn]
    cases hb : bt x n
    · simp [b_0]
    · simp [b_1]
  · rw [decide_eq_false h, Bool.and_false]
    cases hb : bt x n
    · simp [b_0]
    · simp [b_1, h]
theorem ss_bit2 (x : Int32) (n : Nat) (hn : n + 1 < 32) : ((x.toUInt32 >>> ((nI n).toUInt32 &&& Int32.toUInt32 31)).toInt32 &&& 3) = 0 ↔ bt x n = false ∧ bt x (n + 1) = false := by
  constructor
  · intro h
    have key : ∀ i, bt ((x.toUInt32 >>> ((nI n).toUInt32 &&& Int32.toUInt32 31)).toInt32 &&& 3) i = false := by
      intro i
      rw [h]
      exact b_0 i
    have h0 := key 0
    have h1 := key 1
    rw [b_and, b_ushr n (by omega), b_3] at h0 h1
    exact ⟨by simpa using h0, by simpa using h1⟩
  · rintro ⟨h0, h1⟩
    apply b_ext
    intro i hi
    rw [b_and, b_ushr n (by omega), b_3, b_0]
    rcases (show i = 0 ∨ i = 1 ∨ 2 ≤ i by omega) with rfl | rfl | h
    · simp [h0]
    · simp [h1]
    · rw [decide_eq_false (by omega), Bool.and_false]
/-! clauses and assignments -/
def ss_sat (c a : Nat) : Nat → Bool
  | 0 => false
  | l + 1 => ss_sat c a l || (c.testBit l && (a.testBit (l / 2) != decide (l % 2 = 1)))
theorem ss_sat_iff (c a : Nat) : ∀ n, ss_sat c a n = true ↔ ∃ l, l < n ∧ c.testBit l = true ∧ a.testBit (l / 2) ≠ decide (l % 2 = 1)
  | 0 => ⟨fun h => by simp [ss_sat] at h, fun ⟨l, h, _⟩ => absurd h (Nat.not_lt_zero _)⟩
  | n + 1 => by
    rw [ss_sat, Bool.or_eq_true, ss_sat_iff c a n, Bool.and_eq_true, bne_iff_ne]
    constructor
    · rintro (⟨l, h1, h2⟩ | h)
      · exact ⟨l, by omega, h2⟩
      · exact ⟨n, by omega, h⟩
    · rintro ⟨l, h1, h2⟩
      rcases Nat.lt_or_ge l n with h | h
      · exact Or.inl ⟨l, h, h2⟩
      · have e : l = n := by omega
        subst e
        exact Or.inr h2
/-- the literal of v that is so -/
def ss_li (a v : Nat) : Nat := if a.testBit v = true then 2 * v else 2 * v + 1
theorem ss_li_lt {a v : Nat} (h : v < 8) : ss_li a v < 16 := by unfold ss_li; split <;> omega
theorem ss_li_div (a v : Nat) : ss_li a v / 2 = v := by unfold ss_li; split <;> omega
theorem ss_li_mod (a v : Nat) : ss_li a v % 2 = if a.testBit v = true then 0 else 1 := by unfold ss_li; split <;> omega
def ss_b (a j : Nat) : Int32 := if a.testBit j = true then 1 else 0
theorem ss_li_ne (a v : Nat) : nI (ss_li a v % 2) ≠ ss_b a v := by
  rw [ss_li_mod]
  unfold ss_b
  split <;> decide +kernel
theorem ss_m1 {i : Nat} : (-1 : Int32) ≠ nI (i % 2) := by
  rcases Nat.mod_two_eq_zero_or_one i with q | q <;> rw [q] <;> decide +kernel
theorem ss_b_ne (a v : Nat) : ss_b a v ≠ -1 := by
  unfold ss_b
  split <;> decide +kernel
theorem ss_b_01 (a v : Nat) : ss_b a v = 0 ∨ ss_b a v = 1 := by
  unfold ss_b
  split
  · exact Or.inr rfl
  · exact Or.inl rfl
theorem ss_sat_v (c a : Nat) : ss_sat c a 16 = true ↔ ∃ v, v < 8 ∧ c.testBit (ss_li a v) = true := by
  rw [ss_sat_iff]
  constructor
  · rintro ⟨l, h1, h2, h3⟩
    refine ⟨l / 2, by omega, ?_⟩
    have e : ss_li a (l / 2) = l := by
      unfold ss_li
      by_cases hb : a.testBit (l / 2) = true
      · rw [if_pos hb]
        have : l % 2 ≠ 1 := fun q => h3 (by simp [hb, q])
        omega
      · rw [if_neg hb]
        have : l % 2 = 1 := by
          rcases Nat.mod_two_eq_zero_or_one l with q | q
          · rw [Bool.not_eq_true] at hb
            exact absurd (by simp [hb, q]) h3
          · exact q
        omega
    rw [e]
    exact h2
  · rintro ⟨v, h1, h2⟩
    refine ⟨ss_li a v, ss_li_lt h1, h2, ?_⟩
    rw [ss_li_div, ss_li_mod]
    by_cases hb : a.testBit v = true
    · rw [if_pos hb, hb]
      decide
    · rw [if_neg hb]
      rw [Bool.not_eq_true] at hb
      rw [hb]
      decide
def ss_ext (val : Nat → Int32) (a : Nat) : Prop := ∀ j, j < 8 → val j = -1 ∨ val j = ss_b a j
def ss_v3 (val : Nat → Int32) : Prop := ∀ j, j < 8 → val j = -1 ∨ val j = 0 ∨ val j = 1
/-- every literal of the clause is false -/
def ss_fl (c : Nat) (vals : Nat → Int32) : Prop := ∀ i, i < 16 → c.testBit i = true → vals (i / 2) = nI (i % 2)
theorem ss_fl_unsat {c a : Nat} {vals : Nat → Int32} (h : ss_fl c vals) (he : ss_ext vals a) : ss_sat c a 16 = false := by
  cases hs : ss_sat c a 16
  · rfl
  · exfalso
    obtain ⟨v, h1, h2⟩ := (ss_sat_v c a).mp hs
    have h3 := h (ss_li a v) (ss_li_lt h1) h2
    rw [ss_li_div] at h3
    rcases he v h1 with q | q
    · exact ss_m1 (q.symm.trans h3)
    · exact ss_li_ne a v (h3.symm.trans q)
theorem ss_unsat_fl {c a : Nat} {vals : Nat → Int32} (h : ss_sat c a 16 = false) (he : ∀ j, j < 8 → vals j = ss_b a j) : ss_fl c vals := by
  intro i hi hc
  rw [he (i / 2) (by omega)]
  unfold ss_b
  by_cases hb : a.testBit (i / 2) = true
  · rw [if_pos hb]
    rcases Nat.mod_two_eq_zero_or_one i with q | q
    · exfalso
      have : ss_sat c a 16 = true := (ss_sat_iff c a 16).mpr ⟨i, hi, hc, by simp [hb, q]⟩
      rw [this] at h
      cases h
    · rw [q]
      rfl
  · rw [if_neg hb]
    rw [Bool.not_eq_true] at hb
    rcases Nat.mod_two_eq_zero_or_one i with q | q
    · rw [q]
      rfl
    · exfalso
      have : ss_sat c a 16 = true := (ss_sat_iff c a 16).mpr ⟨i, hi, hc, by simp [hb, q]⟩
      rw [this] at h
      cases h
/-- what openLiterals computes -/
def ss_op (x : Int32) (vals : Nat → Int32) : Nat → Int32
  | 0 => x
  | v + 1 => if vals v < 0 then ss_op x vals v else ss_op x vals v &&& (((1 : Int32) <<< ((nI 2 * nI v + vals v) &&& 31)) ^^^ (-1))
theorem ss_op_bt {vals : Nat → Int32} (h3 : ss_v3 vals) (x : Int32) : ∀ n, n ≤ 8 → ∀ i, i < 32 → bt (ss_op x vals n) i = (bt x i && !(decide (i < 2 * n ∧ vals (i / 2) = nI (i % 2))))
  | 0, _, i, _ => by simp [ss_op]
  | n + 1, hn, i, hi => by
    have ih := ss_op_bt h3 x n (by omega) i hi
    rw [ss_op]
    by_cases hm : vals n = -1
    · rw [if_pos (by rw [hm]; decide), ih]
      congr 2
      apply decide_eq_decide.mpr
      constructor
      · rintro ⟨q1, q2⟩
        exact ⟨by omega, q2⟩
      · rintro ⟨q1, q2⟩
        refine ⟨?_, q2⟩
        rcases Nat.lt_or_ge i (2 * n) with q | q
        · exact q
        · exfalso
          rw [show i / 2 = n by omega, hm] at q2
          exact ss_m1 q2
    · have hb : ∃ b, b < 2 ∧ vals n = nI b := by
        rcases h3 n (by omega) with h | h | h
        · exact absurd h hm
        · exact ⟨0, by omega, h.trans nI_0.symm⟩
        · exact ⟨1, by omega, h⟩
      obtain ⟨b, hb, h⟩ := hb
      have e2 : nI 2 * nI n + vals n = nI (2 * n + b) := by rw [h, pk_mul, nI_add]
      have key : (i < 2 * (n + 1) ∧ vals (i / 2) = nI (i % 2)) ↔ ((i < 2 * n ∧ vals (i / 2) = nI (i % 2)) ∨ i = 2 * n + b) := by
        constructor
        · rintro ⟨q1, q2⟩
          rcases Nat.lt_or_ge i (2 * n) with q | q
          · exact Or.inl ⟨q, q2⟩
          · right
            rw [show i / 2 = n by omega, h] at q2
            have := (nI_eq (by omega) (by omega)).mp q2
            omega
        · rintro (⟨q1, q2⟩ | q)
          · exact ⟨by omega, q2⟩
          · refine ⟨by omega, ?_⟩
            rw [show i / 2 = n by omega, h, show i % 2 = b by omega]
      rw [if_neg (by rw [h]; exact nI_pos (by omega)), e2, b_and, b_xor, b_m1 i hi, b_one (2 * n + b) (by omega) hi, ih, decide_eq_decide.mpr key, Bool.decide_or]
      generalize decide (i < 2 * n ∧ vals (i / 2) = nI (i % 2)) = P1
      generalize decide (i = 2 * n + b) = P2
      cases bt x i <;> cases P1 <;> cases P2 <;> rfl
theorem ss_tb16 {c i : Nat} (hc : c < 65536) (h : c.testBit i = true) : i < 16 := by
  rcases Nat.lt_or_ge i 16 with q | q
  · exact q
  · exfalso
    have h1 : (2 : Nat) ^ 16 ≤ 2 ^ i := Nat.pow_le_pow_right (by decide) q
    have h2 : c.testBit i = false := Nat.testBit_lt_two_pow (Nat.lt_of_lt_of_le hc h1)
    rw [h2] at h
    cases h
theorem ss_opz {vals : Nat → Int32} (h3 : ss_v3 vals) {c : Nat} (hc : c < 65536) : ss_op (nI c) vals 8 = 0 ↔ ss_fl c vals := by
  constructor
  · intro h i hi hci
    have h1 := ss_op_bt h3 (nI c) 8 (Nat.le_refl _) i (by omega)
    rw [h, b_0, bt_nI c (by omega), hci] at h1
    by_cases q : vals (i / 2) = nI (i % 2)
    · exact q
    · exfalso
      rw [decide_eq_false (fun z => q z.2)] at h1
      cases h1
  · intro h
    apply b_ext
    intro i hi
    rw [ss_op_bt h3 (nI c) 8 (Nat.le_refl _) i hi, b_0, bt_nI c hi]
    cases hci : c.testBit i
    · rfl
    · have hi16 := ss_tb16 hc hci
      rw [decide_eq_true (⟨by omega, h i hi16 hci⟩ : i < 2 * 8 ∧ vals (i / 2) = nI (i % 2))]
      rfl
theorem ss_op_b {vals : Nat → Int32} (h3 : ss_v3 vals) {c : Nat} {i : Nat} (hi : i < 16) : bt (ss_op (nI c) vals 8) i = (c.testBit i && !(decide (vals (i / 2) = nI (i % 2)))) := by
  rw [ss_op_bt h3 (nI c) 8 (Nat.le_refl _) i (by omega), bt_nI c (by omega)]
  congr 2
  apply decide_eq_decide.mpr
  exact ⟨fun h => h.2, fun h => ⟨by omega, h⟩⟩
theorem ss_op_hi {vals : Nat → Int32} (h3 : ss_v3 vals) {c : Nat} (hc : c < 65536) {i : Nat} (hi : i < 32) (h : bt (ss_op (nI c) vals 8) i = true) : i < 16 := by
  rw [ss_op_bt h3 (nI c) 8 (Nat.le_refl _) i hi, bt_nI c hi, Bool.and_eq_true] at h
  exact ss_tb16 hc h.1
/-! losses -/
def ss_al (cs wt : Nat → Nat) (a : Nat) : Nat → Bool
  | 0 => true
  | k + 1 => ss_al cs wt a k && (decide (wt k ≠ 0) || ss_sat (cs k) a 16)
theorem ss_al_iff (cs wt : Nat → Nat) (a : Nat) : ∀ n, ss_al cs wt a n = true ↔ ∀ k, k < n → wt k = 0 → ss_sat (cs k) a 16 = true
  | 0 => ⟨fun _ k h => absurd h (Nat.not_lt_zero _), fun _ => rfl⟩
  | n + 1 => by
    rw [ss_al, Bool.and_eq_true, ss_al_iff cs wt a n, Bool.or_eq_true, decide_eq_true_eq]
    constructor
    · rintro ⟨h1, h2⟩ k hk h0
      rcases Nat.lt_or_ge k n with q | q
      · exact h1 k q h0
      · have e : k = n := by omega
        subst e
        exact h2.resolve_left (fun z => z h0)
    · intro h
      refine ⟨fun k hk => h k (by omega), ?_⟩
      by_cases q : wt n = 0
      · exact Or.inr (h n (by omega) q)
      · exact Or.inl q
def ss_ls (cs wt : Nat → Nat) (a n : Nat) : Nat := fb_sm (fun k => if ss_sat (cs k) a 16 = true then 0 else wt k) n
def ss_w (n : Nat) (cs wt : Nat → Nat) : Prop := n ≤ 24 ∧ ∀ k, k < n → cs k < 65536 ∧ wt k ≤ 50
theorem ss_ls_le {n : Nat} {cs wt : Nat → Nat} (hw : ss_w n cs wt) (a : Nat) : ss_ls cs wt a n ≤ 1200 := by
  have h : fb_sm (fun k => if ss_sat (cs k) a 16 = true then 0 else wt k) n ≤ n * 50 := fb_sm_bound (fun k hk => by
    have := (hw.2 k hk).2
    split <;> omega)
  have := hw.1
  unfold ss_ls
  omega
def ss_ok (n : Nat) (cs wt : Nat → Nat) (N : Nat) (G : Nat → Prop) (a : Nat) : Prop := a < N ∧ G a ∧ ss_al cs wt a n = true
def ss_min (n : Nat) (cs wt : Nat → Nat) (N : Nat) (G : Nat → Prop) (r : Int32) : Prop :=
  (r = -1 ∧ ∀ a, ¬ ss_ok n cs wt N G a) ∨ ∃ a, ss_ok n cs wt N G a ∧ r = nI (ss_ls cs wt a n) ∧ ∀ b, ss_ok n cs wt N G b → ss_ls cs wt a n ≤ ss_ls cs wt b n
def ss_best (n : Nat) (cs wt : Nat → Nat) (N : Nat) (G : Nat → Prop) (r : Int32) : Prop :=
  (r = -1 ∧ ∀ a, ¬ ss_ok n cs wt N G a) ∨ ∃ a, ss_ok n cs wt N G a ∧ r = nI a ∧ ∀ b, ss_ok n cs wt N G b → ss_ls cs wt a n < ss_ls cs wt b n ∨ (ss_ls cs wt a n = ss_ls cs wt b n ∧ a ≤ b)
theorem ss_min_u {n : Nat} {cs wt : Nat → Nat} {N : Nat} {G : Nat → Prop} {r r' : Int32} (h1 : ss_min n cs wt N G r) (h2 : ss_min n cs wt N G r') : r = r' := by
  rcases h1 with ⟨rfl, h1⟩ | ⟨a, ha, rfl, h1⟩ <;> rcases h2 with ⟨rfl, h2⟩ | ⟨b, hb, rfl, h2⟩
  · rfl
  · exact absurd hb (h1 b)
  · exact absurd ha (h2 a)
  · rw [show ss_ls cs wt a n = ss_ls cs wt b n from Nat.le_antisymm (h1 b hb) (h2 a ha)]
theorem ss_best_u {n : Nat} {cs wt : Nat → Nat} {N : Nat} {G : Nat → Prop} {r r' : Int32} (h1 : ss_best n cs wt N G r) (h2 : ss_best n cs wt N G r') : r = r' := by
  rcases h1 with ⟨rfl, h1⟩ | ⟨a, ha, rfl, h1⟩ <;> rcases h2 with ⟨rfl, h2⟩ | ⟨b, hb, rfl, h2⟩
  · rfl
  · exact absurd hb (h1 b)
  · exact absurd ha (h2 a)
  · have q1 := h1 b hb
    have q2 := h2 a ha
    rw [show a = b by omega]
theorem ss_ok_G {n : Nat} {cs wt : Nat → Nat} {N : Nat} {G G' : Nat → Prop} (h : ∀ a, a < N → (G a ↔ G' a)) (a : Nat) : ss_ok n cs wt N G a ↔ ss_ok n cs wt N G' a :=
  ⟨fun ⟨h1, h2, h3⟩ => ⟨h1, (h a h1).mp h2, h3⟩, fun ⟨h1, h2, h3⟩ => ⟨h1, (h a h1).mpr h2, h3⟩⟩
theorem ss_min_G {n : Nat} {cs wt : Nat → Nat} {N : Nat} {G G' : Nat → Prop} {r : Int32} (h : ∀ a, a < N → (G a ↔ G' a)) (h1 : ss_min n cs wt N G r) : ss_min n cs wt N G' r := by
  rcases h1 with ⟨h1, h2⟩ | ⟨a, ha, h1, h2⟩
  · exact Or.inl ⟨h1, fun a q => h2 a ((ss_ok_G h a).mpr q)⟩
  · exact Or.inr ⟨a, (ss_ok_G h a).mp ha, h1, fun b q => h2 b ((ss_ok_G h b).mpr q)⟩
theorem ss_best_G {n : Nat} {cs wt : Nat → Nat} {N : Nat} {G G' : Nat → Prop} {r : Int32} (h : ∀ a, a < N → (G a ↔ G' a)) (h1 : ss_best n cs wt N G r) : ss_best n cs wt N G' r := by
  rcases h1 with ⟨h1, h2⟩ | ⟨a, ha, h1, h2⟩
  · exact Or.inl ⟨h1, fun a q => h2 a ((ss_ok_G h a).mpr q)⟩
  · exact Or.inr ⟨a, (ss_ok_G h a).mp ha, h1, fun b q => h2 b ((ss_ok_G h b).mpr q)⟩
/-! the best so far of the search -/
def ss_bi (n : Nat) (cs wt : Nat → Nat) (N : Nat) (G : Nat → Prop) (bl ba : Int32) : Prop :=
  (ba = -1 ∧ bl = nI 2000 ∧ ∀ a, ¬ ss_ok n cs wt N G a) ∨ ∃ a, ss_ok n cs wt N G a ∧ ba = nI a ∧ bl = nI (ss_ls cs wt a n) ∧ ∀ b, ss_ok n cs wt N G b → ss_ls cs wt a n < ss_ls cs wt b n ∨ (ss_ls cs wt a n = ss_ls cs wt b n ∧ a ≤ b)
theorem ss_bi_skip {n : Nat} {cs wt : Nat → Nat} {N N' : Nat} {G : Nat → Prop} {bl ba : Int32} (hw : ss_w n cs wt) (h : ss_bi n cs wt N G bl ba) (hN : N ≤ N') (hsk : ∀ a, N ≤ a → a < N' → G a → ss_al cs wt a n = true → bl ≤ nI (ss_ls cs wt a n)) : ss_bi n cs wt N' G bl ba := by
  rcases h with ⟨h1, h2, h3⟩ | ⟨a, ha, h1, h2, h3⟩
  · refine Or.inl ⟨h1, h2, fun a ha => ?_⟩
    obtain ⟨q1, q2, q3⟩ := ha
    rcases Nat.lt_or_ge a N with q | q
    · exact h3 a ⟨q, q2, q3⟩
    · have h4 := hsk a q q1 q2 q3
      have h5 := ss_ls_le hw a
      rw [h2] at h4
      have := (nI_leI (by omega) (by omega)).mp h4
      omega
  · refine Or.inr ⟨a, ⟨Nat.lt_of_lt_of_le ha.1 hN, ha.2⟩, h1, h2, fun b hb => ?_⟩
    obtain ⟨q1, q2, q3⟩ := hb
    rcases Nat.lt_or_ge b N with q | q
    · exact h3 b ⟨q, q2, q3⟩
    · have h4 := hsk b q q1 q2 q3
      have h5 := ss_ls_le hw a
      have h6 := ss_ls_le hw b
      rw [h2] at h4
      have := (nI_leI (by omega) (by omega)).mp h4
      have := ha.1
      omega
theorem ss_bi_take {n : Nat} {cs wt : Nat → Nat} {A : Nat} {G : Nat → Prop} {bl ba : Int32} (hw : ss_w n cs wt) (h : ss_bi n cs wt A G bl ba) (hG : G A) (hal : ss_al cs wt A n = true) (hlt : nI (ss_ls cs wt A n) < bl) : ss_bi n cs wt (A + 1) G (nI (ss_ls cs wt A n)) (nI A) := by
  refine Or.inr ⟨A, ⟨by omega, hG, hal⟩, rfl, rfl, fun b hb => ?_⟩
  obtain ⟨q1, q2, q3⟩ := hb
  rcases Nat.lt_or_ge b A with q | q
  · left
    rcases h with ⟨h1, h2, h3⟩ | ⟨a, ha, h1, h2, h3⟩
    · exact absurd ⟨q, q2, q3⟩ (h3 b)
    · have h4 := h3 b ⟨q, q2, q3⟩
      have h5 := ss_ls_le hw A
      have h6 := ss_ls_le hw a
      rw [h2] at hlt
      have := (nI_ltI (by omega) (by omega)).mp hlt
      omega
  · right
    have e : b = A := by omega
    subst e
    exact ⟨rfl, Nat.le_refl _⟩
theorem ss_bi_end {n : Nat} {cs wt : Nat → Nat} {G : Nat → Prop} {bl ba : Int32} (h : ss_bi n cs wt 256 G bl ba) : ss_best n cs wt 256 G ba ∧ ss_min n cs wt 256 G (if ba < 0 then -1 else bl) ∧ (ba < 0 ∧ ba = -1 ∨ ¬ ba < 0 ∧ ∃ a, a < 256 ∧ ba = nI a) := by
  rcases h with ⟨h1, h2, h3⟩ | ⟨a, ha, h1, h2, h3⟩
  · have hn : ba < 0 := by rw [h1]; decide
    refine ⟨Or.inl ⟨h1, h3⟩, ?_, Or.inl ⟨hn, h1⟩⟩
    rw [if_pos hn]
    exact Or.inl ⟨rfl, h3⟩
  · have hl : a < 256 := ha.1
    have hn : ¬ ba < 0 := by rw [h1]; exact nI_pos (by omega)
    refine ⟨Or.inr ⟨a, ha, h1, h3⟩, ?_, Or.inr ⟨hn, a, hl, h1⟩⟩
    rw [if_neg hn]
    refine Or.inr ⟨a, ha, h2, fun b hb => ?_⟩
    have := h3 b hb
    omega
end
section
set_option maxRecDepth 100000
/-! worlds of the two classes; contracts that only read (gRo), that write (gMu, gMv), static ones (gSt); entry, call and return rows -/
abbrev vwCl : List vw_C := [(RX0, TX0, 13), (RX1, TX1, 3)]
abbrev XS : Type := Nat → Nat → Int32
def xup (u : XS) (f : Nat) (g : Nat → Int32) : XS := fun j => bif Nat.beq j f then g else u j
theorem xup_s (u : XS) (f : Nat) (g : Nat → Int32) : xup u f g f = g := by unfold xup; rw [Nat.beq_refl]; rfl
theorem xup_n (u : XS) {f j : Nat} (g : Nat → Int32) (h : j ≠ f) : xup u f g j = u j := by
  have hb : Nat.beq j f = false := by
    cases q : Nat.beq j f
    · rfl
    · exact absurd (Nat.eq_of_beq_eq_true q) h
  unfold xup
  rw [hb]
  rfl
abbrev ss_r0 : Room := { frames := 0, cells := 0, slots := 0, locals := 0 }
abbrev ss_r1 : Room := { frames := 1, cells := 0, slots := 0, locals := 32 }
abbrev ss_r2 : Room := { frames := 2, cells := 0, slots := 0, locals := 64 }
abbrev ss_r3 : Room := { frames := 3, cells := 0, slots := 0, locals := 96 }
abbrev ss_r4 : Room := { frames := 4, cells := 0, slots := 0, locals := 128 }
def gH (D : va_G) (tys : List (ClassId × FieldType)) (ws : va_W) (A : Nat → Prop) (s : State) (H : Heap) (locs : List Loc) : Prop :=
  va_K D vwCl tys s ∧ va_P D vwCl ws H ∧ va_D A ws ∧ va_S A s.heap H locs ∧ ∀ q : Nat, s.heap.size ≤ q → A q
def qRo (post : Int32 → Prop) : Array Value → State → Outcome → State → Prop := fun _ st o t => ∃ v : Int32, o = .returned (some (.int v)) ∧ post v ∧ t.heap = st.heap
def gRo (l : Launch) (y : MethodName) (b : ByteArray) (L : Nat) (ret : Option FieldType) (rm : Room) (D : va_G) (tys : List (ClassId × FieldType)) (ws : va_W) (av : List Value) (post : Int32 → Prop) : Prop :=
  Met l y (ws_ y b L ret) rm (va_Pc av (fun U => va_P D vwCl ws U.heap ∧ va_K D vwCl tys U ∧ va_D (fun _ => True) ws)) (qRo post) 0 0 (fun _ => False)
def gSt (l : Launch) (y : MethodName) (b : ByteArray) (L : Nat) (ret : Option FieldType) (rm : Room) (av : List Value) (post : Int32 → Prop) : Prop :=
  Met l y (ws_ y b L ret) rm (fun v _ => v = av.toArray) (qRo post) 0 0 (fun _ => False)
def gB {S : Type} (D : va_G) (tys : List (ClassId × FieldType)) (wf : S → va_W) (A : Nat → Prop) (u : S) (t : State) : Prop :=
  va_P D vwCl (wf u) t.heap ∧ va_K D vwCl tys t ∧ va_D A (wf u)
def gPc (D : va_G) (tys : List (ClassId × FieldType)) (ws : va_W) (av : List Value) (sz : Nat) : Array Value → State → Prop :=
  va_Pc av (fun U => U.heap.size = sz ∧ va_P D vwCl ws U.heap ∧ va_K D vwCl tys U ∧ va_D (fun _ => True) ws)
def gMu {S : Type} (l : Launch) (y : MethodName) (b : ByteArray) (L : Nat) (ret : Option FieldType) (rm : Room) (D : va_G) (tys : List (ClassId × FieldType)) (wf : S → va_W) (u : S) (av : List Value) (post : Int32 → S → Prop) : Prop :=
  ∀ sz : Nat, Met l y (ws_ y b L ret) rm (gPc D tys (wf u) av sz) (va_Qi post (gB D tys wf (va_A (wf u) sz)) (va_A (wf u) sz)) 0 0 (va_A (wf u) sz)
def gMv {S : Type} (l : Launch) (y : MethodName) (b : ByteArray) (L : Nat) (ret : Option FieldType) (rm : Room) (D : va_G) (tys : List (ClassId × FieldType)) (wf : S → va_W) (u : S) (av : List Value) (post : S → Prop) : Prop :=
  ∀ sz : Nat, Met l y (ws_ y b L ret) rm (gPc D tys (wf u) av sz) (va_Qv post (gB D tys wf (va_A (wf u) sz)) (va_A (wf u) sz)) 0 0 (va_A (wf u) sz)
section GE
variable {l : Launch} {y : MethodName} {b : ByteArray} {L : Nat} {ret : Option FieldType} {rm : Room} {D : va_G} {tys : List (ClassId × FieldType)} {ws : va_W} {av : List Value}
theorem gRo.ofW {post : Int32 → Prop} (own : String) (ho : y.cls = own) (hy : plainName y.cls = true) (hL : (lg_sl av).length ≤ L)
    (body : ∀ (p : Program) (e : Env) (s : State) (m : MethodId) (args : Array Value) (below : List Frame) (meth : Method) (c : Code), CallFix p m c b L s args lw_all own → meth.sig.returnType = ret → meth.locks = false → gH D tys ws (fun _ => True) s s.heap [] → ∀ ls : Array Slot, lv_has ls L (lv_args 0 av) →
      W p l e rm s m args below meth c s.heap [] 0 0 (MQ below (qRo post) args s 0 0 (fun _ => False)) (F0 m 0 ls [])) : gRo l y b L ret rm D tys ws av post := by
  subst ho
  refine Met.ofW (cc := b) (maxL := L) (ret := ret) hy rfl ?_
  intro p e s m args below meth c s₁ B hml hv
  obtain ⟨rfl, hP, hK, hD0⟩ := hv
  have hts := atoms_spec (ws := ws_ y b L ret) B.pre
  rw [lg_entry_eq]
  exact body p e s m _ below meth c ⟨B.exec, B.bytes, hml, findClass_of_methodNamed B.named, fun w h => hts w (List.mem_cons_of_mem _ h)⟩ B.returns B.notSynchronized ⟨hK, hP, hD0, va_S.rf, fun _ _ => trivial⟩ _ (lv_entry av hL)
theorem gSt.ofW {post : Int32 → Prop} (own : String) (ho : y.cls = own) (hy : plainName y.cls = true) (hL : (lg_sl av).length ≤ L)
    (body : ∀ (p : Program) (e : Env) (s : State) (m : MethodId) (args : Array Value) (below : List Frame) (meth : Method) (c : Code), CallFix p m c b L s args lw_all own → meth.sig.returnType = ret → meth.locks = false → ∀ ls : Array Slot, lv_has ls L (lv_args 0 av) →
      W p l e rm s m args below meth c s.heap [] 0 0 (MQ below (qRo post) args s 0 0 (fun _ => False)) (F0 m 0 ls [])) : gSt l y b L ret rm av post := by
  subst ho
  refine Met.ofW (cc := b) (maxL := L) (ret := ret) hy rfl ?_
  intro p e s m args below meth c s₁ B hml hv
  obtain rfl := hv
  have hts := atoms_spec (ws := ws_ y b L ret) B.pre
  rw [lg_entry_eq]
  exact body p e s m _ below meth c ⟨B.exec, B.bytes, hml, findClass_of_methodNamed B.named, fun w h => hts w (List.mem_cons_of_mem _ h)⟩ B.returns B.notSynchronized _ (lv_entry av hL)
theorem gMu.ofW {S : Type} {wf : S → va_W} {u : S} {post : Int32 → S → Prop} (own : String) (ho : y.cls = own) (hy : plainName y.cls = true) (hL : (lg_sl av).length ≤ L)
    (body : ∀ (p : Program) (e : Env) (s : State) (m : MethodId) (args : Array Value) (below : List Frame) (meth : Method) (c : Code) (A : Nat → Prop), CallFix p m c b L s args lw_all own → meth.sig.returnType = ret → meth.locks = false → gH D tys (wf u) A s s.heap [] → ∀ ls : Array Slot, lv_has ls L (lv_args 0 av) →
      W p l e rm s m args below meth c s.heap [] 0 0 (MQ below (va_Qi post (gB D tys wf A) A) args s 0 0 A) (F0 m 0 ls [])) : gMu l y b L ret rm D tys wf u av post := by
  subst ho
  intro sz
  refine Met.ofW (cc := b) (maxL := L) (ret := ret) hy rfl ?_
  intro p e s m args below meth c s₁ B hml hv
  obtain ⟨rfl, hsz, hP, hK, hD0⟩ := hv
  subst hsz
  have hts := atoms_spec (ws := ws_ y b L ret) B.pre
  rw [lg_entry_eq]
  exact body p e s m _ below meth c _ ⟨B.exec, B.bytes, hml, findClass_of_methodNamed B.named, fun w h => hts w (List.mem_cons_of_mem _ h)⟩ B.returns B.notSynchronized ⟨hK, hP, hD0.self (sz := s.heap.size), va_S.rf, fun q h => Or.inr h⟩ _ (lv_entry av hL)
theorem gMv.ofW {S : Type} {wf : S → va_W} {u : S} {post : S → Prop} (own : String) (ho : y.cls = own) (hy : plainName y.cls = true) (hL : (lg_sl av).length ≤ L)
    (body : ∀ (p : Program) (e : Env) (s : State) (m : MethodId) (args : Array Value) (below : List Frame) (meth : Method) (c : Code) (A : Nat → Prop), CallFix p m c b L s args lw_all own → meth.sig.returnType = ret → meth.locks = false → gH D tys (wf u) A s s.heap [] → ∀ ls : Array Slot, lv_has ls L (lv_args 0 av) →
      W p l e rm s m args below meth c s.heap [] 0 0 (MQ below (va_Qv post (gB D tys wf A) A) args s 0 0 A) (F0 m 0 ls [])) : gMv l y b L ret rm D tys wf u av post := by
  subst ho
  intro sz
  refine Met.ofW (cc := b) (maxL := L) (ret := ret) hy rfl ?_
  intro p e s m args below meth c s₁ B hml hv
  obtain ⟨rfl, hsz, hP, hK, hD0⟩ := hv
  subst hsz
  have hts := atoms_spec (ws := ws_ y b L ret) B.pre
  rw [lg_entry_eq]
  exact body p e s m _ below meth c _ ⟨B.exec, B.bytes, hml, findClass_of_methodNamed B.named, fun w h => hts w (List.mem_cons_of_mem _ h)⟩ B.returns B.notSynchronized ⟨hK, hP, hD0.self (sz := s.heap.size), va_S.rf, fun q h => Or.inr h⟩ _ (lv_entry av hL)
end GE
section GC
variable {p : Program} {l : Launch} {e : Env} {R : Room} {s : State} {m : MethodId} {args : Array Value} {below : List Frame} {meth : Method} {c : Code} {H : Heap} {locs : List Loc} {cells slots : Nat} {Q : State → Prop}
variable {cc : ByteArray} {nL pc : Nat} {ls : Array Slot} {rest : List Value} {D : va_G} {A : Nat → Prop} {own : String}
variable {y : MethodName} {b : ByteArray} {L : Nat} {ret : Option FieldType} {rm : Room} {tys : List (ClassId × FieldType)} {ws : va_W} {As st : List Value} {b0 idx n : Nat} {C : String}
theorem gRo.back {g : JFrame} {av : Array Value} {post : Int32 → Prop} (hr : CallRun p l e R s m args below meth c H locs cells slots 0 0 g rest (qRo post av) (fun _ => False)) (kk : ∀ z : Int32, post z → W p l e R s m args below meth c H locs cells slots Q { g with pc := g.pc + 3, stack := .int z :: rest }) : W p l e R s m args below meth c H locs cells slots Q g := by
  intro T hT X
  obtain ⟨v, st₀, t, T', L, h0, X', hL, e1, ⟨z, hv, hp, hh⟩, st⟩ := hr T hT X
  cases hv
  obtain ⟨t2, a1, b1⟩ := kk z hp T' (by rw [e1, hh, h0]) (Stand.forget X' (fun q h => (hL q h).elim))
  exact ⟨t2, st t2 a1, b1⟩
theorem gRo.call {post : Int32 → Prop} (hM : gRo l y b L ret rm D tys ws (.ref b0 :: As) post) (S : CallFix p m c cc nL s args lw_all own) (hH : gH D tys ws A s H locs) (cw : CallW R s args own C idx y b L ret (ws_ y b L ret) rm 0 0 n) (hrc : ∃ cell : Cell, H[b0]? = some cell ∧ cell.vm.isStatics = false ∧ s.vm.findClass C = some cell.cls)
    (hn : As.length = n) (hsz : ls.size = nL) (hst : st = As.reverse ++ .ref b0 :: rest) (hrest : (rest.map fun v => v.category).sum ≤ 8) (hd : decode cc pc = .ok (.invokevirtual idx, 3)) (hf : cells ≤ R.cells ∧ slots ≤ R.slots)
    (kk : ∀ z : Int32, post z → W p l e R s m args below meth c H locs cells slots Q (F0 m (pc + 3) ls (.int z :: rest))) : W p l e R s m args below meth c H locs cells slots Q (F0 m pc ls st) := by
  refine gRo.back (av := (Value.ref b0 :: As).toArray) (W.runV (As := As) (rest := rest) S hM cw ⟨?_, hrc, ?_⟩ rfl hn hsz hst (lv_room hrest) hd hf) kk
  · intro a U g mk q
    obtain ⟨q0, qP, qK, qD⟩ := q
    exact ⟨q0, qP, va_K.moved (u := U) (U := U.calling g mk a) (Vm.Alike.refl U.vm) qK, qD⟩
  · intro U hU hW
    exact ⟨rfl, by rw [hU]; exact hH.2.1, va_K.moved hW.alike hH.1, hH.2.2.1.weaken (fun _ _ _ _ => trivial)⟩
theorem gSt.call {post : Int32 → Prop} (hM : gSt l y b L ret rm As post) (S : CallFix p m c cc nL s args lw_all own) (cw : CallB R s args own idx y b L ret (ws_ y b L ret) rm 0 0 n ∧ (Cond.static y).before args s = true)
    (hn : As.length = n) (hsz : ls.size = nL) (hst : st = As.reverse ++ rest) (hrest : (rest.map fun v => v.category).sum ≤ 8) (hd : decode cc pc = .ok (.invokestatic idx, 3)) (hf : cells ≤ R.cells ∧ slots ≤ R.slots)
    (kk : ∀ z : Int32, post z → W p l e R s m args below meth c H locs cells slots Q (F0 m (pc + 3) ls (.int z :: rest))) : W p l e R s m args below meth c H locs cells slots Q (F0 m pc ls st) := by
  refine gRo.back (av := As.toArray) (W.runS (As := As) (rest := rest) S hM cw preEq rfl hn hsz hst (lv_room hrest) hd hf) kk
theorem gH.free {ws : va_W} (hH : gH D tys ws A s H locs) : ∀ q, va_A ws H.size q → A q := by
  intro q h
  rcases h with ⟨k, e, h⟩ | h
  · exact hH.2.2.1.2 k (q, e) h
  · exact hH.2.2.2.2 q (Nat.le_trans hH.2.2.2.1.1 h)
theorem gPc.blind {av : List Value} {sz : Nat} : FrameBlind (gPc D tys ws av sz) := by
  intro a U g mk q
  obtain ⟨q0, q1, qP, qK, qD⟩ := q
  exact ⟨q0, q1, qP, va_K.moved (u := U) (U := U.calling g mk a) (Vm.Alike.refl U.vm) qK, qD⟩
theorem gH.pre {av : List Value} (hH : gH D tys ws A s H locs) : ∀ U : State, U.heap = H → s.WarmedH U.vm → gPc D tys ws av H.size av.toArray U :=
  fun U hU hW => ⟨rfl, by rw [hU], by rw [hU]; exact hH.2.1, va_K.moved hW.alike hH.1, hH.2.2.1.weaken (fun _ _ _ _ => trivial)⟩
theorem gMu.call {S0 : Type} {wf : S0 → va_W} {u : S0} {post : Int32 → S0 → Prop} (hM : gMu l y b L ret rm D tys wf u (.ref b0 :: As) post) (S : CallFix p m c cc nL s args lw_all own) (hH : gH D tys (wf u) A s H locs) (cw : CallW R s args own C idx y b L ret (ws_ y b L ret) rm 0 0 n) (hrc : ∃ cell : Cell, H[b0]? = some cell ∧ cell.vm.isStatics = false ∧ s.vm.findClass C = some cell.cls)
    (hn : As.length = n) (hsz : ls.size = nL) (hst : st = As.reverse ++ .ref b0 :: rest) (hrest : (rest.map fun v => v.category).sum ≤ 8) (hd : decode cc pc = .ok (.invokevirtual idx, 3)) (hf : cells ≤ R.cells ∧ slots ≤ R.slots)
    (kk : ∀ (z : Int32) (u1 : S0) (H1 : Heap) (locs1 : List Loc), post z u1 → gH D tys (wf u1) A s H1 locs1 → W p l e R s m args below meth c H1 locs1 cells slots Q (F0 m (pc + 3) ls (.int z :: rest))) : W p l e R s m args below meth c H locs cells slots Q (F0 m pc ls st) := by
  refine va_calli (va_runV (As := As) (rest := rest) S (hM H.size) cw ⟨gPc.blind, hrc, hH.pre⟩ rfl hn hsz hst (lv_room hrest) hd hf) hH.2.2.2.1 (fun q _ h => hH.free q h) hH.free (fun z u1 t H1 locs1 ht hvm hp hB hz1 hk1 hS => ?_)
  refine kk z u1 H1 locs1 hp ⟨va_K.moved hvm.symm hB.2.1, by rw [← ht]; exact hB.1, hB.2.2.weaken (fun k q _ h => hH.free q.1 h), hS, hH.2.2.2.2⟩
theorem gMv.call {S0 : Type} {wf : S0 → va_W} {u : S0} {post : S0 → Prop} (hM : gMv l y b L ret rm D tys wf u (.ref b0 :: As) post) (S : CallFix p m c cc nL s args lw_all own) (hH : gH D tys (wf u) A s H locs) (cw : CallW R s args own C idx y b L ret (ws_ y b L ret) rm 0 0 n) (hrc : ∃ cell : Cell, H[b0]? = some cell ∧ cell.vm.isStatics = false ∧ s.vm.findClass C = some cell.cls)
    (hn : As.length = n) (hsz : ls.size = nL) (hst : st = As.reverse ++ .ref b0 :: rest) (hrest : (rest.map fun v => v.category).sum ≤ 8) (hd : decode cc pc = .ok (.invokevirtual idx, 3)) (hf : cells ≤ R.cells ∧ slots ≤ R.slots)
    (kk : ∀ (u1 : S0) (H1 : Heap) (locs1 : List Loc), post u1 → gH D tys (wf u1) A s H1 locs1 → W p l e R s m args below meth c H1 locs1 cells slots Q (F0 m (pc + 3) ls rest)) : W p l e R s m args below meth c H locs cells slots Q (F0 m pc ls st) := by
  refine va_callv (va_runV (As := As) (rest := rest) S (hM H.size) cw ⟨gPc.blind, hrc, hH.pre⟩ rfl hn hsz hst (lv_room hrest) hd hf) hH.2.2.2.1 (fun q _ h => hH.free q h) hH.free (fun u1 t H1 locs1 ht hvm hp hB hz1 hk1 hS => ?_)
  refine kk u1 H1 locs1 hp ⟨va_K.moved hvm.symm hB.2.1, by rw [← ht]; exact hB.1, hB.2.2.weaken (fun k q _ h => hH.free q.1 h), hS, hH.2.2.2.2⟩
-- returns
theorem gRo.iret {post : Int32 → Prop} {v : Int32} (S : CallFix p m c cc nL s args lw_all own) (hr : meth.sig.returnType = some .int) (hlocks : meth.locks = false) (hp : post v) (hd : decode cc pc = .ok (.ireturn, 1)) :
    W p l e R s m args below meth c s.heap [] 0 0 (MQ below (qRo post) args s 0 0 (fun _ => False)) (F0 m pc ls [.int v]) :=
  W.iret S.1 S.2.1 hr (fun t ht _ => ⟨v, rfl, hp, ht⟩) (fun q h => by cases h) hd hlocks
theorem gRo.zret {post : Int32 → Prop} {v : Int32} (S : CallFix p m c cc nL s args lw_all own) (hr : meth.sig.returnType = some .boolean) (hlocks : meth.locks = false) (hv : v = 0 ∨ v = 1) (hp : post v) (hd : decode cc pc = .ok (.ireturn, 1)) :
    W p l e R s m args below meth c s.heap [] 0 0 (MQ below (qRo post) args s 0 0 (fun _ => False)) (F0 m pc ls [.int v]) :=
  W.zret S.1 S.2.1 hr (by rcases hv with rfl | rfl <;> rfl) (fun t ht _ => ⟨v, rfl, hp, ht⟩) (fun q h => by cases h) hd hlocks
theorem gMu.iret {S0 : Type} {wf : S0 → va_W} {u : S0} {post : Int32 → S0 → Prop} {v : Int32} (S : CallFix p m c cc nL s args lw_all own) (hr : meth.sig.returnType = some .int) (hlocks : meth.locks = false) (hH : gH D tys (wf u) A s H locs) (hp : post v u) (hd : decode cc pc = .ok (.ireturn, 1)) :
    W p l e R s m args below meth c H locs 0 0 (MQ below (va_Qi post (gB D tys wf A) A) args s 0 0 A) (F0 m pc ls [.int v]) :=
  W.iret S.1 S.2.1 hr (fun t ht hW => ⟨⟨v, u, rfl, hp, by rw [ht]; exact hH.2.1, va_K.moved hW.alike hH.1, hH.2.2.1⟩, hH.2.2.2.1.F ht⟩) hH.2.2.2.1.2.2 hd hlocks
theorem gMu.zret {S0 : Type} {wf : S0 → va_W} {u : S0} {post : Int32 → S0 → Prop} {v : Int32} (S : CallFix p m c cc nL s args lw_all own) (hr : meth.sig.returnType = some .boolean) (hlocks : meth.locks = false) (hv : v = 0 ∨ v = 1) (hH : gH D tys (wf u) A s H locs) (hp : post v u) (hd : decode cc pc = .ok (.ireturn, 1)) :
    W p l e R s m args below meth c H locs 0 0 (MQ below (va_Qi post (gB D tys wf A) A) args s 0 0 A) (F0 m pc ls [.int v]) :=
  W.zret S.1 S.2.1 hr (by rcases hv with rfl | rfl <;> rfl) (fun t ht hW => ⟨⟨v, u, rfl, hp, by rw [ht]; exact hH.2.1, va_K.moved hW.alike hH.1, hH.2.2.1⟩, hH.2.2.2.1.F ht⟩) hH.2.2.2.1.2.2 hd hlocks
theorem gMv.vret {S0 : Type} {wf : S0 → va_W} {u : S0} {post : S0 → Prop} (S : CallFix p m c cc nL s args lw_all own) (hr : meth.sig.returnType = none) (hlocks : meth.locks = false) (hH : gH D tys (wf u) A s H locs) (hp : post u) (hd : decode cc pc = .ok (.return_, 1)) :
    W p l e R s m args below meth c H locs 0 0 (MQ below (va_Qv post (gB D tys wf A) A) args s 0 0 A) (F0 m pc ls []) :=
  W.vret S.1 S.2.1 hr (fun t ht hW => ⟨⟨u, rfl, hp, by rw [ht]; exact hH.2.1, va_K.moved hW.alike hH.1, hH.2.2.1⟩, hH.2.2.2.1.F ht⟩) hH.2.2.2.1.2.2 hd hlocks
/-- the value on top is another way of saying the same -/
theorem lv_as {x : Int32} (y : Int32) (h : x = y) (k : W p l e R s m args below meth c H locs cells slots Q (F0 m pc ls (.int y :: rest))) : W p l e R s m args below meth c H locs cells slots Q (F0 m pc ls (.int x :: rest)) := h ▸ k
/-- i++ on a number -/
theorem lv_inc {i k j : Nat} {lv lv' : List (Nat × Value)} (S : CallFix p m c cc nL s args lw_all own) (hdg : decode cc pc = .ok (.iinc i 1, 3)) (h : lv_has ls nL lv) (hk : lv[k]? = some (i, .int (nI j))) (hn : i < nL) (hl : (i, Value.int (nI (j + 1))) :: lv.filter (fun q => !(q.1 == i) && !(q.1 + 1 == i && q.2.category == 2)) = lv')
    (kk : ∀ ls' : Array Slot, lv_has ls' nL lv' → W p l e R s m args below meth c H locs cells slots Q (F0 m (pc + 3) ls' rest)) : W p l e R s m args below meth c H locs cells slots Q (F0 m pc ls rest) :=
  lv_iinc (v := nI (j + 1)) S.1 S.2.1 hdg h hk (nI_1 j) hn hl kk
end GC
def xW (ad : Nat → Nat) (ka : Nat → ClassId) (u : XS) : va_W := [(ad 0, .inr (0, [.int (u 0 0), .ref (ad 1), .ref (ad 2), .ref (ad 3), .ref (ad 4), .int (u 5 0), .int (u 6 0), .ref (ad 7), .ref (ad 8), .int (u 9 0), .ref (ad 10), .ref (ad 11), .ref (ad 12)])), (ad 1, .inl (ka 1, 24, .inl (u 1))), (ad 2, .inl (ka 2, 24, .inl (u 2))), (ad 3, .inl (ka 3, 8, .inl (u 3))), (ad 4, .inl (ka 4, 8, .inl (u 4))), (ad 7, .inl (ka 7, 8, .inl (u 7))), (ad 8, .inl (ka 8, 8, .inl (u 8))), (ad 10, .inl (ka 10, 8, .inl (u 10))), (ad 11, .inl (ka 11, 24, .inl (u 11))), (ad 12, .inl (ka 12, 24, .inl (u 12)))]
def xT (ka : Nat → ClassId) : List (ClassId × FieldType) := [(ka 1, .int), (ka 2, .int), (ka 3, .int), (ka 4, .int), (ka 7, .int), (ka 8, .int), (ka 10, .int), (ka 11, .int), (ka 12, .boolean)]
def mW (ad : Nat → Nat) (ka : Nat → ClassId) (u : XS) : va_W := [(ad 0, .inr (1, [.int (u 0 0), .ref (ad 1), .ref (ad 2)])), (ad 1, .inl (ka 1, 24, .inl (u 1))), (ad 2, .inl (ka 2, 24, .inl (u 2)))]
def mT (ka : Nat → ClassId) : List (ClassId × FieldType) := [(ka 1, .int), (ka 2, .int)]
section GX
variable {p : Program} {l : Launch} {e : Env} {R : Room} {s : State} {m : MethodId} {args : Array Value} {below : List Frame} {meth : Method} {c : Code} {H : Heap} {locs : List Loc} {cells slots : Nat} {Q : State → Prop}
variable {cc : ByteArray} {nL pc : Nat} {ls : Array Slot} {rest : List Value} {D : va_G} {A : Nat → Prop} {ad : Nat → Nat} {ka : Nat → ClassId} {u : XS}
theorem xg0 (S : CallFix p m c cc nL s args lw_all RX0) (hH : gH D (xT ka) (xW ad ka u) A s H locs) (hd : decode cc pc = .ok (.getfield 42, 3)) (kk : W p l e R s m args below meth c H locs cells slots Q (F0 m (pc + 3) ls (.int (u 0 0) :: rest))) : W p l e R s m args below meth c H locs cells slots Q (F0 m pc ls (.ref (ad 0) :: rest)) :=
  va_get (D := D) (ci := 0) (v := .int (u 0 0)) (C := RX0) (T := TX0) (N := 13) S.1 S.2.1 S.2.2.2.2 in_X0 S.2.2.2.1 hH.1 hH.2.1 0 rfl rfl 0 (by decide) (S.2.2.2.2 _ q26) (fun _ h9 => h9) rfl hd kk
theorem xp0 {x : Int32} (S : CallFix p m c cc nL s args lw_all RX0) (hH : gH D (xT ka) (xW ad ka u) A s H locs) (hd : decode cc pc = .ok (.putfield 42, 3)) (kk : ∀ (H1 : Heap) (locs1 : List Loc), gH D (xT ka) (xW ad ka (xup u 0 (fun _ => x))) A s H1 locs1 → W p l e R s m args below meth c H1 locs1 cells slots Q (F0 m (pc + 3) ls rest)) : W p l e R s m args below meth c H locs cells slots Q (F0 m pc ls (.int x :: .ref (ad 0) :: rest)) :=
  va_put (D := D) (ci := 0) (v := .int x) (ty := .int) (C := RX0) (T := TX0) (N := 13) S.1 S.2.1 S.2.2.2.2 in_X0 tyX0 tyX0_ok nmX0 S.2.2.2.1 hH.1 hH.2.1 hH.2.2.1 hH.2.2.2.1 0 rfl rfl 0 (by decide) (S.2.2.2.2 _ q26) (fun _ h9 => h9) rfl (by decide +kernel) rfl rfl (Nat.le_of_ble_eq_true rfl) hd (fun H1 locs1 hP hD hS => kk H1 locs1 ⟨hH.1, hP, hD, hS, hH.2.2.2.2⟩)
theorem xg1 (S : CallFix p m c cc nL s args lw_all RX0) (hH : gH D (xT ka) (xW ad ka u) A s H locs) (hd : decode cc pc = .ok (.getfield 7, 3)) (kk : W p l e R s m args below meth c H locs cells slots Q (F0 m (pc + 3) ls (.ref (ad 1) :: rest))) : W p l e R s m args below meth c H locs cells slots Q (F0 m pc ls (.ref (ad 0) :: rest)) :=
  va_get (D := D) (ci := 0) (v := .ref (ad 1)) (C := RX0) (T := TX0) (N := 13) S.1 S.2.1 S.2.2.2.2 in_X0 S.2.2.2.1 hH.1 hH.2.1 0 rfl rfl 1 (by decide) (S.2.2.2.2 _ q27) (fun _ h9 => h9) rfl hd kk
theorem xl1 (S : CallFix p m c cc nL s args lw_all RX0) (hH : gH D (xT ka) (xW ad ka u) A s H locs) (j : Nat) (hj : j < 24) (hd : decode cc pc = .ok (.iaload, 1)) (kk : W p l e R s m args below meth c H locs cells slots Q (F0 m (pc + 1) ls (.int (u 1 j) :: rest))) : W p l e R s m args below meth c H locs cells slots Q (F0 m pc ls (.int (nI j) :: .ref (ad 1) :: rest)) := by
  refine va_iald S.1 S.2.1 hH.1 hH.2.1 1 0 rfl rfl (vp_in_nI hj (by decide)) hd ?_
  rw [nI_clamp (by omega)]
  exact kk
theorem xs1 {x : Int32} (S : CallFix p m c cc nL s args lw_all RX0) (hH : gH D (xT ka) (xW ad ka u) A s H locs) (j : Nat) (hj : j < 24) (hd : decode cc pc = .ok (.iastore, 1)) (kk : ∀ (H1 : Heap) (locs1 : List Loc), gH D (xT ka) (xW ad ka (xup u 1 (upd (u 1) j x))) A s H1 locs1 → W p l e R s m args below meth c H1 locs1 cells slots Q (F0 m (pc + 1) ls rest)) : W p l e R s m args below meth c H locs cells slots Q (F0 m pc ls (.int x :: .int (nI j) :: .ref (ad 1) :: rest)) := by
  refine va_iast S.1 S.2.1 hH.1 hH.2.1 hH.2.2.1 hH.2.2.2.1 1 0 rfl rfl (vp_in_nI hj (by decide)) hd (fun H1 locs1 hP hD hS => ?_)
  rw [nI_clamp (by omega)] at hP hD
  exact kk H1 locs1 ⟨hH.1, hP, hD, hS, hH.2.2.2.2⟩
theorem xg2 (S : CallFix p m c cc nL s args lw_all RX0) (hH : gH D (xT ka) (xW ad ka u) A s H locs) (hd : decode cc pc = .ok (.getfield 13, 3)) (kk : W p l e R s m args below meth c H locs cells slots Q (F0 m (pc + 3) ls (.ref (ad 2) :: rest))) : W p l e R s m args below meth c H locs cells slots Q (F0 m pc ls (.ref (ad 0) :: rest)) :=
  va_get (D := D) (ci := 0) (v := .ref (ad 2)) (C := RX0) (T := TX0) (N := 13) S.1 S.2.1 S.2.2.2.2 in_X0 S.2.2.2.1 hH.1 hH.2.1 0 rfl rfl 2 (by decide) (S.2.2.2.2 _ q28) (fun _ h9 => h9) rfl hd kk
theorem xl2 (S : CallFix p m c cc nL s args lw_all RX0) (hH : gH D (xT ka) (xW ad ka u) A s H locs) (j : Nat) (hj : j < 24) (hd : decode cc pc = .ok (.iaload, 1)) (kk : W p l e R s m args below meth c H locs cells slots Q (F0 m (pc + 1) ls (.int (u 2 j) :: rest))) : W p l e R s m args below meth c H locs cells slots Q (F0 m pc ls (.int (nI j) :: .ref (ad 2) :: rest)) := by
  refine va_iald S.1 S.2.1 hH.1 hH.2.1 2 1 rfl rfl (vp_in_nI hj (by decide)) hd ?_
  rw [nI_clamp (by omega)]
  exact kk
theorem xs2 {x : Int32} (S : CallFix p m c cc nL s args lw_all RX0) (hH : gH D (xT ka) (xW ad ka u) A s H locs) (j : Nat) (hj : j < 24) (hd : decode cc pc = .ok (.iastore, 1)) (kk : ∀ (H1 : Heap) (locs1 : List Loc), gH D (xT ka) (xW ad ka (xup u 2 (upd (u 2) j x))) A s H1 locs1 → W p l e R s m args below meth c H1 locs1 cells slots Q (F0 m (pc + 1) ls rest)) : W p l e R s m args below meth c H locs cells slots Q (F0 m pc ls (.int x :: .int (nI j) :: .ref (ad 2) :: rest)) := by
  refine va_iast S.1 S.2.1 hH.1 hH.2.1 hH.2.2.1 hH.2.2.2.1 2 1 rfl rfl (vp_in_nI hj (by decide)) hd (fun H1 locs1 hP hD hS => ?_)
  rw [nI_clamp (by omega)] at hP hD
  exact kk H1 locs1 ⟨hH.1, hP, hD, hS, hH.2.2.2.2⟩
theorem xg3 (S : CallFix p m c cc nL s args lw_all RX0) (hH : gH D (xT ka) (xW ad ka u) A s H locs) (hd : decode cc pc = .ok (.getfield 16, 3)) (kk : W p l e R s m args below meth c H locs cells slots Q (F0 m (pc + 3) ls (.ref (ad 3) :: rest))) : W p l e R s m args below meth c H locs cells slots Q (F0 m pc ls (.ref (ad 0) :: rest)) :=
  va_get (D := D) (ci := 0) (v := .ref (ad 3)) (C := RX0) (T := TX0) (N := 13) S.1 S.2.1 S.2.2.2.2 in_X0 S.2.2.2.1 hH.1 hH.2.1 0 rfl rfl 3 (by decide) (S.2.2.2.2 _ q29) (fun _ h9 => h9) rfl hd kk
theorem xl3 (S : CallFix p m c cc nL s args lw_all RX0) (hH : gH D (xT ka) (xW ad ka u) A s H locs) (j : Nat) (hj : j < 8) (hd : decode cc pc = .ok (.iaload, 1)) (kk : W p l e R s m args below meth c H locs cells slots Q (F0 m (pc + 1) ls (.int (u 3 j) :: rest))) : W p l e R s m args below meth c H locs cells slots Q (F0 m pc ls (.int (nI j) :: .ref (ad 3) :: rest)) := by
  refine va_iald S.1 S.2.1 hH.1 hH.2.1 3 2 rfl rfl (vp_in_nI hj (by decide)) hd ?_
  rw [nI_clamp (by omega)]
  exact kk
theorem xs3 {x : Int32} (S : CallFix p m c cc nL s args lw_all RX0) (hH : gH D (xT ka) (xW ad ka u) A s H locs) (j : Nat) (hj : j < 8) (hd : decode cc pc = .ok (.iastore, 1)) (kk : ∀ (H1 : Heap) (locs1 : List Loc), gH D (xT ka) (xW ad ka (xup u 3 (upd (u 3) j x))) A s H1 locs1 → W p l e R s m args below meth c H1 locs1 cells slots Q (F0 m (pc + 1) ls rest)) : W p l e R s m args below meth c H locs cells slots Q (F0 m pc ls (.int x :: .int (nI j) :: .ref (ad 3) :: rest)) := by
  refine va_iast S.1 S.2.1 hH.1 hH.2.1 hH.2.2.1 hH.2.2.2.1 3 2 rfl rfl (vp_in_nI hj (by decide)) hd (fun H1 locs1 hP hD hS => ?_)
  rw [nI_clamp (by omega)] at hP hD
  exact kk H1 locs1 ⟨hH.1, hP, hD, hS, hH.2.2.2.2⟩
theorem xg4 (S : CallFix p m c cc nL s args lw_all RX0) (hH : gH D (xT ka) (xW ad ka u) A s H locs) (hd : decode cc pc = .ok (.getfield 19, 3)) (kk : W p l e R s m args below meth c H locs cells slots Q (F0 m (pc + 3) ls (.ref (ad 4) :: rest))) : W p l e R s m args below meth c H locs cells slots Q (F0 m pc ls (.ref (ad 0) :: rest)) :=
  va_get (D := D) (ci := 0) (v := .ref (ad 4)) (C := RX0) (T := TX0) (N := 13) S.1 S.2.1 S.2.2.2.2 in_X0 S.2.2.2.1 hH.1 hH.2.1 0 rfl rfl 4 (by decide) (S.2.2.2.2 _ q30) (fun _ h9 => h9) rfl hd kk
theorem xl4 (S : CallFix p m c cc nL s args lw_all RX0) (hH : gH D (xT ka) (xW ad ka u) A s H locs) (j : Nat) (hj : j < 8) (hd : decode cc pc = .ok (.iaload, 1)) (kk : W p l e R s m args below meth c H locs cells slots Q (F0 m (pc + 1) ls (.int (u 4 j) :: rest))) : W p l e R s m args below meth c H locs cells slots Q (F0 m pc ls (.int (nI j) :: .ref (ad 4) :: rest)) := by
  refine va_iald S.1 S.2.1 hH.1 hH.2.1 4 3 rfl rfl (vp_in_nI hj (by decide)) hd ?_
  rw [nI_clamp (by omega)]
  exact kk
theorem xs4 {x : Int32} (S : CallFix p m c cc nL s args lw_all RX0) (hH : gH D (xT ka) (xW ad ka u) A s H locs) (j : Nat) (hj : j < 8) (hd : decode cc pc = .ok (.iastore, 1)) (kk : ∀ (H1 : Heap) (locs1 : List Loc), gH D (xT ka) (xW ad ka (xup u 4 (upd (u 4) j x))) A s H1 locs1 → W p l e R s m args below meth c H1 locs1 cells slots Q (F0 m (pc + 1) ls rest)) : W p l e R s m args below meth c H locs cells slots Q (F0 m pc ls (.int x :: .int (nI j) :: .ref (ad 4) :: rest)) := by
  refine va_iast S.1 S.2.1 hH.1 hH.2.1 hH.2.2.1 hH.2.2.2.1 4 3 rfl rfl (vp_in_nI hj (by decide)) hd (fun H1 locs1 hP hD hS => ?_)
  rw [nI_clamp (by omega)] at hP hD
  exact kk H1 locs1 ⟨hH.1, hP, hD, hS, hH.2.2.2.2⟩
theorem xg5 (S : CallFix p m c cc nL s args lw_all RX0) (hH : gH D (xT ka) (xW ad ka u) A s H locs) (hd : decode cc pc = .ok (.getfield 55, 3)) (kk : W p l e R s m args below meth c H locs cells slots Q (F0 m (pc + 3) ls (.int (u 5 0) :: rest))) : W p l e R s m args below meth c H locs cells slots Q (F0 m pc ls (.ref (ad 0) :: rest)) :=
  va_get (D := D) (ci := 0) (v := .int (u 5 0)) (C := RX0) (T := TX0) (N := 13) S.1 S.2.1 S.2.2.2.2 in_X0 S.2.2.2.1 hH.1 hH.2.1 0 rfl rfl 5 (by decide) (S.2.2.2.2 _ q31) (fun _ h9 => h9) rfl hd kk
theorem xp5 {x : Int32} (S : CallFix p m c cc nL s args lw_all RX0) (hH : gH D (xT ka) (xW ad ka u) A s H locs) (hd : decode cc pc = .ok (.putfield 55, 3)) (kk : ∀ (H1 : Heap) (locs1 : List Loc), gH D (xT ka) (xW ad ka (xup u 5 (fun _ => x))) A s H1 locs1 → W p l e R s m args below meth c H1 locs1 cells slots Q (F0 m (pc + 3) ls rest)) : W p l e R s m args below meth c H locs cells slots Q (F0 m pc ls (.int x :: .ref (ad 0) :: rest)) :=
  va_put (D := D) (ci := 0) (v := .int x) (ty := .int) (C := RX0) (T := TX0) (N := 13) S.1 S.2.1 S.2.2.2.2 in_X0 tyX0 tyX0_ok nmX0 S.2.2.2.1 hH.1 hH.2.1 hH.2.2.1 hH.2.2.2.1 0 rfl rfl 5 (by decide) (S.2.2.2.2 _ q31) (fun _ h9 => h9) rfl (by decide +kernel) rfl rfl (Nat.le_of_ble_eq_true rfl) hd (fun H1 locs1 hP hD hS => kk H1 locs1 ⟨hH.1, hP, hD, hS, hH.2.2.2.2⟩)
theorem xg6 (S : CallFix p m c cc nL s args lw_all RX0) (hH : gH D (xT ka) (xW ad ka u) A s H locs) (hd : decode cc pc = .ok (.getfield 52, 3)) (kk : W p l e R s m args below meth c H locs cells slots Q (F0 m (pc + 3) ls (.int (u 6 0) :: rest))) : W p l e R s m args below meth c H locs cells slots Q (F0 m pc ls (.ref (ad 0) :: rest)) :=
  va_get (D := D) (ci := 0) (v := .int (u 6 0)) (C := RX0) (T := TX0) (N := 13) S.1 S.2.1 S.2.2.2.2 in_X0 S.2.2.2.1 hH.1 hH.2.1 0 rfl rfl 6 (by decide) (S.2.2.2.2 _ q32) (fun _ h9 => h9) rfl hd kk
theorem xp6 {x : Int32} (S : CallFix p m c cc nL s args lw_all RX0) (hH : gH D (xT ka) (xW ad ka u) A s H locs) (hd : decode cc pc = .ok (.putfield 52, 3)) (kk : ∀ (H1 : Heap) (locs1 : List Loc), gH D (xT ka) (xW ad ka (xup u 6 (fun _ => x))) A s H1 locs1 → W p l e R s m args below meth c H1 locs1 cells slots Q (F0 m (pc + 3) ls rest)) : W p l e R s m args below meth c H locs cells slots Q (F0 m pc ls (.int x :: .ref (ad 0) :: rest)) :=
  va_put (D := D) (ci := 0) (v := .int x) (ty := .int) (C := RX0) (T := TX0) (N := 13) S.1 S.2.1 S.2.2.2.2 in_X0 tyX0 tyX0_ok nmX0 S.2.2.2.1 hH.1 hH.2.1 hH.2.2.1 hH.2.2.2.1 0 rfl rfl 6 (by decide) (S.2.2.2.2 _ q32) (fun _ h9 => h9) rfl (by decide +kernel) rfl rfl (Nat.le_of_ble_eq_true rfl) hd (fun H1 locs1 hP hD hS => kk H1 locs1 ⟨hH.1, hP, hD, hS, hH.2.2.2.2⟩)
theorem xg7 (S : CallFix p m c cc nL s args lw_all RX0) (hH : gH D (xT ka) (xW ad ka u) A s H locs) (hd : decode cc pc = .ok (.getfield 22, 3)) (kk : W p l e R s m args below meth c H locs cells slots Q (F0 m (pc + 3) ls (.ref (ad 7) :: rest))) : W p l e R s m args below meth c H locs cells slots Q (F0 m pc ls (.ref (ad 0) :: rest)) :=
  va_get (D := D) (ci := 0) (v := .ref (ad 7)) (C := RX0) (T := TX0) (N := 13) S.1 S.2.1 S.2.2.2.2 in_X0 S.2.2.2.1 hH.1 hH.2.1 0 rfl rfl 7 (by decide) (S.2.2.2.2 _ q33) (fun _ h9 => h9) rfl hd kk
theorem xl7 (S : CallFix p m c cc nL s args lw_all RX0) (hH : gH D (xT ka) (xW ad ka u) A s H locs) (j : Nat) (hj : j < 8) (hd : decode cc pc = .ok (.iaload, 1)) (kk : W p l e R s m args below meth c H locs cells slots Q (F0 m (pc + 1) ls (.int (u 7 j) :: rest))) : W p l e R s m args below meth c H locs cells slots Q (F0 m pc ls (.int (nI j) :: .ref (ad 7) :: rest)) := by
  refine va_iald S.1 S.2.1 hH.1 hH.2.1 5 4 rfl rfl (vp_in_nI hj (by decide)) hd ?_
  rw [nI_clamp (by omega)]
  exact kk
theorem xs7 {x : Int32} (S : CallFix p m c cc nL s args lw_all RX0) (hH : gH D (xT ka) (xW ad ka u) A s H locs) (j : Nat) (hj : j < 8) (hd : decode cc pc = .ok (.iastore, 1)) (kk : ∀ (H1 : Heap) (locs1 : List Loc), gH D (xT ka) (xW ad ka (xup u 7 (upd (u 7) j x))) A s H1 locs1 → W p l e R s m args below meth c H1 locs1 cells slots Q (F0 m (pc + 1) ls rest)) : W p l e R s m args below meth c H locs cells slots Q (F0 m pc ls (.int x :: .int (nI j) :: .ref (ad 7) :: rest)) := by
  refine va_iast S.1 S.2.1 hH.1 hH.2.1 hH.2.2.1 hH.2.2.2.1 5 4 rfl rfl (vp_in_nI hj (by decide)) hd (fun H1 locs1 hP hD hS => ?_)
  rw [nI_clamp (by omega)] at hP hD
  exact kk H1 locs1 ⟨hH.1, hP, hD, hS, hH.2.2.2.2⟩
theorem xg8 (S : CallFix p m c cc nL s args lw_all RX0) (hH : gH D (xT ka) (xW ad ka u) A s H locs) (hd : decode cc pc = .ok (.getfield 25, 3)) (kk : W p l e R s m args below meth c H locs cells slots Q (F0 m (pc + 3) ls (.ref (ad 8) :: rest))) : W p l e R s m args below meth c H locs cells slots Q (F0 m pc ls (.ref (ad 0) :: rest)) :=
  va_get (D := D) (ci := 0) (v := .ref (ad 8)) (C := RX0) (T := TX0) (N := 13) S.1 S.2.1 S.2.2.2.2 in_X0 S.2.2.2.1 hH.1 hH.2.1 0 rfl rfl 8 (by decide) (S.2.2.2.2 _ q34) (fun _ h9 => h9) rfl hd kk
theorem xl8 (S : CallFix p m c cc nL s args lw_all RX0) (hH : gH D (xT ka) (xW ad ka u) A s H locs) (j : Nat) (hj : j < 8) (hd : decode cc pc = .ok (.iaload, 1)) (kk : W p l e R s m args below meth c H locs cells slots Q (F0 m (pc + 1) ls (.int (u 8 j) :: rest))) : W p l e R s m args below meth c H locs cells slots Q (F0 m pc ls (.int (nI j) :: .ref (ad 8) :: rest)) := by
  refine va_iald S.1 S.2.1 hH.1 hH.2.1 6 5 rfl rfl (vp_in_nI hj (by decide)) hd ?_
  rw [nI_clamp (by omega)]
  exact kk
theorem xs8 {x : Int32} (S : CallFix p m c cc nL s args lw_all RX0) (hH : gH D (xT ka) (xW ad ka u) A s H locs) (j : Nat) (hj : j < 8) (hd : decode cc pc = .ok (.iastore, 1)) (kk : ∀ (H1 : Heap) (locs1 : List Loc), gH D (xT ka) (xW ad ka (xup u 8 (upd (u 8) j x))) A s H1 locs1 → W p l e R s m args below meth c H1 locs1 cells slots Q (F0 m (pc + 1) ls rest)) : W p l e R s m args below meth c H locs cells slots Q (F0 m pc ls (.int x :: .int (nI j) :: .ref (ad 8) :: rest)) := by
  refine va_iast S.1 S.2.1 hH.1 hH.2.1 hH.2.2.1 hH.2.2.2.1 6 5 rfl rfl (vp_in_nI hj (by decide)) hd (fun H1 locs1 hP hD hS => ?_)
  rw [nI_clamp (by omega)] at hP hD
  exact kk H1 locs1 ⟨hH.1, hP, hD, hS, hH.2.2.2.2⟩
theorem xg9 (S : CallFix p m c cc nL s args lw_all RX0) (hH : gH D (xT ka) (xW ad ka u) A s H locs) (hd : decode cc pc = .ok (.getfield 88, 3)) (kk : W p l e R s m args below meth c H locs cells slots Q (F0 m (pc + 3) ls (.int (u 9 0) :: rest))) : W p l e R s m args below meth c H locs cells slots Q (F0 m pc ls (.ref (ad 0) :: rest)) :=
  va_get (D := D) (ci := 0) (v := .int (u 9 0)) (C := RX0) (T := TX0) (N := 13) S.1 S.2.1 S.2.2.2.2 in_X0 S.2.2.2.1 hH.1 hH.2.1 0 rfl rfl 9 (by decide) (S.2.2.2.2 _ q35) (fun _ h9 => h9) rfl hd kk
theorem xp9 {x : Int32} (S : CallFix p m c cc nL s args lw_all RX0) (hH : gH D (xT ka) (xW ad ka u) A s H locs) (hd : decode cc pc = .ok (.putfield 88, 3)) (kk : ∀ (H1 : Heap) (locs1 : List Loc), gH D (xT ka) (xW ad ka (xup u 9 (fun _ => x))) A s H1 locs1 → W p l e R s m args below meth c H1 locs1 cells slots Q (F0 m (pc + 3) ls rest)) : W p l e R s m args below meth c H locs cells slots Q (F0 m pc ls (.int x :: .ref (ad 0) :: rest)) :=
  va_put (D := D) (ci := 0) (v := .int x) (ty := .int) (C := RX0) (T := TX0) (N := 13) S.1 S.2.1 S.2.2.2.2 in_X0 tyX0 tyX0_ok nmX0 S.2.2.2.1 hH.1 hH.2.1 hH.2.2.1 hH.2.2.2.1 0 rfl rfl 9 (by decide) (S.2.2.2.2 _ q35) (fun _ h9 => h9) rfl (by decide +kernel) rfl rfl (Nat.le_of_ble_eq_true rfl) hd (fun H1 locs1 hP hD hS => kk H1 locs1 ⟨hH.1, hP, hD, hS, hH.2.2.2.2⟩)
theorem xg10 (S : CallFix p m c cc nL s args lw_all RX0) (hH : gH D (xT ka) (xW ad ka u) A s H locs) (hd : decode cc pc = .ok (.getfield 28, 3)) (kk : W p l e R s m args below meth c H locs cells slots Q (F0 m (pc + 3) ls (.ref (ad 10) :: rest))) : W p l e R s m args below meth c H locs cells slots Q (F0 m pc ls (.ref (ad 0) :: rest)) :=
  va_get (D := D) (ci := 0) (v := .ref (ad 10)) (C := RX0) (T := TX0) (N := 13) S.1 S.2.1 S.2.2.2.2 in_X0 S.2.2.2.1 hH.1 hH.2.1 0 rfl rfl 10 (by decide) (S.2.2.2.2 _ q36) (fun _ h9 => h9) rfl hd kk
theorem xl10 (S : CallFix p m c cc nL s args lw_all RX0) (hH : gH D (xT ka) (xW ad ka u) A s H locs) (j : Nat) (hj : j < 8) (hd : decode cc pc = .ok (.iaload, 1)) (kk : W p l e R s m args below meth c H locs cells slots Q (F0 m (pc + 1) ls (.int (u 10 j) :: rest))) : W p l e R s m args below meth c H locs cells slots Q (F0 m pc ls (.int (nI j) :: .ref (ad 10) :: rest)) := by
  refine va_iald S.1 S.2.1 hH.1 hH.2.1 7 6 rfl rfl (vp_in_nI hj (by decide)) hd ?_
  rw [nI_clamp (by omega)]
  exact kk
theorem xs10 {x : Int32} (S : CallFix p m c cc nL s args lw_all RX0) (hH : gH D (xT ka) (xW ad ka u) A s H locs) (j : Nat) (hj : j < 8) (hd : decode cc pc = .ok (.iastore, 1)) (kk : ∀ (H1 : Heap) (locs1 : List Loc), gH D (xT ka) (xW ad ka (xup u 10 (upd (u 10) j x))) A s H1 locs1 → W p l e R s m args below meth c H1 locs1 cells slots Q (F0 m (pc + 1) ls rest)) : W p l e R s m args below meth c H locs cells slots Q (F0 m pc ls (.int x :: .int (nI j) :: .ref (ad 10) :: rest)) := by
  refine va_iast S.1 S.2.1 hH.1 hH.2.1 hH.2.2.1 hH.2.2.2.1 7 6 rfl rfl (vp_in_nI hj (by decide)) hd (fun H1 locs1 hP hD hS => ?_)
  rw [nI_clamp (by omega)] at hP hD
  exact kk H1 locs1 ⟨hH.1, hP, hD, hS, hH.2.2.2.2⟩
theorem xg11 (S : CallFix p m c cc nL s args lw_all RX0) (hH : gH D (xT ka) (xW ad ka u) A s H locs) (hd : decode cc pc = .ok (.getfield 31, 3)) (kk : W p l e R s m args below meth c H locs cells slots Q (F0 m (pc + 3) ls (.ref (ad 11) :: rest))) : W p l e R s m args below meth c H locs cells slots Q (F0 m pc ls (.ref (ad 0) :: rest)) :=
  va_get (D := D) (ci := 0) (v := .ref (ad 11)) (C := RX0) (T := TX0) (N := 13) S.1 S.2.1 S.2.2.2.2 in_X0 S.2.2.2.1 hH.1 hH.2.1 0 rfl rfl 11 (by decide) (S.2.2.2.2 _ q37) (fun _ h9 => h9) rfl hd kk
theorem xl11 (S : CallFix p m c cc nL s args lw_all RX0) (hH : gH D (xT ka) (xW ad ka u) A s H locs) (j : Nat) (hj : j < 24) (hd : decode cc pc = .ok (.iaload, 1)) (kk : W p l e R s m args below meth c H locs cells slots Q (F0 m (pc + 1) ls (.int (u 11 j) :: rest))) : W p l e R s m args below meth c H locs cells slots Q (F0 m pc ls (.int (nI j) :: .ref (ad 11) :: rest)) := by
  refine va_iald S.1 S.2.1 hH.1 hH.2.1 8 7 rfl rfl (vp_in_nI hj (by decide)) hd ?_
  rw [nI_clamp (by omega)]
  exact kk
theorem xs11 {x : Int32} (S : CallFix p m c cc nL s args lw_all RX0) (hH : gH D (xT ka) (xW ad ka u) A s H locs) (j : Nat) (hj : j < 24) (hd : decode cc pc = .ok (.iastore, 1)) (kk : ∀ (H1 : Heap) (locs1 : List Loc), gH D (xT ka) (xW ad ka (xup u 11 (upd (u 11) j x))) A s H1 locs1 → W p l e R s m args below meth c H1 locs1 cells slots Q (F0 m (pc + 1) ls rest)) : W p l e R s m args below meth c H locs cells slots Q (F0 m pc ls (.int x :: .int (nI j) :: .ref (ad 11) :: rest)) := by
  refine va_iast S.1 S.2.1 hH.1 hH.2.1 hH.2.2.1 hH.2.2.2.1 8 7 rfl rfl (vp_in_nI hj (by decide)) hd (fun H1 locs1 hP hD hS => ?_)
  rw [nI_clamp (by omega)] at hP hD
  exact kk H1 locs1 ⟨hH.1, hP, hD, hS, hH.2.2.2.2⟩
theorem xg12 (S : CallFix p m c cc nL s args lw_all RX0) (hH : gH D (xT ka) (xW ad ka u) A s H locs) (hd : decode cc pc = .ok (.getfield 34, 3)) (kk : W p l e R s m args below meth c H locs cells slots Q (F0 m (pc + 3) ls (.ref (ad 12) :: rest))) : W p l e R s m args below meth c H locs cells slots Q (F0 m pc ls (.ref (ad 0) :: rest)) :=
  va_get (D := D) (ci := 0) (v := .ref (ad 12)) (C := RX0) (T := TX0) (N := 13) S.1 S.2.1 S.2.2.2.2 in_X0 S.2.2.2.1 hH.1 hH.2.1 0 rfl rfl 12 (by decide) (S.2.2.2.2 _ q38) (fun _ h9 => h9) rfl hd kk
theorem xl12 (S : CallFix p m c cc nL s args lw_all RX0) (hH : gH D (xT ka) (xW ad ka u) A s H locs) (j : Nat) (hj : j < 24) (hd : decode cc pc = .ok (.baload, 1)) (kk : W p l e R s m args below meth c H locs cells slots Q (F0 m (pc + 1) ls (.int (u 12 j) :: rest))) : W p l e R s m args below meth c H locs cells slots Q (F0 m pc ls (.int (nI j) :: .ref (ad 12) :: rest)) := by
  refine va_zald S.1 S.2.1 hH.1 hH.2.1 9 8 rfl rfl (vp_in_nI hj (by decide)) hd ?_
  rw [nI_clamp (by omega)]
  exact kk
theorem xs12 {x : Int32} (S : CallFix p m c cc nL s args lw_all RX0) (hH : gH D (xT ka) (xW ad ka u) A s H locs) (j : Nat) (hj : j < 24) (hx : x = 0 ∨ x = 1) (hd : decode cc pc = .ok (.bastore, 1)) (kk : ∀ (H1 : Heap) (locs1 : List Loc), gH D (xT ka) (xW ad ka (xup u 12 (upd (u 12) j x))) A s H1 locs1 → W p l e R s m args below meth c H1 locs1 cells slots Q (F0 m (pc + 1) ls rest)) : W p l e R s m args below meth c H locs cells slots Q (F0 m pc ls (.int x :: .int (nI j) :: .ref (ad 12) :: rest)) := by
  refine va_zast S.1 S.2.1 hH.1 hH.2.1 hH.2.2.1 hH.2.2.2.1 9 8 rfl rfl (vp_in_nI hj (by decide)) hd (fun H1 locs1 hP hD hS => ?_)
  rw [nI_clamp (by omega)] at hP hD
  have en : vp_nar .boolean x = x := by rcases hx with rfl | rfl <;> rfl
  rw [en] at hP hD
  exact kk H1 locs1 ⟨hH.1, hP, hD, hS, hH.2.2.2.2⟩
theorem mg0 (S : CallFix p m c cc nL s args lw_all RX1) (hH : gH D (mT ka) (mW ad ka u) A s H locs) (hd : decode cc pc = .ok (.getfield 16, 3)) (kk : W p l e R s m args below meth c H locs cells slots Q (F0 m (pc + 3) ls (.int (u 0 0) :: rest))) : W p l e R s m args below meth c H locs cells slots Q (F0 m pc ls (.ref (ad 0) :: rest)) :=
  va_get (D := D) (ci := 1) (v := .int (u 0 0)) (C := RX1) (T := TX1) (N := 3) S.1 S.2.1 S.2.2.2.2 in_X1 S.2.2.2.1 hH.1 hH.2.1 0 rfl rfl 0 (by decide) (S.2.2.2.2 _ q163) (fun _ h9 => h9) rfl hd kk
theorem mp0 {x : Int32} (S : CallFix p m c cc nL s args lw_all RX1) (hH : gH D (mT ka) (mW ad ka u) A s H locs) (hd : decode cc pc = .ok (.putfield 16, 3)) (kk : ∀ (H1 : Heap) (locs1 : List Loc), gH D (mT ka) (mW ad ka (xup u 0 (fun _ => x))) A s H1 locs1 → W p l e R s m args below meth c H1 locs1 cells slots Q (F0 m (pc + 3) ls rest)) : W p l e R s m args below meth c H locs cells slots Q (F0 m pc ls (.int x :: .ref (ad 0) :: rest)) :=
  va_put (D := D) (ci := 1) (v := .int x) (ty := .int) (C := RX1) (T := TX1) (N := 3) S.1 S.2.1 S.2.2.2.2 in_X1 tyX1 tyX1_ok nmX1 S.2.2.2.1 hH.1 hH.2.1 hH.2.2.1 hH.2.2.2.1 0 rfl rfl 0 (by decide) (S.2.2.2.2 _ q163) (fun _ h9 => h9) rfl (by decide +kernel) rfl rfl (Nat.le_of_ble_eq_true rfl) hd (fun H1 locs1 hP hD hS => kk H1 locs1 ⟨hH.1, hP, hD, hS, hH.2.2.2.2⟩)
theorem mg1 (S : CallFix p m c cc nL s args lw_all RX1) (hH : gH D (mT ka) (mW ad ka u) A s H locs) (hd : decode cc pc = .ok (.getfield 7, 3)) (kk : W p l e R s m args below meth c H locs cells slots Q (F0 m (pc + 3) ls (.ref (ad 1) :: rest))) : W p l e R s m args below meth c H locs cells slots Q (F0 m pc ls (.ref (ad 0) :: rest)) :=
  va_get (D := D) (ci := 1) (v := .ref (ad 1)) (C := RX1) (T := TX1) (N := 3) S.1 S.2.1 S.2.2.2.2 in_X1 S.2.2.2.1 hH.1 hH.2.1 0 rfl rfl 1 (by decide) (S.2.2.2.2 _ q164) (fun _ h9 => h9) rfl hd kk
theorem ml1 (S : CallFix p m c cc nL s args lw_all RX1) (hH : gH D (mT ka) (mW ad ka u) A s H locs) (j : Nat) (hj : j < 24) (hd : decode cc pc = .ok (.iaload, 1)) (kk : W p l e R s m args below meth c H locs cells slots Q (F0 m (pc + 1) ls (.int (u 1 j) :: rest))) : W p l e R s m args below meth c H locs cells slots Q (F0 m pc ls (.int (nI j) :: .ref (ad 1) :: rest)) := by
  refine va_iald S.1 S.2.1 hH.1 hH.2.1 1 0 rfl rfl (vp_in_nI hj (by decide)) hd ?_
  rw [nI_clamp (by omega)]
  exact kk
theorem ms1 {x : Int32} (S : CallFix p m c cc nL s args lw_all RX1) (hH : gH D (mT ka) (mW ad ka u) A s H locs) (j : Nat) (hj : j < 24) (hd : decode cc pc = .ok (.iastore, 1)) (kk : ∀ (H1 : Heap) (locs1 : List Loc), gH D (mT ka) (mW ad ka (xup u 1 (upd (u 1) j x))) A s H1 locs1 → W p l e R s m args below meth c H1 locs1 cells slots Q (F0 m (pc + 1) ls rest)) : W p l e R s m args below meth c H locs cells slots Q (F0 m pc ls (.int x :: .int (nI j) :: .ref (ad 1) :: rest)) := by
  refine va_iast S.1 S.2.1 hH.1 hH.2.1 hH.2.2.1 hH.2.2.2.1 1 0 rfl rfl (vp_in_nI hj (by decide)) hd (fun H1 locs1 hP hD hS => ?_)
  rw [nI_clamp (by omega)] at hP hD
  exact kk H1 locs1 ⟨hH.1, hP, hD, hS, hH.2.2.2.2⟩
theorem mg2 (S : CallFix p m c cc nL s args lw_all RX1) (hH : gH D (mT ka) (mW ad ka u) A s H locs) (hd : decode cc pc = .ok (.getfield 13, 3)) (kk : W p l e R s m args below meth c H locs cells slots Q (F0 m (pc + 3) ls (.ref (ad 2) :: rest))) : W p l e R s m args below meth c H locs cells slots Q (F0 m pc ls (.ref (ad 0) :: rest)) :=
  va_get (D := D) (ci := 1) (v := .ref (ad 2)) (C := RX1) (T := TX1) (N := 3) S.1 S.2.1 S.2.2.2.2 in_X1 S.2.2.2.1 hH.1 hH.2.1 0 rfl rfl 2 (by decide) (S.2.2.2.2 _ q165) (fun _ h9 => h9) rfl hd kk
theorem ml2 (S : CallFix p m c cc nL s args lw_all RX1) (hH : gH D (mT ka) (mW ad ka u) A s H locs) (j : Nat) (hj : j < 24) (hd : decode cc pc = .ok (.iaload, 1)) (kk : W p l e R s m args below meth c H locs cells slots Q (F0 m (pc + 1) ls (.int (u 2 j) :: rest))) : W p l e R s m args below meth c H locs cells slots Q (F0 m pc ls (.int (nI j) :: .ref (ad 2) :: rest)) := by
  refine va_iald S.1 S.2.1 hH.1 hH.2.1 2 1 rfl rfl (vp_in_nI hj (by decide)) hd ?_
  rw [nI_clamp (by omega)]
  exact kk
theorem ms2 {x : Int32} (S : CallFix p m c cc nL s args lw_all RX1) (hH : gH D (mT ka) (mW ad ka u) A s H locs) (j : Nat) (hj : j < 24) (hd : decode cc pc = .ok (.iastore, 1)) (kk : ∀ (H1 : Heap) (locs1 : List Loc), gH D (mT ka) (mW ad ka (xup u 2 (upd (u 2) j x))) A s H1 locs1 → W p l e R s m args below meth c H1 locs1 cells slots Q (F0 m (pc + 1) ls rest)) : W p l e R s m args below meth c H locs cells slots Q (F0 m pc ls (.int x :: .int (nI j) :: .ref (ad 2) :: rest)) := by
  refine va_iast S.1 S.2.1 hH.1 hH.2.1 hH.2.2.1 hH.2.2.2.1 2 1 rfl rfl (vp_in_nI hj (by decide)) hd (fun H1 locs1 hP hD hS => ?_)
  rw [nI_clamp (by omega)] at hP hD
  exact kk H1 locs1 ⟨hH.1, hP, hD, hS, hH.2.2.2.2⟩
theorem x_recv (hH : gH D (xT ka) (xW ad ka u) A s H locs) : ∃ cell : Cell, H[ad 0]? = some cell ∧ cell.vm.isStatics = false ∧ s.vm.findClass RX0 = some cell.cls := va_recv hH.1 hH.2.1 (ci := 0) (q0 := 0) (q := (RX0, TX0, 13)) rfl rfl
theorem m_recv (hH : gH D (mT ka) (mW ad ka u) A s H locs) : ∃ cell : Cell, H[ad 0]? = some cell ∧ cell.vm.isStatics = false ∧ s.vm.findClass RX1 = some cell.cls := va_recv hH.1 hH.2.1 (ci := 1) (q0 := 0) (q := (RX1, TX1, 3)) rfl rfl
end GX
end
section
/-! the search as numbers: what is done, what is left to do -/
def ss_bv (x : Int32) : Nat := if x = 1 then 1 else 0
def ss_y (x : Int32) : Nat := if x = 1 then 2 else if x = 0 then 1 else 0
/-- the number that the d highest variables' values make -/
def ss_pn (val : Nat → Int32) : Nat → Nat
  | 0 => 0
  | d + 1 => 2 * ss_pn val d + ss_bv (val (7 - d))
def ss_R (i : Nat) (x : Int32) : Nat := (3 - ss_y x) + (2 - ss_y x) * (2 ^ (i + 2) - 3)
/-- steps that are left at the d highest levels -/
def ss_mu (val : Nat → Int32) : Nat → Nat
  | 0 => 0
  | d + 1 => ss_mu val d + ss_R (7 - d) (val (7 - d))
theorem ss_pn_cong {f g : Nat → Int32} : ∀ {d : Nat}, d ≤ 8 → (∀ i, 8 - d ≤ i → i < 8 → f i = g i) → ss_pn f d = ss_pn g d
  | 0, _, _ => rfl
  | d + 1, hd, h => by
    rw [ss_pn, ss_pn, ss_pn_cong (by omega) (fun i h1 h2 => h i (by omega) h2), h (7 - d) (by omega) (by omega)]
theorem ss_mu_cong {f g : Nat → Int32} : ∀ {d : Nat}, d ≤ 8 → (∀ i, 8 - d ≤ i → i < 8 → f i = g i) → ss_mu f d = ss_mu g d
  | 0, _, _ => rfl
  | d + 1, hd, h => by
    rw [ss_mu, ss_mu, ss_mu_cong (by omega) (fun i h1 h2 => h i (by omega) h2), h (7 - d) (by omega) (by omega)]
theorem ss_bv_le (x : Int32) : ss_bv x ≤ 1 := by unfold ss_bv; split <;> omega
theorem ss_pn_lt (val : Nat → Int32) : ∀ d, ss_pn val d < 2 ^ d
  | 0 => by simp [ss_pn]
  | d + 1 => by
    have h := ss_pn_lt val d
    have h2 := ss_bv_le (val (7 - d))
    rw [ss_pn, Nat.pow_succ]
    omega
theorem ss_tb (a i : Nat) : (if a.testBit i = true then 1 else 0) = a / 2 ^ i % 2 := by
  rw [Nat.testBit_eq_decide_div_mod_eq]
  by_cases h : a / 2 ^ i % 2 = 1
  · simp [h]
  · simp [h]
    omega
theorem ss_pn_bits {val : Nat → Int32} {a : Nat} : ∀ {d : Nat}, d ≤ 8 → a / 2 ^ (8 - d) = ss_pn val d → ∀ i, 8 - d ≤ i → i < 8 → (if a.testBit i = true then 1 else 0) = ss_bv (val i)
  | 0, _, _, i, h1, h2 => absurd h2 (by omega)
  | d + 1, hd, h, i, h1, h2 => by
    have hb := ss_bv_le (val (7 - d))
    rw [ss_pn, show 8 - (d + 1) = 7 - d by omega] at h
    rcases Nat.lt_or_ge (7 - d) i with q | q
    · refine ss_pn_bits (d := d) (by omega) ?_ i (by omega) h2
      rw [show 8 - d = (7 - d) + 1 by omega, Nat.pow_succ, ← Nat.div_div_eq_div_mul, h]
      omega
    · have e : i = 7 - d := by omega
      subst e
      rw [ss_tb, h]
      omega
def ss_df (val giv : Nat → Int32) (j : Nat) : Prop := (∀ i, i < 8 → i < j → val i = -1) ∧ ∀ i, i < 8 → j < i → (val i = 0 ∨ val i = 1) ∧ (giv i < 0 ∨ giv i = val i)
def ss_G (giv : Nat → Int32) (a : Nat) : Prop := ∀ i, i < 8 → giv i < 0 ∨ giv i = ss_b a i
def ss_N (val : Nat → Int32) (j : Nat) : Nat := (2 * ss_pn val (7 - j) + ss_y (val j)) * 2 ^ j
def ss_lv (n : Nat) (cs wt : Nat → Nat) (val : Nat → Int32) : Nat := fb_sm (fun k => if ss_op (nI (cs k)) val 8 = 0 then wt k else 0) n
/-- no hard clause is without a literal -/
def ss_hd (n : Nat) (cs wt : Nat → Nat) (val : Nat → Int32) : Prop := ∀ k, k < n → wt k = 0 → ss_op (nI (cs k)) val 8 ≠ 0
theorem ss_lv_le {n : Nat} {cs wt : Nat → Nat} (hw : ss_w n cs wt) (val : Nat → Int32) : ss_lv n cs wt val ≤ 1200 := by
  have h : fb_sm (fun k => if ss_op (nI (cs k)) val 8 = 0 then wt k else 0) n ≤ n * 50 := fb_sm_bound (fun k hk => by
    have := (hw.2 k hk).2
    split <;> omega)
  have := hw.1
  unfold ss_lv
  omega
/-- the search's loop: where it stands (at a level, at a whole assignment, at the end), the best of what is done, steps that are left -/
def ss_in (n : Nat) (cs wt : Nat → Nat) (val giv : Nat → Int32) (bl ba vx : Int32) (st : Nat) : Prop :=
  (∃ j, j < 8 ∧ vx = nI j ∧ ss_df val giv j ∧ (val j = -1 ∨ val j = 0 ∨ val j = 1) ∧ ss_bi n cs wt (ss_N val j) (ss_G giv) bl ba ∧ st + ss_mu val (8 - j) ≤ 1021) ∨
  (vx = -1 ∧ (∀ i, i < 8 → (val i = 0 ∨ val i = 1) ∧ (giv i < 0 ∨ giv i = val i)) ∧ ss_bi n cs wt (ss_pn val 8) (ss_G giv) bl ba ∧ ss_hd n cs wt val ∧ nI (ss_lv n cs wt val) < bl ∧ st + 1 + ss_mu val 8 ≤ 1021) ∨
  (vx = nI 8 ∧ ss_bi n cs wt 256 (ss_G giv) bl ba ∧ st ≤ 1021)
def ss_nx (g x : Int32) : Int32 := if x = 1 then -1 else if x = 0 then (if g < 0 ∨ g = 1 then 1 else -1) else (if g < 0 ∨ g = 0 then 0 else if g = 1 then 1 else -1)
theorem ss_y_m1 : ss_y (-1) = 0 := by decide
theorem ss_y_0 : ss_y 0 = 1 := by decide
theorem ss_y_1 : ss_y 1 = 2 := by decide
theorem ss_bv_m1 : ss_bv (-1) = 0 := by decide
theorem ss_bv_0 : ss_bv 0 = 0 := by decide
theorem ss_bv_1 : ss_bv 1 = 1 := by decide
theorem ss_pw (j : Nat) : 4 ≤ 2 ^ (j + 2) := by
  have : 2 ^ 2 ≤ 2 ^ (j + 2) := Nat.pow_le_pow_right (by decide) (by omega)
  omega
theorem ss_R_pos (i : Nat) (x : Int32) : 1 ≤ ss_R i x := by
  unfold ss_R ss_y
  have := ss_pw i
  split
  · omega
  · split <;> omega
theorem ss_mu_8 (val : Nat → Int32) {j : Nat} (hj : j < 8) : ss_mu val (8 - j) = ss_mu val (7 - j) + ss_R j (val j) := by
  rw [show 8 - j = (7 - j) + 1 by omega, ss_mu, show 7 - (7 - j) = j by omega]
theorem ss_pn_8 (val : Nat → Int32) {j : Nat} (hj : j < 8) : ss_pn val (8 - j) = 2 * ss_pn val (7 - j) + ss_bv (val j) := by
  rw [show 8 - j = (7 - j) + 1 by omega, ss_pn, show 7 - (7 - j) = j by omega]
/-- a's bit at j, with the higher part -/
theorem ss_cut {a j P y z : Nat} (h1 : (2 * P + y) * 2 ^ j ≤ a) (h2 : a < (2 * P + z) * 2 ^ j) : 2 * P + y ≤ a / 2 ^ j ∧ a / 2 ^ j < 2 * P + z := by
  have hp : 0 < 2 ^ j := Nat.two_pow_pos j
  exact ⟨(Nat.le_div_iff_mul_le hp).mpr h1, (Nat.div_lt_iff_lt_mul hp).mpr h2⟩
theorem ss_b_of {a j : Nat} (h : a / 2 ^ j % 2 = 0) : ss_b a j = 0 := by
  unfold ss_b
  have := ss_tb a j
  rw [h] at this
  by_cases q : a.testBit j = true
  · rw [if_pos q] at this; cases this
  · rw [if_neg q]
theorem ss_b_of1 {a j : Nat} (h : a / 2 ^ j % 2 = 1) : ss_b a j = 1 := by
  unfold ss_b
  have := ss_tb a j
  rw [h] at this
  by_cases q : a.testBit j = true
  · rw [if_pos q]
  · rw [if_neg q] at this; cases this
theorem ss_b_bv {a i : Nat} {x : Int32} (hx : x = 0 ∨ x = 1) (h : (if a.testBit i = true then 1 else 0) = ss_bv x) : x = ss_b a i := by
  unfold ss_b
  by_cases q : a.testBit i = true
  · rw [if_pos q] at h ⊢
    rcases hx with rfl | rfl
    · rw [ss_bv_0] at h; cases h
    · rfl
  · rw [if_neg q] at h ⊢
    rcases hx with rfl | rfl
    · rfl
    · rw [ss_bv_1] at h; cases h
theorem upd_s (f : Nat → Int32) (k : Nat) (x : Int32) : upd f k x k = x := pk_us
theorem upd_n (f : Nat → Int32) {k j : Nat} (x : Int32) (h : j ≠ k) : upd f k x j = f j := pk_un h
section SR
variable {n : Nat} {cs wt : Nat → Nat} {val giv : Nat → Int32} {bl ba : Int32} {j st : Nat}
theorem ss_start (hw : ss_w n cs wt) (hv : ∀ i, i < 8 → val i = -1) : ss_in n cs wt val giv (nI 2000) (-1) (nI 7) 0 := by
  refine Or.inl ⟨7, by omega, rfl, ⟨fun i h _ => hv i h, fun i h1 h2 => absurd h2 (by omega)⟩, Or.inl (hv 7 (by omega)), ?_, ?_⟩
  · refine Or.inl ⟨rfl, rfl, fun a ha => ?_⟩
    have h0 : ss_N val 7 = 0 := by
      unfold ss_N
      rw [hv 7 (by omega), ss_y_m1]
      simp [ss_pn]
    have := ha.1
    omega
  · have e : ss_mu val (8 - 7) = ss_R 7 (-1) := by
      show ss_mu val 0 + ss_R 7 (val 7) = _
      rw [hv 7 (by omega)]
      simp [ss_mu]
    rw [e]
    decide
/-- all values of the level are done: up -/
theorem ss_up (hw : ss_w n cs wt) (hj : j < 8) (hd : ss_df val giv j) (h3 : val j = -1 ∨ val j = 0 ∨ val j = 1) (hb : ss_bi n cs wt (ss_N val j) (ss_G giv) bl ba) (hm : st + ss_mu val (8 - j) ≤ 1021) (hr : ss_nx (giv j) (val j) = -1) : ss_in n cs wt (upd val j (-1)) giv bl ba (nI (j + 1)) (st + 1) := by
  have hG : ∀ a, ss_N val j ≤ a → a < (2 * ss_pn val (7 - j) + 2) * 2 ^ j → ss_G giv a → False := by
    intro a h1 h2 hg
    obtain ⟨q1, q2⟩ := ss_cut h1 h2
    have hgj := hg j hj
    rcases h3 with e | e | e
    · rw [e] at hr
      unfold ss_nx at hr
      rw [if_neg (by decide), if_neg (by decide)] at hr
      by_cases g0 : giv j < 0 ∨ giv j = 0
      · rw [if_pos g0] at hr; exact absurd hr (by decide)
      · rw [if_neg g0] at hr
        by_cases g1 : giv j = 1
        · rw [if_pos g1] at hr; exact absurd hr (by decide)
        · rcases hgj with g | g
          · exact g0 (Or.inl g)
          · rcases ss_b_01 a j with z | z
            · exact g0 (Or.inr (g.trans z))
            · exact g1 (g.trans z)
    · rw [e] at hr q1
      rw [ss_y_0] at q1
      unfold ss_nx at hr
      rw [if_neg (by decide), if_pos rfl] at hr
      have hb1 : ss_b a j = 1 := ss_b_of1 (by omega)
      by_cases g0 : giv j < 0 ∨ giv j = 1
      · rw [if_pos g0] at hr; exact absurd hr (by decide)
      · rcases hgj with g | g
        · exact g0 (Or.inl g)
        · exact g0 (Or.inr (g.trans hb1))
    · rw [e, ss_y_1] at q1
      omega
  have hNN : ss_N val j ≤ (2 * ss_pn val (7 - j) + 2) * 2 ^ j := by
    unfold ss_N
    apply Nat.mul_le_mul_right
    unfold ss_y
    split
    · omega
    · split <;> omega
  have hb2 := ss_bi_skip hw hb hNN (fun a h1 h2 h4 _ => (hG a h1 h2 h4).elim)
  have hpw : (2 * ss_pn val (7 - j) + 2) * 2 ^ j = (ss_pn val (7 - j) + 1) * 2 ^ (j + 1) := by
    rw [Nat.pow_succ, Nat.mul_comm (2 ^ j) 2, ← Nat.mul_assoc]
    congr 1
    omega
  rw [hpw] at hb2
  rw [ss_mu_8 val hj] at hm
  have hR := ss_R_pos j (val j)
  by_cases h7 : j = 7
  · subst h7
    refine Or.inr (Or.inr ⟨rfl, ?_, by omega⟩)
    have : (ss_pn val (7 - 7) + 1) * 2 ^ (7 + 1) = 256 := by simp [ss_pn]
    rw [this] at hb2
    exact hb2
  · have hj1 : j + 1 < 8 := by omega
    have hd1 := hd.2 (j + 1) hj1 (by omega)
    have hpc : ∀ d, d ≤ 7 - j → ss_pn (upd val j (-1)) d = ss_pn val d := fun d h => ss_pn_cong (by omega) (fun i h1 h2 => upd_n _ _ (by omega))
    have hmc : ∀ d, d ≤ 7 - j → ss_mu (upd val j (-1)) d = ss_mu val d := fun d h => ss_mu_cong (by omega) (fun i h1 h2 => upd_n _ _ (by omega))
    refine Or.inl ⟨j + 1, hj1, rfl, ⟨fun i h1 h2 => ?_, fun i h1 h2 => ?_⟩, ?_, ?_, ?_⟩
    · by_cases q : i = j
      · subst q; exact upd_s _ _ _
      · rw [upd_n _ _ q]; exact hd.1 i h1 (by omega)
    · rw [upd_n _ _ (show i ≠ j by omega)]; exact hd.2 i h1 (by omega)
    · rw [upd_n _ _ (show j + 1 ≠ j by omega)]; exact Or.inr hd1.1
    · have e : ss_N (upd val j (-1)) (j + 1) = (ss_pn val (7 - j) + 1) * 2 ^ (j + 1) := by
        unfold ss_N
        rw [upd_n _ _ (show j + 1 ≠ j by omega), hpc _ (by omega), show 7 - j = 8 - (j + 1) by omega, ss_pn_8 val hj1]
        congr 1
        rcases hd1.1 with z | z
        · rw [z, ss_y_0, ss_bv_0]
        · rw [z, ss_y_1, ss_bv_1]
      rw [e]
      exact hb2
    · rw [hmc _ (by omega), show 8 - (j + 1) = 7 - j by omega]
      omega
/-- the next value of a level: above the last one, as it is given; what is passed over is not as it is given -/
theorem ss_nx_spec {g x r : Int32} (hx : x = -1 ∨ x = 0 ∨ x = 1) (hr : ss_nx g x = r) (hn : ¬ r = -1) : (r = 0 ∨ r = 1) ∧ (g < 0 ∨ g = r) ∧ ss_y x ≤ ss_bv r ∧ (x = -1 ∧ r = 1 → ¬ g < 0 ∧ ¬ g = 0) := by
  subst hr
  rcases hx with rfl | rfl | rfl
  · unfold ss_nx at hn ⊢
    rw [if_neg (by decide), if_neg (by decide)] at hn ⊢
    by_cases g0 : g < 0 ∨ g = 0
    · rw [if_pos g0]
      exact ⟨Or.inl rfl, g0, by decide, fun h => absurd h.2 (by decide)⟩
    · rw [if_neg g0] at hn ⊢
      by_cases g1 : g = 1
      · rw [if_pos g1]
        exact ⟨Or.inr rfl, Or.inr g1, by decide, fun _ => ⟨fun q => g0 (Or.inl q), fun q => g0 (Or.inr q)⟩⟩
      · rw [if_neg g1] at hn
        exact absurd rfl hn
  · unfold ss_nx at hn ⊢
    rw [if_neg (by decide), if_pos rfl] at hn ⊢
    by_cases g0 : g < 0 ∨ g = 1
    · rw [if_pos g0]
      exact ⟨Or.inr rfl, g0, by decide, fun h => absurd h.1 (by decide)⟩
    · rw [if_neg g0] at hn
      exact absurd rfl hn
  · unfold ss_nx at hn
    rw [if_pos rfl] at hn
    exact absurd rfl hn
/-- up to where the value is: nothing there is as it is given, but below the value -/
theorem ss_pass {r : Int32} (hw : ss_w n cs wt) (hj : j < 8) (h3 : val j = -1 ∨ val j = 0 ∨ val j = 1) (hb : ss_bi n cs wt (ss_N val j) (ss_G giv) bl ba) (hr : ss_nx (giv j) (val j) = r) (hn : ¬ r = -1) : ss_bi n cs wt ((2 * ss_pn val (7 - j) + ss_bv r) * 2 ^ j) (ss_G giv) bl ba := by
  obtain ⟨r01, hg, hy, hs⟩ := ss_nx_spec h3 hr hn
  refine ss_bi_skip hw hb ?_ ?_
  · unfold ss_N
    apply Nat.mul_le_mul_right
    omega
  · intro a h1 h2 h4 _
    exfalso
    obtain ⟨q1, q2⟩ := ss_cut h1 h2
    have hbr := ss_bv_le r
    rcases h3 with e | e | e
    · rw [e, ss_y_m1] at q1
      rcases r01 with z | z
      · rw [z, ss_bv_0] at q2; omega
      · rw [z, ss_bv_1] at q2
        have hb0 : ss_b a j = 0 := ss_b_of (by omega)
        obtain ⟨g1, g2⟩ := hs ⟨e, z⟩
        rcases h4 j hj with g | g
        · exact g1 g
        · exact g2 (g.trans hb0)
    · rw [e, ss_y_0] at q1
      omega
    · rw [e, ss_y_1] at q1
      omega
theorem ss_R_dn {x r : Int32} (hx : x = -1 ∨ x = 0 ∨ x = 1) (hr : r = 0 ∨ r = 1) (hy : ss_y x ≤ ss_bv r) (i : Nat) : ss_R i r + (2 ^ (i + 2) - 3) + 1 ≤ ss_R i x := by
  unfold ss_R
  generalize 2 ^ (i + 2) - 3 = E
  rcases hx with rfl | rfl | rfl <;> rcases hr with rfl | rfl <;> simp only [ss_y_m1, ss_y_0, ss_y_1, ss_bv_0, ss_bv_1] at hy ⊢ <;> omega
/-- the value isn't worthwhile: its assignments are left out -/
theorem ss_stay {r : Int32} (hw : ss_w n cs wt) (hj : j < 8) (hd : ss_df val giv j) (h3 : val j = -1 ∨ val j = 0 ∨ val j = 1) (hb : ss_bi n cs wt (ss_N val j) (ss_G giv) bl ba) (hm : st + ss_mu val (8 - j) ≤ 1021) (hr : ss_nx (giv j) (val j) = r) (hn : ¬ r = -1)
    (hp : ∀ a, ss_ext (upd val j r) a → ss_al cs wt a n = true → bl ≤ nI (ss_ls cs wt a n)) : ss_in n cs wt (upd val j r) giv bl ba (nI j) (st + 1) := by
  obtain ⟨r01, hg, hy, hs⟩ := ss_nx_spec h3 hr hn
  have hb1 := ss_pass hw hj h3 hb hr hn
  have hpc : ss_pn (upd val j r) (7 - j) = ss_pn val (7 - j) := ss_pn_cong (by omega) (fun i h1 h2 => upd_n _ _ (by omega))
  have hmc : ss_mu (upd val j r) (7 - j) = ss_mu val (7 - j) := ss_mu_cong (by omega) (fun i h1 h2 => upd_n _ _ (by omega))
  have hyr : ss_y r = ss_bv r + 1 := by rcases r01 with rfl | rfl <;> decide
  refine Or.inl ⟨j, hj, rfl, ⟨fun i h1 h2 => ?_, fun i h1 h2 => ?_⟩, ?_, ?_, ?_⟩
  · rw [upd_n _ _ (show i ≠ j by omega)]; exact hd.1 i h1 h2
  · rw [upd_n _ _ (show i ≠ j by omega)]; exact hd.2 i h1 h2
  · rw [upd_s]; exact Or.inr r01
  · have e : ss_N (upd val j r) j = (2 * ss_pn val (7 - j) + (ss_bv r + 1)) * 2 ^ j := by
      unfold ss_N
      rw [upd_s, hpc, hyr]
    rw [e]
    refine ss_bi_skip hw hb1 (Nat.mul_le_mul_right _ (by omega)) ?_
    intro a h1 h2 h4 h5
    obtain ⟨q1, q2⟩ := ss_cut h1 h2
    have hq : a / 2 ^ j = ss_pn (upd val j r) (8 - j) := by
      rw [ss_pn_8 _ hj, hpc, upd_s]
      omega
    have hbits := ss_pn_bits (d := 8 - j) (by omega) (by rw [show 8 - (8 - j) = j by omega]; exact hq)
    refine hp a (fun i hi => ?_) h5
    rcases Nat.lt_trichotomy i j with q | q | q
    · left; rw [upd_n _ _ (show i ≠ j by omega)]; exact hd.1 i hi q
    · right
      subst q
      refine ss_b_bv ?_ (hbits i (by omega) hi)
      rw [upd_s]; exact r01
    · right
      refine ss_b_bv ?_ (hbits i (by omega) hi)
      rw [upd_n _ _ (show i ≠ j by omega)]; exact (hd.2 i hi q).1
  · rw [ss_mu_8 val hj] at hm
    rw [ss_mu_8 _ hj, hmc, upd_s]
    have := ss_R_dn h3 r01 hy j
    omega
/-- it is: down -/
theorem ss_down {r : Int32} (hw : ss_w n cs wt) (hj : j < 8) (hd : ss_df val giv j) (h3 : val j = -1 ∨ val j = 0 ∨ val j = 1) (hb : ss_bi n cs wt (ss_N val j) (ss_G giv) bl ba) (hm : st + ss_mu val (8 - j) ≤ 1021) (hr : ss_nx (giv j) (val j) = r) (hn : ¬ r = -1)
    (hh : ss_hd n cs wt (upd val j r)) (hl : nI (ss_lv n cs wt (upd val j r)) < bl) : ss_in n cs wt (upd val j r) giv bl ba (nI j - 1) (st + 1) := by
  obtain ⟨r01, hg, hy, hs⟩ := ss_nx_spec h3 hr hn
  have hb1 := ss_pass hw hj h3 hb hr hn
  have hpc : ss_pn (upd val j r) (7 - j) = ss_pn val (7 - j) := ss_pn_cong (by omega) (fun i h1 h2 => upd_n _ _ (by omega))
  have hmc : ss_mu (upd val j r) (7 - j) = ss_mu val (7 - j) := ss_mu_cong (by omega) (fun i h1 h2 => upd_n _ _ (by omega))
  have hR := ss_R_dn h3 r01 hy j
  have hm8 : ss_mu (upd val j r) (8 - j) = ss_mu val (7 - j) + ss_R j r := by rw [ss_mu_8 _ hj, hmc, upd_s]
  have hp8 : ss_pn (upd val j r) (8 - j) = 2 * ss_pn val (7 - j) + ss_bv r := by rw [ss_pn_8 _ hj, hpc, upd_s]
  rw [ss_mu_8 val hj] at hm
  have hup : ∀ i, i < 8 → j ≤ i → (upd val j r i = 0 ∨ upd val j r i = 1) ∧ (giv i < 0 ∨ giv i = upd val j r i) := by
    intro i h1 h2
    by_cases q : i = j
    · subst q; rw [upd_s]; exact ⟨r01, hg⟩
    · rw [upd_n _ _ q]; exact hd.2 i h1 (by omega)
  cases j with
  | zero =>
    refine Or.inr (Or.inl ⟨by decide, fun i h => hup i h (Nat.zero_le _), ?_, hh, hl, ?_⟩)
    · have e : ss_pn (upd val 0 r) 8 = (2 * ss_pn val (7 - 0) + ss_bv r) * 2 ^ 0 := by rw [Nat.pow_zero, Nat.mul_one]; exact hp8
      rw [e]
      exact hb1
    · have e : ss_mu (upd val 0 r) 8 = ss_mu val (7 - 0) + ss_R 0 r := hm8
      rw [e]
      have h1 : 2 ^ (0 + 2) - 3 = 1 := by decide
      rw [h1] at hR
      omega
  | succ i0 =>
    refine Or.inl ⟨i0, by omega, nI_pred i0, ⟨fun i h1 h2 => ?_, fun i h1 h2 => hup i h1 (by omega)⟩, ?_, ?_, ?_⟩
    · rw [upd_n _ _ (show i ≠ i0 + 1 by omega)]; exact hd.1 i h1 (by omega)
    · left; rw [upd_n _ _ (show i0 ≠ i0 + 1 by omega)]; exact hd.1 i0 (by omega) (by omega)
    · have e : ss_N (upd val (i0 + 1) r) i0 = (2 * ss_pn val (7 - (i0 + 1)) + ss_bv r) * 2 ^ (i0 + 1) := by
        unfold ss_N
        rw [upd_n _ _ (show i0 ≠ i0 + 1 by omega), hd.1 i0 (by omega) (by omega), ss_y_m1, Nat.add_zero, show 7 - i0 = 8 - (i0 + 1) by omega, hp8, Nat.pow_succ, Nat.mul_comm (2 ^ i0) 2, ← Nat.mul_assoc]
        congr 1
        omega
      rw [e]
      exact hb1
    · rw [ss_mu_8 _ (show i0 < 8 by omega), show 7 - i0 = 8 - (i0 + 1) by omega, hm8, upd_n _ _ (show i0 ≠ i0 + 1 by omega), hd.1 i0 (by omega) (by omega)]
      have e : ss_R i0 (-1) = 2 ^ (i0 + 1 + 2) - 3 := by
        unfold ss_R
        rw [ss_y_m1]
        have h1 := ss_pw i0
        have h2 : 2 ^ (i0 + 1 + 2) = 2 * 2 ^ (i0 + 2) := by rw [show i0 + 1 + 2 = (i0 + 2) + 1 by omega, Nat.pow_succ, Nat.mul_comm]
        rw [h2]
        omega
      rw [e]
      omega
/-- the assignment that the values make -/
theorem ss_full {val : Nat → Int32} (hv : ∀ i, i < 8 → val i = 0 ∨ val i = 1) : ∀ i, i < 8 → val i = ss_b (ss_pn val 8) i := by
  intro i hi
  exact ss_b_bv (hv i hi) (ss_pn_bits (d := 8) (a := ss_pn val 8) (Nat.le_refl _) (by simp) i (by omega) hi)
theorem ss_v3_01 {val : Nat → Int32} (hv : ∀ i, i < 8 → val i = 0 ∨ val i = 1) : ss_v3 val := fun i hi => Or.inr (hv i hi)
theorem ss_op_full {val : Nat → Int32} (hv : ∀ i, i < 8 → val i = 0 ∨ val i = 1) {c : Nat} (hc : c < 65536) : ss_op (nI c) val 8 = 0 ↔ ss_sat c (ss_pn val 8) 16 = false := by
  rw [ss_opz (ss_v3_01 hv) hc]
  exact ⟨fun h => ss_fl_unsat h (fun i hi => Or.inr (ss_full hv i hi)), fun h => ss_unsat_fl h (ss_full hv)⟩
theorem ss_lv_full (hw : ss_w n cs wt) {val : Nat → Int32} (hv : ∀ i, i < 8 → val i = 0 ∨ val i = 1) : ss_lv n cs wt val = ss_ls cs wt (ss_pn val 8) n := by
  unfold ss_lv ss_ls
  apply fb_sm_cong
  intro k hk
  have h := ss_op_full hv (hw.2 k hk).1
  by_cases q : ss_sat (cs k) (ss_pn val 8) 16 = true
  · rw [if_pos q, if_neg (fun z => by rw [h.mp z] at q; cases q)]
  · rw [if_neg q, if_pos (h.mpr (by simpa using q))]
/-- a whole assignment is taken -/
theorem ss_leaf (hw : ss_w n cs wt) (hv : ∀ i, i < 8 → (val i = 0 ∨ val i = 1) ∧ (giv i < 0 ∨ giv i = val i)) (hb : ss_bi n cs wt (ss_pn val 8) (ss_G giv) bl ba) (hh : ss_hd n cs wt val) (hl : nI (ss_lv n cs wt val) < bl) (hm : st + 1 + ss_mu val 8 ≤ 1021) :
    ss_in n cs wt val giv (nI (ss_lv n cs wt val)) (nI (ss_pn val 8)) 0 (st + 1) := by
  have hv1 : ∀ i, i < 8 → val i = 0 ∨ val i = 1 := fun i h => (hv i h).1
  have el := ss_lv_full hw hv1
  rw [el] at hl ⊢
  have hG : ss_G giv (ss_pn val 8) := by
    intro i hi
    rw [← ss_full hv1 i hi]
    exact (hv i hi).2
  have hal : ss_al cs wt (ss_pn val 8) n = true := by
    rw [ss_al_iff]
    intro k hk h0
    have h1 := hh k hk h0
    cases hs : ss_sat (cs k) (ss_pn val 8) 16
    · exact absurd ((ss_op_full hv1 (hw.2 k hk).1).mpr hs) h1
    · rfl
  have hb2 := ss_bi_take hw hb hG hal hl
  refine Or.inl ⟨0, by omega, rfl, ⟨fun i h1 h2 => absurd h2 (Nat.not_lt_zero _), fun i h1 _ => hv i h1⟩, Or.inr (hv1 0 (by omega)), ?_, by omega⟩
  have e : ss_N val 0 = ss_pn val 8 + 1 := by
    unfold ss_N
    rw [Nat.pow_zero, Nat.mul_one, ss_pn_8 val (show 0 < 8 by omega)]
    rcases hv1 0 (by omega) with z | z
    · rw [z, ss_y_0, ss_bv_0]
    · rw [z, ss_y_1, ss_bv_1]
  rw [e]
  exact hb2
end SR
end
section
/-! unit steps and what is booked -/
def ss_vi (c v : Nat) : Prop := c.testBit (2 * v) = true ∨ c.testBit (2 * v + 1) = true
theorem ss_vi_li {c a v : Nat} (h : c.testBit (ss_li a v) = true) : ss_vi c v := by
  unfold ss_li at h
  split at h
  · exact Or.inl h
  · exact Or.inr h
/-- what variablesOf computes -/
def ss_vr (x : Int32) : Nat → Int32
  | 0 => 0
  | v + 1 => ss_vr x v ||| (if ((x.toUInt32 >>> ((nI 2 * nI v).toUInt32 &&& Int32.toUInt32 31)).toInt32 &&& 3) = 0 then 0 else (1 : Int32) <<< (nI v &&& 31))
theorem ss_vr_bt (c : Nat) : ∀ n, n ≤ 8 → ∀ i, i < 8 → (bt (ss_vr (nI c) n) i = true ↔ i < n ∧ ss_vi c i)
  | 0, _, i, _ => ⟨fun h => (by rw [ss_vr, b_0] at h; cases h), fun h => absurd h.1 (Nat.not_lt_zero _)⟩
  | n + 1, hn, i, hi => by
    have ih := ss_vr_bt c n (by omega) i hi
    have e : nI 2 * nI n = nI (2 * n) := pk_mul 2 n
    rw [ss_vr, b_or, Bool.or_eq_true, ih, e]
    have hb := ss_bit2 (nI c) (2 * n) (by omega)
    rw [bt_nI c (by omega), bt_nI c (by omega)] at hb
    by_cases h : (((nI c).toUInt32 >>> ((nI (2 * n)).toUInt32 &&& Int32.toUInt32 31)).toInt32 &&& 3) = 0
    · rw [if_pos h, b_0]
      obtain ⟨h1, h2⟩ := hb.mp h
      constructor
      · rintro (q | q)
        · exact ⟨by omega, q.2⟩
        · cases q
      · rintro ⟨q1, q2⟩
        refine Or.inl ⟨?_, q2⟩
        rcases Nat.lt_or_ge i n with z | z
        · exact z
        · exfalso
          have e : i = n := by omega
          subst e
          rcases q2 with q | q
          · rw [h1] at q; cases q
          · rw [h2] at q; cases q
    · rw [if_neg h, b_one n (by omega) (by omega), decide_eq_true_eq]
      have hv : ss_vi c n := by
        unfold ss_vi
        cases q1 : c.testBit (2 * n)
        · cases q2 : c.testBit (2 * n + 1)
          · exact absurd (hb.mpr ⟨q1, q2⟩) h
          · exact Or.inr rfl
        · exact Or.inl rfl
      constructor
      · rintro (q | q)
        · exact ⟨by omega, q.2⟩
        · subst q; exact ⟨by omega, hv⟩
      · rintro ⟨q1, q2⟩
        rcases Nat.lt_or_ge i n with z | z
        · exact Or.inl ⟨z, q2⟩
        · exact Or.inr (by omega)
theorem ss_one_nat {x i j : Nat} (h : x &&& (x - 1) = 0) (hi : x.testBit i = true) (hj : x.testBit j = true) (hij : i < j) : False := by
  have h1 : (x % 2 ^ j).testBit i = true := by
    rw [Nat.testBit_mod_two_pow]
    simp [hij, hi]
  have h2 : 0 < x % 2 ^ j := by
    rcases Nat.eq_zero_or_pos (x % 2 ^ j) with z | z
    · rw [z] at h1
      simp at h1
    · exact z
  have h3 : (x - 1) / 2 ^ j = x / 2 ^ j := by
    have hd := Nat.div_add_mod x (2 ^ j)
    have hlt := Nat.mod_lt x (Nat.two_pow_pos j)
    apply Nat.div_eq_of_lt_le
    · rw [Nat.mul_comm]
      omega
    · rw [Nat.succ_mul, Nat.mul_comm]
      omega
  have h4 : (x - 1).testBit j = true := by
    rw [Nat.testBit_eq_decide_div_mod_eq, h3, ← Nat.testBit_eq_decide_div_mod_eq]
    exact hj
  have h5 : (x &&& (x - 1)).testBit j = true := by
    rw [Nat.testBit_and, hj, h4]
    rfl
  rw [h] at h5
  simp at h5
theorem ss_one {o : Int32} (h : o &&& (o - 1) = 0) {i j : Nat} (hi' : i < 32) (hj' : j < 32) (hi : bt o i = true) (hj : bt o j = true) : i = j := by
  have e : o = nI o.toBitVec.toNat := by
    apply Int32.toBitVec_inj.1
    show o.toBitVec = BitVec.ofNat 32 o.toBitVec.toNat
    simp
  have hx := o.toBitVec.isLt
  generalize o.toBitVec.toNat = x at e hx
  subst e
  rw [bt_nI x hi'] at hi
  rw [bt_nI x hj'] at hj
  have hx1 : 1 ≤ x := by
    rcases Nat.eq_zero_or_pos x with z | z
    · subst z
      simp at hi
    · exact z
  obtain ⟨y, rfl⟩ : ∃ y, x = y + 1 := ⟨x - 1, by omega⟩
  rw [nI_pred, nx_and] at h
  have h0 : (y + 1) &&& y = 0 := by
    have hz : ((y + 1) &&& y) < 2 ^ 32 := Nat.lt_of_le_of_lt Nat.and_le_left hx
    have e := pk_tn hz
    rw [h] at e
    exact e.symm
  have h1 : (y + 1) &&& (y + 1 - 1) = 0 := h0
  rcases Nat.lt_trichotomy i j with q | q | q
  · exact (ss_one_nat h1 hi hj q).elim
  · exact q
  · exact (ss_one_nat h1 hj hi q).elim
/-- what the trail says: for each of its variables, a clause that is hard or has weight left, from which its value follows -/
def ss_ag (c : Nat) (fol tra : Nat → Int32) (t a : Nat) : Prop := ∀ i, i < t → ∀ v, v < 8 → tra i = nI v → ss_vi c v → fol v = ss_b a v
def ss_en (n : Nat) (cs wt : Nat → Nat) (ub val fol rea tra : Nat → Int32) (t v k : Nat) : Prop :=
  v < 8 ∧ k < n ∧ tra t = nI v ∧ fol v ≠ -1 ∧ rea v = nI k ∧ (wt k = 0 ∨ 0 < ub k) ∧ ∀ a, ss_ext val a → ss_sat (cs k) a 16 = true → ss_ag (cs k) fol tra t a → fol v = ss_b a v
def ss_tr (n : Nat) (cs wt : Nat → Nat) (ub val fol rea tra : Nat → Int32) (T : Nat) : Prop :=
  ss_v3 fol ∧ (∀ v, v < 8 → fol v = val v ∨ ∃ i, i < T ∧ tra i = nI v) ∧ (∀ t, t < T → ∃ v k, ss_en n cs wt ub val fol rea tra t v k) ∧ T + fb_ct (fun v => decide (fol v = -1)) 8 ≤ 8
def ss_cf (cs : Nat → Nat) (val fol tra : Nat → Int32) (T k : Nat) : Prop := ∀ a, ss_ext val a → ss_sat (cs k) a 16 = true → ss_ag (cs k) fol tra T a → False
section UT
variable {n : Nat} {cs wt : Nat → Nat} {ub val fol rea tra : Nat → Int32} {T k : Nat}
theorem ss_tr_0 (h3 : ss_v3 val) (hf : ∀ v, v < 8 → fol v = val v) : ss_tr n cs wt ub val fol rea tra 0 :=
  ⟨fun v h => by rw [hf v h]; exact h3 v h, fun v h => Or.inl (hf v h), fun t h => absurd h (Nat.not_lt_zero _), by have := fb_ct_le (fun v => decide (fol v = -1)) 8; omega⟩
theorem ss_tr_lit {a v : Nat} (h : ss_tr n cs wt ub val fol rea tra T) (he : ss_ext val a) (hag : ss_ag (cs k) fol tra T a) (hv : v < 8) (hc : (cs k).testBit (ss_li a v) = true) : fol v ≠ nI (ss_li a v % 2) := by
  intro q
  rcases h.2.1 v hv with e | ⟨i, hi, e⟩
  · rcases he v hv with z | z
    · exact ss_m1 (z.symm.trans (e.symm.trans q))
    · exact ss_li_ne a v (q.symm.trans (e.trans z))
  · exact ss_li_ne a v (q.symm.trans (hag i hi v hv e (ss_vi_li hc)))
theorem ss_tr_cf (h : ss_tr n cs wt ub val fol rea tra T) (hc : cs k < 65536) (h0 : ss_op (nI (cs k)) fol 8 = 0) : ss_cf cs val fol tra T k := by
  have hf := (ss_opz h.1 hc).mp h0
  intro a he hs hag
  obtain ⟨v, hv, hcv⟩ := (ss_sat_v (cs k) a).mp hs
  have := hf (ss_li a v) (ss_li_lt hv) hcv
  rw [ss_li_div] at this
  exact ss_tr_lit h he hag hv hcv this
theorem ss_tr_step {o : Int32} {v0 : Nat} (h : ss_tr n cs wt ub val fol rea tra T) (hk : k < n) (hc : cs k < 65536) (ha : wt k = 0 ∨ 0 < ub k) (ho : o = ss_op (nI (cs k)) fol 8) (h1 : o &&& (o - 1) = 0) (hv : v0 < 8) (hb : bt o (2 * v0) = true ∨ bt o (2 * v0 + 1) = true) (hm : fol v0 = -1) :
    T < 8 ∧ ss_tr n cs wt ub val (upd fol v0 (if bt o (2 * v0) = true then 1 else 0)) (upd rea v0 (nI k)) (upd tra T (nI v0)) (T + 1) := by
  have hct := fb_ct_upd (fun v => decide (fol v = -1)) false hv (n := 8)
  rw [if_pos (by rw [hm]; decide), if_neg (by decide)] at hct
  have h4 := h.2.2.2
  have hT : T < 8 := by omega
  have h01 : (if bt o (2 * v0) = true then (1 : Int32) else 0) = 0 ∨ (if bt o (2 * v0) = true then (1 : Int32) else 0) = 1 := by
    split
    · exact Or.inr rfl
    · exact Or.inl rfl
  generalize hx : (if bt o (2 * v0) = true then (1 : Int32) else 0) = x at h01
  have hxm : x ≠ -1 := by rcases h01 with z | z <;> rw [z] <;> decide
  have htr : ∀ i, i < T → upd tra T (nI v0) i = tra i := fun i hi => upd_n _ _ (by omega)
  have hne : ∀ i, i < T → ∀ v, v < 8 → tra i = nI v → v ≠ v0 := by
    intro i hi v hv8 e q
    obtain ⟨v1, k1, e1, -, e2, e3, -⟩ := h.2.2.1 i hi
    have : v1 = v := (nI_eq (by omega) (by omega)).mp (e2.symm.trans e)
    subst this
    subst q
    exact e3 hm
  have hag : ∀ t, t ≤ T → ∀ c a, ss_ag c (upd fol v0 x) (upd tra T (nI v0)) t a → ss_ag c fol tra t a := by
    intro t ht c a hq i hi v hv8 e hvi
    have e2 := hq i hi v hv8 (by rw [htr i (by omega)]; exact e) hvi
    rw [upd_n _ _ (hne i (by omega) v hv8 e)] at e2
    exact e2
  refine ⟨hT, ?_, ?_, ?_, ?_⟩
  · intro v hv8
    by_cases q : v = v0
    · subst q; rw [upd_s]; exact Or.inr h01
    · rw [upd_n _ _ q]; exact h.1 v hv8
  · intro v hv8
    by_cases q : v = v0
    · subst q; exact Or.inr ⟨T, by omega, upd_s _ _ _⟩
    · rw [upd_n _ _ q]
      rcases h.2.1 v hv8 with e | ⟨i, hi, e⟩
      · exact Or.inl e
      · exact Or.inr ⟨i, by omega, by rw [htr i hi]; exact e⟩
  · intro t ht
    rcases Nat.lt_or_ge t T with q | q
    · obtain ⟨v1, k1, e1, e2, e3, e4, e5, e6, e7⟩ := h.2.2.1 t q
      have hv1 : v1 ≠ v0 := fun z => e4 (by rw [z]; exact hm)
      refine ⟨v1, k1, e1, e2, by rw [htr t q]; exact e3, by rw [upd_n _ _ hv1]; exact e4, by rw [upd_n _ _ hv1]; exact e5, e6, ?_⟩
      intro a g1 g2 g3
      rw [upd_n _ _ hv1]
      exact e7 a g1 g2 (hag t (by omega) _ a g3)
    · have e : t = T := by omega
      subst e
      refine ⟨v0, k, hv, hk, upd_s _ _ _, by rw [upd_s]; exact hxm, upd_s _ _ _, ha, ?_⟩
      intro a g1 g2 g3
      rw [upd_s]
      have g4 := hag t (Nat.le_refl _) _ a g3
      obtain ⟨v, hv8, hcv⟩ := (ss_sat_v (cs k) a).mp g2
      have hbo : bt o (ss_li a v) = true := by
        rw [ho, ss_op_b h.1 (ss_li_lt hv8), hcv, ss_li_div, decide_eq_false (ss_tr_lit h g1 g4 hv8 hcv)]
        rfl
      have hlt := ss_li_lt (a := a) hv8
      have hvv : v = v0 := by
        have hd := ss_li_div a v
        rcases hb with z | z
        · have := ss_one h1 (by omega) (by omega) hbo z
          omega
        · have := ss_one h1 (by omega) (by omega) hbo z
          omega
      subst hvv
      rw [← hx]
      unfold ss_b
      unfold ss_li at hbo
      by_cases g : a.testBit v = true
      · rw [if_pos g] at hbo ⊢
        rw [if_pos hbo]
      · rw [if_neg g] at hbo ⊢
        rw [if_neg]
        intro z
        have := ss_one h1 (by omega) (by omega) hbo z
        omega
  · have e : fb_ct (fun v => decide (upd fol v0 x v = -1)) 8 = fb_ct (fun k => if k = v0 then false else decide (fol k = -1)) 8 := by
      apply fb_ct_cong
      intro v hv8
      by_cases q : v = v0
      · subst q
        rw [upd_s, if_pos rfl]
        exact decide_eq_false hxm
      · rw [upd_n _ _ q, if_neg q]
    rw [e]
    omega
end UT
/-- what is involved, with the values that are needed, leads to a contradiction -/
def ss_rf (n : Nat) (cs : Nat → Nat) (val fol tra inv : Nat → Int32) (nd : Int32) (t : Nat) : Prop :=
  ∀ a, ss_ext val a → (∀ k, k < n → inv k ≠ 0 → ss_sat (cs k) a 16 = true) → (∀ i, i < t → ∀ v, v < 8 → tra i = nI v → bt nd v = true → fol v = ss_b a v) → False
section BK
variable {n : Nat} {cs wt : Nat → Nat} {ub val fol rea tra inv : Nat → Int32} {nd : Int32} {T t v k : Nat}
theorem ss_rf_0 (h : ss_cf cs val fol tra T k) (hk : k < n) (hi : inv k ≠ 0) : ss_rf n cs val fol tra inv (ss_vr (nI (cs k)) 8) T := by
  intro a he hs hag
  exact h a he (hs k hk hi) (fun i hi2 v hv e hvi => hag i hi2 v hv e ((ss_vr_bt (cs k) 8 (Nat.le_refl _) v hv).mpr ⟨hv, hvi⟩))
theorem ss_rf_skip (h : ss_rf n cs val fol tra inv nd (t + 1)) (hv : v < 8) (e : tra t = nI v) (hb : ¬ bt nd v = true) : ss_rf n cs val fol tra inv nd t := by
  intro a he hs hag
  refine h a he hs (fun i hi v1 hv1 e1 hb1 => ?_)
  rcases Nat.lt_or_ge i t with q | q
  · exact hag i q v1 hv1 e1 hb1
  · have ei : i = t := by omega
    subst ei
    have : v = v1 := (nI_eq (by omega) (by omega)).mp (e.symm.trans e1)
    subst this
    exact absurd hb1 hb
theorem ss_rf_step (h : ss_rf n cs val fol tra inv nd (t + 1)) (hen : ss_en n cs wt ub val fol rea tra t v k) : ss_rf n cs val fol tra (upd inv k 1) (nd ||| ss_vr (nI (cs k)) 8) t := by
  obtain ⟨hv, hk, e3, e4, e5, e6, e7⟩ := hen
  intro a he hs hag
  have hsk : ss_sat (cs k) a 16 = true := hs k hk (by rw [upd_s]; decide)
  have hfv := e7 a he hsk (fun i hi v1 hv1 e1 hvi => hag i hi v1 hv1 e1 (by rw [b_or, Bool.or_eq_true]; exact Or.inr ((ss_vr_bt (cs k) 8 (Nat.le_refl _) v1 hv1).mpr ⟨hv1, hvi⟩)))
  refine h a he (fun k1 hk1 hi1 => hs k1 hk1 ?_) (fun i hi v1 hv1 e1 hb1 => ?_)
  · by_cases q : k1 = k
    · subst q; rw [upd_s]; decide
    · rw [upd_n _ _ q]; exact hi1
  · rcases Nat.lt_or_ge i t with q | q
    · exact hag i q v1 hv1 e1 (by rw [b_or, hb1]; rfl)
    · have ei : i = t := by omega
      subst ei
      have : v = v1 := (nI_eq (by omega) (by omega)).mp (e3.symm.trans e1)
      subst this
      exact hfv
theorem ss_rf_end (h : ss_rf n cs val fol tra inv nd 0) {a : Nat} (he : ss_ext val a) : ∃ k, k < n ∧ inv k ≠ 0 ∧ ss_sat (cs k) a 16 = false := by
  apply Classical.byContradiction
  intro hc
  refine h a he (fun k hk hi => ?_) (fun i hi => absurd hi (Nat.not_lt_zero _))
  cases hs : ss_sat (cs k) a 16
  · exact absurd ⟨k, hk, hi, hs⟩ hc
  · rfl
end BK
/-- the least weight left of the soft clauses that are involved, among the first m; 0 if there is none -/
def ss_le (wt ubn : Nat → Nat) (inv : Nat → Int32) (m β : Nat) : Prop :=
  (β = 0 → ∀ k, k < m → inv k ≠ 0 → wt k = 0) ∧ (∀ k, k < m → inv k ≠ 0 → 0 < wt k → β ≤ ubn k) ∧ β ≤ 50
theorem ss_le_0 (wt ubn : Nat → Nat) (inv : Nat → Int32) : ss_le wt ubn inv 0 0 := ⟨fun _ k h => absurd h (Nat.not_lt_zero _), fun k h => absurd h (Nat.not_lt_zero _), by omega⟩
theorem ss_le_keep {wt ubn : Nat → Nat} {inv : Nat → Int32} {m β : Nat} (h : ss_le wt ubn inv m β) (hc : (inv m ≠ 0 → wt m = 0) ∨ (β ≠ 0 ∧ β ≤ ubn m)) : ss_le wt ubn inv (m + 1) β := by
  refine ⟨fun h0 k hk hi => ?_, fun k hk hi hw => ?_, h.2.2⟩
  · rcases Nat.lt_or_ge k m with q | q
    · exact h.1 h0 k q hi
    · have e : k = m := by omega
      subst e
      rcases hc with c | c
      · exact c hi
      · exact absurd h0 c.1
  · rcases Nat.lt_or_ge k m with q | q
    · exact h.2.1 k q hi hw
    · have e : k = m := by omega
      subst e
      rcases hc with c | c
      · have := c hi; omega
      · exact c.2
theorem ss_le_new {wt ubn : Nat → Nat} {inv : Nat → Int32} {m β : Nat} (h : ss_le wt ubn inv m β) (hu : 0 < ubn m) (hu5 : ubn m ≤ 50) (hc : β = 0 ∨ ubn m < β) : ss_le wt ubn inv (m + 1) (ubn m) := by
  refine ⟨fun h0 => absurd h0 (by omega), fun k hk hi hw => ?_, hu5⟩
  rcases Nat.lt_or_ge k m with q | q
  · rcases hc with c | c
    · have := h.1 c k q hi; omega
    · have := h.2.1 k q hi hw; omega
  · have e : k = m := by omega
    subst e
    exact Nat.le_refl _
/-- what is left of the weights -/
def ss_ub (wt ubn : Nat → Nat) (inv : Nat → Int32) (β : Nat) : Nat → Nat := fun k => if inv k ≠ 0 ∧ 0 < wt k then ubn k - β else ubn k
/-- the loss that is sure, and what is left, stay below the loss of every assignment that goes on from here -/
def ss_sl (n : Nat) (cs wt ubn : Nat → Nat) (val : Nat → Int32) (lam : Nat) : Prop :=
  ∀ a, ss_ext val a → ss_al cs wt a n = true → lam + fb_sm (fun k => if ss_sat (cs k) a 16 = true then 0 else ubn k) n ≤ ss_ls cs wt a n
theorem fb_sm_drop {f g : Nat → Nat} {d k0 : Nat} : ∀ {n : Nat}, (∀ k, k < n → f k ≤ g k) → k0 < n → f k0 + d ≤ g k0 → fb_sm f n + d ≤ fb_sm g n
  | 0, _, h, _ => absurd h (Nat.not_lt_zero _)
  | n + 1, hle, hk, hd => by
    rw [fb_sm_succ, fb_sm_succ]
    rcases Nat.lt_or_ge k0 n with q | q
    · have h1 := fb_sm_drop (n := n) (fun k hk => hle k (by omega)) q hd
      have h2 := hle n (by omega)
      omega
    · have e : k0 = n := by omega
      subst e
      have h1 : fb_sm f k0 ≤ fb_sm g k0 := fb_sm_le (fun k hk => hle k (by omega))
      omega
theorem ss_sl_book {n : Nat} {cs wt ubn : Nat → Nat} {val inv : Nat → Int32} {lam β : Nat} (h : ss_sl n cs wt ubn val lam) (hx : ∀ a, ss_ext val a → ∃ k, k < n ∧ inv k ≠ 0 ∧ ss_sat (cs k) a 16 = false) (hl : ss_le wt ubn inv n β) : ss_sl n cs wt (ss_ub wt ubn inv β) val (lam + β) := by
  intro a he hal
  have h1 := h a he hal
  obtain ⟨k, hk, hi, hs⟩ := hx a he
  have hw : 0 < wt k := by
    rcases Nat.eq_zero_or_pos (wt k) with z | z
    · rw [(ss_al_iff cs wt a n).mp hal k hk z] at hs; cases hs
    · exact z
  have h2 : fb_sm (fun k => if ss_sat (cs k) a 16 = true then 0 else ss_ub wt ubn inv β k) n + β ≤ fb_sm (fun k => if ss_sat (cs k) a 16 = true then 0 else ubn k) n := by
    refine fb_sm_drop (k0 := k) (fun k1 _ => ?_) hk ?_
    · unfold ss_ub
      split
      · exact Nat.le_refl _
      · split <;> omega
    · have := hl.2.1 k hk hi hw
      unfold ss_ub
      rw [if_neg (by rw [hs]; decide), if_pos ⟨hi, hw⟩, if_neg (by rw [hs]; decide)]
      omega
  omega
/-- at first -/
theorem ss_sl_0 {n : Nat} {cs wt ubn : Nat → Nat} {val : Nat → Int32} (hw : ss_w n cs wt) (h3 : ss_v3 val) (hu : ∀ k, k < n → ubn k = if 0 < wt k ∧ ss_op (nI (cs k)) val 8 ≠ 0 then wt k else 0) : ss_sl n cs wt ubn val (ss_lv n cs wt val) := by
  intro a he _
  unfold ss_lv ss_ls
  rw [← fb_sm_add]
  apply fb_sm_le
  intro k hk
  rw [hu k hk]
  by_cases h0 : ss_op (nI (cs k)) val 8 = 0
  · have hs := ss_fl_unsat ((ss_opz h3 (hw.2 k hk).1).mp h0) he
    rw [if_pos h0, if_neg (by rw [hs]; decide), if_neg (fun z => z.2 h0), if_neg (by rw [hs]; decide)]
    omega
  · rw [if_neg h0]
    split
    · omega
    · split <;> omega
/-- nobody goes on from here without breaking a hard clause -/
theorem ss_no_hard {n : Nat} {cs wt : Nat → Nat} {val inv : Nat → Int32} {a : Nat} (hx : ∀ a, ss_ext val a → ∃ k, k < n ∧ inv k ≠ 0 ∧ ss_sat (cs k) a 16 = false) (hh : ∀ k, k < n → inv k ≠ 0 → wt k = 0) (he : ss_ext val a) (hal : ss_al cs wt a n = true) : False := by
  obtain ⟨k, hk, hi, hs⟩ := hx a he
  rw [(ss_al_iff cs wt a n).mp hal k hk (hh k hk hi)] at hs
  cases hs
end
section
set_option maxRecDepth 100000
/-! SoftSolver: the methods that only read -/
set_option maxHeartbeats 4000000 in
theorem x_vars (l : Launch) (D : va_G) (ad : Nat → Nat) (ka : Nat → ClassId) (u : XS) (kk : Nat) (hk : kk < 24) : gRo l yX0_variablesOf cX0_variablesOf 4 (some .int) ss_r0 D (xT ka) (xW ad ka u) [.ref (ad 0), .int (nI kk)] (fun r => r = ss_vr (u 1 kk) 8) := by
  refine gRo.ofW RX0 rfl (by decide) (Nat.le_of_ble_eq_true rfl) ?_
  intro p e s m args below meth c S hr hlk hH ls hl
  have hl : lv_has ls 4 [(0, .ref (ad 0)), (1, .int (nI kk))] := hl
  have loop : ∀ (n j : Nat) (x : Int32) (ls : Array Slot), j + n = 8 → x = ss_vr (u 1 kk) j → lv_has ls 4 [(0, .ref (ad 0)), (1, .int (nI kk)), (2, .int x), (3, .int (nI j))] → W p l e ss_r0 s m args below meth c s.heap [] 0 0 (MQ below (qRo (fun r => r = ss_vr (u 1 kk) 8)) args s 0 0 (fun _ => False)) (F0 m 4 ls []) := by
    intro n
    induction n with
    | zero =>
      intro j x ls hj hx hl
      refine lv_iload_n S.1 S.2.1 dX0_variablesOf_4 rfl (lv_at hl 3 rfl) ?_
      refine lv_bipush (v := nI 8) S.1 S.2.1 dX0_variablesOf_5 (by decide) ?_
      refine lv_icmp_ge (tgt := 41) S.1 S.2.1 dX0_variablesOf_7 (by decide) (fun c1 => ?_) (fun c1 => ?_)
      · refine lv_iload_n S.1 S.2.1 dX0_variablesOf_41 rfl (lv_at hl 2 rfl) ?_
        exact gRo.iret S hr hlk (by rw [hx, show j = 8 by omega]) dX0_variablesOf_42
      · exact absurd (nI_le (by omega) (by omega)) c1
    | succ n ih =>
      intro j x ls hj hx hl
      refine lv_iload_n S.1 S.2.1 dX0_variablesOf_4 rfl (lv_at hl 3 rfl) ?_
      refine lv_bipush (v := nI 8) S.1 S.2.1 dX0_variablesOf_5 (by decide) ?_
      refine lv_icmp_ge (tgt := 41) S.1 S.2.1 dX0_variablesOf_7 (by decide) (fun c1 => ?_) (fun c1 => ?_)
      · exact absurd ((nI_leI (by omega) (by omega)).mp c1) (by omega)
      · have K : ∀ (y : Int32), y = (if (((u 1 kk).toUInt32 >>> ((nI 2 * nI j).toUInt32 &&& Int32.toUInt32 31)).toInt32 &&& 3) = 0 then 0 else (1 : Int32) <<< (nI j &&& 31)) → W p l e ss_r0 s m args below meth c s.heap [] 0 0 (MQ below (qRo (fun r => r = ss_vr (u 1 kk) 8)) args s 0 0 (fun _ => False)) (F0 m 33 ls [.int y, .int x]) := by
          intro y hy
          refine lv_ior S.1 S.2.1 dX0_variablesOf_33 ?_
          refine lv_topi (fun z e_z => ?_)
          refine lv_istore_n (lv' := [(2, .int z), (0, .ref (ad 0)), (1, .int (nI kk)), (3, .int (nI j))]) S.1 S.2.1 dX0_variablesOf_34 rfl hl (by decide) rfl (fun ls hl => ?_)
          refine lv_inc (k := 3) (j := j) (lv' := [(3, .int (nI (j + 1))), (2, .int z), (0, .ref (ad 0)), (1, .int (nI kk))]) S dX0_variablesOf_35 hl rfl (by decide) rfl (fun ls hl => ?_)
          refine lv_goto (tgt := 4) S.1 S.2.1 dX0_variablesOf_38 (by decide) ?_
          exact ih (j + 1) z ls (by omega) (by rw [e_z, ss_vr, ← hy, hx]) (lv_sub hl [2, 3, 1, 0] rfl)
        refine lv_iload_n S.1 S.2.1 dX0_variablesOf_10 rfl (lv_at hl 2 rfl) ?_
        refine lv_aload_n S.1 S.2.1 dX0_variablesOf_11 rfl (lv_at hl 0 rfl) ?_
        refine xg1 S hH dX0_variablesOf_12 ?_
        refine lv_iload_n S.1 S.2.1 dX0_variablesOf_15 rfl (lv_at hl 1 rfl) ?_
        refine xl1 S hH (kk) (hk) dX0_variablesOf_16 ?_
        refine lv_iconst (v := nI 2) S.1 S.2.1 dX0_variablesOf_17 (by decide) ?_
        refine lv_iload_n S.1 S.2.1 dX0_variablesOf_18 rfl (lv_at hl 3 rfl) ?_
        refine lv_imul S.1 S.2.1 dX0_variablesOf_19 ?_
        refine lv_iushr S.1 S.2.1 dX0_variablesOf_20 rfl ?_
        refine lv_iconst (v := 3) S.1 S.2.1 dX0_variablesOf_21 (by decide) ?_
        refine lv_iand S.1 S.2.1 dX0_variablesOf_22 ?_
        refine lv_if_eq (tgt := 32) S.1 S.2.1 dX0_variablesOf_23 (by decide) (fun c2 => ?_) (fun c2 => ?_)
        · refine lv_iconst (v := 0) S.1 S.2.1 dX0_variablesOf_32 (by decide) ?_
          exact K 0 (by rw [if_pos c2])
        · refine lv_iconst (v := 1) S.1 S.2.1 dX0_variablesOf_26 (by decide) ?_
          refine lv_iload_n S.1 S.2.1 dX0_variablesOf_27 rfl (lv_at hl 3 rfl) ?_
          refine lv_ishl S.1 S.2.1 dX0_variablesOf_28 ?_
          refine lv_goto (tgt := 33) S.1 S.2.1 dX0_variablesOf_29 (by decide) ?_
          exact K _ (by rw [if_neg c2])
  refine lv_iconst (v := 0) S.1 S.2.1 dX0_variablesOf_0 (by decide) ?_
  refine lv_istore_n (lv' := [(2, .int (0)), (0, .ref (ad 0)), (1, .int (nI kk))]) S.1 S.2.1 dX0_variablesOf_1 rfl hl (by decide) rfl (fun ls hl => ?_)
  refine lv_iconst (v := nI 0) S.1 S.2.1 dX0_variablesOf_2 (by decide) ?_
  refine lv_istore_n (lv' := [(3, .int (nI 0)), (2, .int (0)), (0, .ref (ad 0)), (1, .int (nI kk))]) S.1 S.2.1 dX0_variablesOf_3 rfl hl (by decide) rfl (fun ls hl => ?_)
  exact loop 8 0 0 ls rfl rfl (lv_sub hl [2, 3, 1, 0] rfl)
theorem xlf {p : Program} {l : Launch} {e : Env} {R : Room} {s : State} {m : MethodId} {args : Array Value} {below : List Frame} {meth : Method} {c : Code} {H : Heap} {locs : List Loc} {cells slots : Nat} {Q : State → Prop} {cc : ByteArray} {nL pc : Nat} {ls : Array Slot} {rest : List Value} {D : va_G} {A : Nat → Prop} {ad : Nat → Nat} {ka : Nat → ClassId} {u : XS} {f : Nat} (hf : f = 3 ∨ f = 7) (S : CallFix p m c cc nL s args lw_all RX0) (hH : gH D (xT ka) (xW ad ka u) A s H locs) (j : Nat) (hj : j < 8) (hd : decode cc pc = .ok (.iaload, 1)) (kk : W p l e R s m args below meth c H locs cells slots Q (F0 m (pc + 1) ls (.int (u f j) :: rest))) : W p l e R s m args below meth c H locs cells slots Q (F0 m pc ls (.int (nI j) :: .ref (ad f) :: rest)) := by
  rcases hf with rfl | rfl
  · exact xl3 S hH j hj hd kk
  · exact xl7 S hH j hj hd kk
set_option maxHeartbeats 4000000 in
theorem x_open (l : Launch) (D : va_G) (ad : Nat → Nat) (ka : Nat → ClassId) (u : XS) (kk : Nat) (hk : kk < 24) (f : Nat) (hf : f = 3 ∨ f = 7) : gRo l yX0_openLiterals cX0_openLiterals 5 (some .int) ss_r0 D (xT ka) (xW ad ka u) [.ref (ad 0), .int (nI kk), .ref (ad f)] (fun r => r = ss_op (u 1 kk) (u f) 8) := by
  refine gRo.ofW RX0 rfl (by decide) (Nat.le_of_ble_eq_true rfl) ?_
  intro p e s m args below meth c S hr hlk hH ls hl
  have hl : lv_has ls 5 [(0, .ref (ad 0)), (1, .int (nI kk)), (2, .ref (ad f))] := hl
  have loop : ∀ (n j : Nat) (x : Int32) (ls : Array Slot), j + n = 8 → x = ss_op (u 1 kk) (u f) j → lv_has ls 5 [(0, .ref (ad 0)), (1, .int (nI kk)), (2, .ref (ad f)), (3, .int x), (4, .int (nI j))] → W p l e ss_r0 s m args below meth c s.heap [] 0 0 (MQ below (qRo (fun r => r = ss_op (u 1 kk) (u f) 8)) args s 0 0 (fun _ => False)) (F0 m 10 ls []) := by
    intro n
    induction n with
    | zero =>
      intro j x ls hj hx hl
      refine lv_iload S.1 S.2.1 dX0_openLiterals_10 (lv_at hl 4 rfl) ?_
      refine lv_bipush (v := nI 8) S.1 S.2.1 dX0_openLiterals_12 (by decide) ?_
      refine lv_icmp_ge (tgt := 46) S.1 S.2.1 dX0_openLiterals_14 (by decide) (fun c1 => ?_) (fun c1 => ?_)
      · refine lv_iload_n S.1 S.2.1 dX0_openLiterals_46 rfl (lv_at hl 3 rfl) ?_
        exact gRo.iret S hr hlk (by rw [hx, show j = 8 by omega]) dX0_openLiterals_47
      · exact absurd (nI_le (by omega) (by omega)) c1
    | succ n ih =>
      intro j x ls hj hx hl
      refine lv_iload S.1 S.2.1 dX0_openLiterals_10 (lv_at hl 4 rfl) ?_
      refine lv_bipush (v := nI 8) S.1 S.2.1 dX0_openLiterals_12 (by decide) ?_
      refine lv_icmp_ge (tgt := 46) S.1 S.2.1 dX0_openLiterals_14 (by decide) (fun c1 => ?_) (fun c1 => ?_)
      · exact absurd ((nI_leI (by omega) (by omega)).mp c1) (by omega)
      · refine lv_aload_n S.1 S.2.1 dX0_openLiterals_17 rfl (lv_at hl 2 rfl) ?_
        refine lv_iload S.1 S.2.1 dX0_openLiterals_18 (lv_at hl 4 rfl) ?_
        refine xlf hf S hH (j) (by omega) dX0_openLiterals_20 ?_
        refine lv_if_lt (tgt := 40) S.1 S.2.1 dX0_openLiterals_21 (by decide) (fun c2 => ?_) (fun c2 => ?_)
        · refine lv_inc (k := 4) (j := j) (lv' := [(4, .int (nI (j + 1))), (0, .ref (ad 0)), (1, .int (nI kk)), (2, .ref (ad f)), (3, .int x)]) S dX0_openLiterals_40 hl rfl (by decide) rfl (fun ls hl => ?_)
          refine lv_goto (tgt := 10) S.1 S.2.1 dX0_openLiterals_43 (by decide) ?_
          exact ih (j + 1) x ls (by omega) (by rw [ss_op, if_pos c2, hx]) (lv_sub hl [1, 2, 3, 4, 0] rfl)
        · refine lv_iload_n S.1 S.2.1 dX0_openLiterals_24 rfl (lv_at hl 3 rfl) ?_
          refine lv_iconst (v := 1) S.1 S.2.1 dX0_openLiterals_25 (by decide) ?_
          refine lv_iconst (v := nI 2) S.1 S.2.1 dX0_openLiterals_26 (by decide) ?_
          refine lv_iload S.1 S.2.1 dX0_openLiterals_27 (lv_at hl 4 rfl) ?_
          refine lv_imul S.1 S.2.1 dX0_openLiterals_29 ?_
          refine lv_aload_n S.1 S.2.1 dX0_openLiterals_30 rfl (lv_at hl 2 rfl) ?_
          refine lv_iload S.1 S.2.1 dX0_openLiterals_31 (lv_at hl 4 rfl) ?_
          refine xlf hf S hH (j) (by omega) dX0_openLiterals_33 ?_
          refine lv_iadd S.1 S.2.1 dX0_openLiterals_34 ?_
          refine lv_ishl S.1 S.2.1 dX0_openLiterals_35 ?_
          refine lv_iconst (v := (-1)) S.1 S.2.1 dX0_openLiterals_36 (by decide) ?_
          refine lv_ixor S.1 S.2.1 dX0_openLiterals_37 ?_
          refine lv_iand S.1 S.2.1 dX0_openLiterals_38 ?_
          refine lv_topi (fun z e_z => ?_)
          refine lv_istore_n (lv' := [(3, .int z), (0, .ref (ad 0)), (1, .int (nI kk)), (2, .ref (ad f)), (4, .int (nI j))]) S.1 S.2.1 dX0_openLiterals_39 rfl hl (by decide) rfl (fun ls hl => ?_)
          refine lv_inc (k := 4) (j := j) (lv' := [(4, .int (nI (j + 1))), (3, .int z), (0, .ref (ad 0)), (1, .int (nI kk)), (2, .ref (ad f))]) S dX0_openLiterals_40 hl rfl (by decide) rfl (fun ls hl => ?_)
          refine lv_goto (tgt := 10) S.1 S.2.1 dX0_openLiterals_43 (by decide) ?_
          exact ih (j + 1) z ls (by omega) (by rw [e_z, ss_op, if_neg c2, hx]) (lv_sub hl [2, 3, 4, 1, 0] rfl)
  refine lv_aload_n S.1 S.2.1 dX0_openLiterals_0 rfl (lv_at hl 0 rfl) ?_
  refine xg1 S hH dX0_openLiterals_1 ?_
  refine lv_iload_n S.1 S.2.1 dX0_openLiterals_4 rfl (lv_at hl 1 rfl) ?_
  refine xl1 S hH (kk) (hk) dX0_openLiterals_5 ?_
  refine lv_istore_n (lv' := [(3, .int (u 1 kk)), (0, .ref (ad 0)), (1, .int (nI kk)), (2, .ref (ad f))]) S.1 S.2.1 dX0_openLiterals_6 rfl hl (by decide) rfl (fun ls hl => ?_)
  refine lv_iconst (v := nI 0) S.1 S.2.1 dX0_openLiterals_7 (by decide) ?_
  refine lv_istore (lv' := [(4, .int (nI 0)), (3, .int (u 1 kk)), (0, .ref (ad 0)), (1, .int (nI kk)), (2, .ref (ad f))]) S.1 S.2.1 dX0_openLiterals_8 hl (by decide) rfl (fun ls hl => ?_)
  exact loop 8 0 _ ls rfl rfl (lv_sub hl [2, 3, 4, 1, 0] rfl)
set_option maxHeartbeats 4000000 in
theorem x_next (l : Launch) (D : va_G) (ad : Nat → Nat) (ka : Nat → ClassId) (u : XS) (j : Nat) (hj : j < 8) (h3 : u 3 j = -1 ∨ u 3 j = 0 ∨ u 3 j = 1) : gRo l yX0_nextValue cX0_nextValue 3 (some .int) ss_r0 D (xT ka) (xW ad ka u) [.ref (ad 0), .int (nI j)] (fun r => r = ss_nx (u 4 j) (u 3 j)) := by
  refine gRo.ofW RX0 rfl (by decide) (Nat.le_of_ble_eq_true rfl) ?_
  intro p e s m args below meth c S hr hlk hH ls hl
  have hl : lv_has ls 3 [(0, .ref (ad 0)), (1, .int (nI j))] := hl
  have h2 : ∀ (ls : Array Slot), lv_has ls 3 [(0, .ref (ad 0)), (1, .int (nI j)), (2, .int 2)] → ss_nx (u 4 j) (u 3 j) = -1 → W p l e ss_r0 s m args below meth c s.heap [] 0 0 (MQ below (qRo (fun r => r = ss_nx (u 4 j) (u 3 j))) args s 0 0 (fun _ => False)) (F0 m 9 ls []) := by
    intro ls hl hx
    refine lv_iload_n S.1 S.2.1 dX0_nextValue_9 rfl (lv_at hl 2 rfl) ?_
    refine lv_iconst (v := 2) S.1 S.2.1 dX0_nextValue_10 (by decide) ?_
    refine lv_icmp_ge (tgt := 41) S.1 S.2.1 dX0_nextValue_11 (by decide) (fun c1 => ?_) (fun c1 => ?_)
    · refine lv_iconst (v := (-1)) S.1 S.2.1 dX0_nextValue_41 (by decide) ?_
      exact gRo.iret S hr hlk hx.symm dX0_nextValue_42
    · exact absurd (by decide) c1
  have h1 : ∀ (ls : Array Slot), lv_has ls 3 [(0, .ref (ad 0)), (1, .int (nI j)), (2, .int 1)] → ((u 4 j < 0 ∨ u 4 j = 1) → ss_nx (u 4 j) (u 3 j) = 1) → (¬ (u 4 j < 0 ∨ u 4 j = 1) → ss_nx (u 4 j) (u 3 j) = -1) → W p l e ss_r0 s m args below meth c s.heap [] 0 0 (MQ below (qRo (fun r => r = ss_nx (u 4 j) (u 3 j))) args s 0 0 (fun _ => False)) (F0 m 9 ls []) := by
    intro ls hl hx hy
    refine lv_iload_n S.1 S.2.1 dX0_nextValue_9 rfl (lv_at hl 2 rfl) ?_
    refine lv_iconst (v := 2) S.1 S.2.1 dX0_nextValue_10 (by decide) ?_
    refine lv_icmp_ge (tgt := 41) S.1 S.2.1 dX0_nextValue_11 (by decide) (fun c1 => ?_) (fun c1 => ?_)
    · exact absurd c1 (by decide)
    · refine lv_aload_n S.1 S.2.1 dX0_nextValue_14 rfl (lv_at hl 0 rfl) ?_
      refine xg4 S hH dX0_nextValue_15 ?_
      refine lv_iload_n S.1 S.2.1 dX0_nextValue_18 rfl (lv_at hl 1 rfl) ?_
      refine xl4 S hH (j) (hj) dX0_nextValue_19 ?_
      refine lv_if_lt (tgt := 33) S.1 S.2.1 dX0_nextValue_20 (by decide) (fun c2 => ?_) (fun c2 => ?_)
      · refine lv_iload_n S.1 S.2.1 dX0_nextValue_33 rfl (lv_at hl 2 rfl) ?_
        exact gRo.iret S hr hlk (hx (Or.inl c2)).symm dX0_nextValue_34
      · refine lv_aload_n S.1 S.2.1 dX0_nextValue_23 rfl (lv_at hl 0 rfl) ?_
        refine xg4 S hH dX0_nextValue_24 ?_
        refine lv_iload_n S.1 S.2.1 dX0_nextValue_27 rfl (lv_at hl 1 rfl) ?_
        refine xl4 S hH (j) (hj) dX0_nextValue_28 ?_
        refine lv_iload_n S.1 S.2.1 dX0_nextValue_29 rfl (lv_at hl 2 rfl) ?_
        refine lv_icmp_ne (tgt := 35) S.1 S.2.1 dX0_nextValue_30 (by decide) (fun c3 => ?_) (fun c3 => ?_)
        · have hq : ¬ (u 4 j < 0 ∨ u 4 j = 1) := fun q => q.elim c2 c3
          refine lv_iinc (v := 2) (lv' := [(2, .int 2), (0, .ref (ad 0)), (1, .int (nI j))]) S.1 S.2.1 dX0_nextValue_35 hl (k := 2) rfl (by decide) (by decide) rfl (fun ls hl => ?_)
          refine lv_goto (tgt := 9) S.1 S.2.1 dX0_nextValue_38 (by decide) ?_
          have hl : lv_has ls 3 [(0, .ref (ad 0)), (1, .int (nI j)), (2, .int 2)] := (lv_sub hl [1, 2, 0] rfl)
          exact h2 ls hl (hy hq)
        · refine lv_iload_n S.1 S.2.1 dX0_nextValue_33 rfl (lv_at hl 2 rfl) ?_
          exact gRo.iret S hr hlk (hx (Or.inr c3)).symm dX0_nextValue_34
  have h0 : ∀ (ls : Array Slot), lv_has ls 3 [(0, .ref (ad 0)), (1, .int (nI j)), (2, .int 0)] → ((u 4 j < 0 ∨ u 4 j = 0) → ss_nx (u 4 j) (u 3 j) = 0) → (¬ (u 4 j < 0 ∨ u 4 j = 0) → ((u 4 j < 0 ∨ u 4 j = 1) → ss_nx (u 4 j) (u 3 j) = 1) ∧ (¬ (u 4 j < 0 ∨ u 4 j = 1) → ss_nx (u 4 j) (u 3 j) = -1)) → W p l e ss_r0 s m args below meth c s.heap [] 0 0 (MQ below (qRo (fun r => r = ss_nx (u 4 j) (u 3 j))) args s 0 0 (fun _ => False)) (F0 m 9 ls []) := by
    intro ls hl hx hy
    refine lv_iload_n S.1 S.2.1 dX0_nextValue_9 rfl (lv_at hl 2 rfl) ?_
    refine lv_iconst (v := 2) S.1 S.2.1 dX0_nextValue_10 (by decide) ?_
    refine lv_icmp_ge (tgt := 41) S.1 S.2.1 dX0_nextValue_11 (by decide) (fun c1 => ?_) (fun c1 => ?_)
    · exact absurd c1 (by decide)
    · refine lv_aload_n S.1 S.2.1 dX0_nextValue_14 rfl (lv_at hl 0 rfl) ?_
      refine xg4 S hH dX0_nextValue_15 ?_
      refine lv_iload_n S.1 S.2.1 dX0_nextValue_18 rfl (lv_at hl 1 rfl) ?_
      refine xl4 S hH (j) (hj) dX0_nextValue_19 ?_
      refine lv_if_lt (tgt := 33) S.1 S.2.1 dX0_nextValue_20 (by decide) (fun c2 => ?_) (fun c2 => ?_)
      · refine lv_iload_n S.1 S.2.1 dX0_nextValue_33 rfl (lv_at hl 2 rfl) ?_
        exact gRo.iret S hr hlk (hx (Or.inl c2)).symm dX0_nextValue_34
      · refine lv_aload_n S.1 S.2.1 dX0_nextValue_23 rfl (lv_at hl 0 rfl) ?_
        refine xg4 S hH dX0_nextValue_24 ?_
        refine lv_iload_n S.1 S.2.1 dX0_nextValue_27 rfl (lv_at hl 1 rfl) ?_
        refine xl4 S hH (j) (hj) dX0_nextValue_28 ?_
        refine lv_iload_n S.1 S.2.1 dX0_nextValue_29 rfl (lv_at hl 2 rfl) ?_
        refine lv_icmp_ne (tgt := 35) S.1 S.2.1 dX0_nextValue_30 (by decide) (fun c3 => ?_) (fun c3 => ?_)
        · have hq : ¬ (u 4 j < 0 ∨ u 4 j = 0) := fun q => q.elim c2 c3
          refine lv_iinc (v := 1) (lv' := [(2, .int 1), (0, .ref (ad 0)), (1, .int (nI j))]) S.1 S.2.1 dX0_nextValue_35 hl (k := 2) rfl (by decide) (by decide) rfl (fun ls hl => ?_)
          refine lv_goto (tgt := 9) S.1 S.2.1 dX0_nextValue_38 (by decide) ?_
          have hl : lv_has ls 3 [(0, .ref (ad 0)), (1, .int (nI j)), (2, .int 1)] := (lv_sub hl [1, 2, 0] rfl)
          exact h1 ls hl (hy hq).1 (hy hq).2
        · refine lv_iload_n S.1 S.2.1 dX0_nextValue_33 rfl (lv_at hl 2 rfl) ?_
          exact gRo.iret S hr hlk (hx (Or.inr c3)).symm dX0_nextValue_34
  refine lv_aload_n S.1 S.2.1 dX0_nextValue_0 rfl (lv_at hl 0 rfl) ?_
  refine xg3 S hH dX0_nextValue_1 ?_
  refine lv_iload_n S.1 S.2.1 dX0_nextValue_4 rfl (lv_at hl 1 rfl) ?_
  refine xl3 S hH (j) (hj) dX0_nextValue_5 ?_
  refine lv_iconst (v := 1) S.1 S.2.1 dX0_nextValue_6 (by decide) ?_
  refine lv_iadd S.1 S.2.1 dX0_nextValue_7 ?_
  rcases h3 with h | h | h
  · refine lv_as 0 (by rw [h]; decide) ?_
    refine lv_istore_n (lv' := [(2, .int (0)), (0, .ref (ad 0)), (1, .int (nI j))]) S.1 S.2.1 dX0_nextValue_8 rfl hl (by decide) rfl (fun ls hl => ?_)
    refine h0 ls (lv_sub hl [1, 2, 0] rfl) (fun q => ?_) (fun q => ⟨fun q1 => ?_, fun q1 => ?_⟩)
    · rw [h, ss_nx, if_neg (by decide), if_neg (by decide), if_pos q]
    · rw [h, ss_nx, if_neg (by decide), if_neg (by decide), if_neg q, if_pos (q1.resolve_left (fun z => q (Or.inl z)))]
    · rw [h, ss_nx, if_neg (by decide), if_neg (by decide), if_neg q, if_neg (fun z => q1 (Or.inr z))]
  · refine lv_as 1 (by rw [h]; decide) ?_
    refine lv_istore_n (lv' := [(2, .int (1)), (0, .ref (ad 0)), (1, .int (nI j))]) S.1 S.2.1 dX0_nextValue_8 rfl hl (by decide) rfl (fun ls hl => ?_)
    refine h1 ls (lv_sub hl [1, 2, 0] rfl) (fun q => ?_) (fun q => ?_)
    · rw [h, ss_nx, if_neg (by decide), if_pos rfl, if_pos q]
    · rw [h, ss_nx, if_neg (by decide), if_pos rfl, if_neg q]
  · refine lv_as 2 (by rw [h]; decide) ?_
    refine lv_istore_n (lv' := [(2, .int (2)), (0, .ref (ad 0)), (1, .int (nI j))]) S.1 S.2.1 dX0_nextValue_8 rfl hl (by decide) rfl (fun ls hl => ?_)
    exact h2 ls (lv_sub hl [1, 2, 0] rfl) (by rw [h, ss_nx, if_pos rfl])
set_option maxHeartbeats 4000000 in
theorem x_holds (l : Launch) (D : va_G) (ad : Nat → Nat) (ka : Nat → ClassId) (u : XS) (kk : Nat) (hk : kk < 24) (al cc0 : Nat) (hcc : u 1 kk = nI cc0) : gRo l yX0_holdsFor cX0_holdsFor 5 (some .boolean) ss_r0 D (xT ka) (xW ad ka u) [.ref (ad 0), .int (nI kk), .int (nI al)] (fun r => r = if ss_sat cc0 al 16 = true then 1 else 0) := by
  refine gRo.ofW RX0 rfl (by decide) (Nat.le_of_ble_eq_true rfl) ?_
  intro p e s m args below meth c S hr hlk hH ls hl
  have hl : lv_has ls 5 [(0, .ref (ad 0)), (1, .int (nI kk)), (2, .int (nI al))] := hl
  have loop : ∀ (n j : Nat) (ls : Array Slot), j + n = 8 → (∀ v, v < j → ¬ cc0.testBit (ss_li al v) = true) → lv_has ls 5 [(0, .ref (ad 0)), (1, .int (nI kk)), (2, .int (nI al)), (3, .int (nI j))] → W p l e ss_r0 s m args below meth c s.heap [] 0 0 (MQ below (qRo (fun r => r = if ss_sat cc0 al 16 = true then 1 else 0)) args s 0 0 (fun _ => False)) (F0 m 2 ls []) := by
    intro n
    induction n with
    | zero =>
      intro j ls hj hx hl
      refine lv_iload_n S.1 S.2.1 dX0_holdsFor_2 rfl (lv_at hl 3 rfl) ?_
      refine lv_bipush (v := nI 8) S.1 S.2.1 dX0_holdsFor_3 (by decide) ?_
      refine lv_icmp_ge (tgt := 43) S.1 S.2.1 dX0_holdsFor_5 (by decide) (fun c1 => ?_) (fun c1 => ?_)
      · refine lv_iconst (v := 0) S.1 S.2.1 dX0_holdsFor_43 (by decide) ?_
        refine gRo.zret S hr hlk (Or.inl rfl) ?_ dX0_holdsFor_44
        have hs : ¬ ss_sat cc0 al 16 = true := fun q => by
          obtain ⟨v, h1, h2⟩ := (ss_sat_v cc0 al).mp q
          exact hx v (by omega) h2
        rw [if_neg hs]
      · exact absurd (nI_le (by omega) (by omega)) c1
    | succ n ih =>
      intro j ls hj hx hl
      refine lv_iload_n S.1 S.2.1 dX0_holdsFor_2 rfl (lv_at hl 3 rfl) ?_
      refine lv_bipush (v := nI 8) S.1 S.2.1 dX0_holdsFor_3 (by decide) ?_
      refine lv_icmp_ge (tgt := 43) S.1 S.2.1 dX0_holdsFor_5 (by decide) (fun c1 => ?_) (fun c1 => ?_)
      · exact absurd ((nI_leI (by omega) (by omega)).mp c1) (by omega)
      · refine lv_iconst (v := nI 2) S.1 S.2.1 dX0_holdsFor_8 (by decide) ?_
        refine lv_iload_n S.1 S.2.1 dX0_holdsFor_9 rfl (lv_at hl 3 rfl) ?_
        refine lv_imul S.1 S.2.1 dX0_holdsFor_10 ?_
        refine lv_iconst (v := nI 1) S.1 S.2.1 dX0_holdsFor_11 (by decide) ?_
        refine lv_iadd S.1 S.2.1 dX0_holdsFor_12 ?_
        refine lv_iload_n S.1 S.2.1 dX0_holdsFor_13 rfl (lv_at hl 2 rfl) ?_
        refine lv_iload_n S.1 S.2.1 dX0_holdsFor_14 rfl (lv_at hl 3 rfl) ?_
        refine lv_iushr S.1 S.2.1 dX0_holdsFor_15 rfl ?_
        refine lv_iconst (v := 1) S.1 S.2.1 dX0_holdsFor_16 (by decide) ?_
        refine lv_iand S.1 S.2.1 dX0_holdsFor_17 ?_
        refine lv_isub S.1 S.2.1 dX0_holdsFor_18 ?_
        refine lv_as (nI (ss_li al j)) ?_ ?_
        · rw [ss_bit (nI al) j (by omega), bt_nI al (by omega), pk_mul, nI_add]
          unfold ss_li
          by_cases h : al.testBit j = true
          · rw [if_pos h, if_pos h]
            exact pk_sub (a := 2 * j + 1) (b := 1) (by omega)
          · rw [if_neg h, if_neg h]
            exact (pk_sub (a := 2 * j + 1) (b := 0) (by omega)).trans rfl
        refine lv_istore (lv' := [(4, .int (nI (ss_li al j))), (0, .ref (ad 0)), (1, .int (nI kk)), (2, .int (nI al)), (3, .int (nI j))]) S.1 S.2.1 dX0_holdsFor_19 hl (by decide) rfl (fun ls hl => ?_)
        refine lv_aload_n S.1 S.2.1 dX0_holdsFor_21 rfl (lv_at hl 1 rfl) ?_
        refine xg1 S hH dX0_holdsFor_22 ?_
        refine lv_iload_n S.1 S.2.1 dX0_holdsFor_25 rfl (lv_at hl 2 rfl) ?_
        refine xl1 S hH (kk) (hk) dX0_holdsFor_26 ?_
        refine lv_iload S.1 S.2.1 dX0_holdsFor_27 (lv_at hl 0 rfl) ?_
        refine lv_iushr S.1 S.2.1 dX0_holdsFor_29 rfl ?_
        refine lv_iconst (v := 1) S.1 S.2.1 dX0_holdsFor_30 (by decide) ?_
        refine lv_iand S.1 S.2.1 dX0_holdsFor_31 ?_
        have hli := ss_li_lt (a := al) (show j < 8 by omega)
        have hb : ((u 1 kk).toUInt32 >>> ((nI (ss_li al j)).toUInt32 &&& Int32.toUInt32 31)).toInt32 &&& 1 = if cc0.testBit (ss_li al j) = true then 1 else 0 := by rw [ss_bit (u 1 kk) (ss_li al j) (by omega), hcc, bt_nI cc0 (by omega)]
        refine lv_if_eq (tgt := 37) S.1 S.2.1 dX0_holdsFor_32 (by decide) (fun c2 => ?_) (fun c2 => ?_)
        · refine lv_inc (k := 4) (j := j) (lv' := [(3, .int (nI (j + 1))), (4, .int (nI (ss_li al j))), (0, .ref (ad 0)), (1, .int (nI kk)), (2, .int (nI al))]) S dX0_holdsFor_37 hl rfl (by decide) rfl (fun ls hl => ?_)
          refine lv_goto (tgt := 2) S.1 S.2.1 dX0_holdsFor_40 (by decide) ?_
          refine ih (j + 1) ls (by omega) (fun v hv h => ?_) (lv_sub hl [2, 3, 4, 0] rfl)
          rcases Nat.lt_or_ge v j with q | q
          · exact hx v q h
          · have e : v = j := by omega
            subst e
            rw [hb, if_pos h] at c2
            exact absurd c2 (by decide)
        · refine lv_iconst (v := 1) S.1 S.2.1 dX0_holdsFor_35 (by decide) ?_
          refine gRo.zret S hr hlk (Or.inr rfl) ?_ dX0_holdsFor_36
          have ht : cc0.testBit (ss_li al j) = true := by
            by_cases h : cc0.testBit (ss_li al j) = true
            · exact h
            · exact absurd (by rw [hb, if_neg h]) c2
          rw [if_pos ((ss_sat_v cc0 al).mpr ⟨j, by omega, ht⟩)]
  refine lv_iconst (v := nI 0) S.1 S.2.1 dX0_holdsFor_0 (by decide) ?_
  refine lv_istore_n (lv' := [(3, .int (nI 0)), (0, .ref (ad 0)), (1, .int (nI kk)), (2, .int (nI al))]) S.1 S.2.1 dX0_holdsFor_1 rfl hl (by decide) rfl (fun ls hl => ?_)
  exact loop 8 0 ls rfl (fun v h => absurd h (Nat.not_lt_zero _)) (lv_sub hl [1, 2, 3, 0] rfl)
end
section
set_option maxRecDepth 100000
/-! SoftSolver: lossSoFar, takeLeaf, freeAll -/
def x_ok (n : Nat) (cs wt : Nat → Nat) (u : XS) : Prop := u 0 0 = nI n ∧ (∀ k, k < n → u 1 k = nI (cs k) ∧ u 2 k = nI (wt k)) ∧ ss_w n cs wt
theorem x_ok.mv {n : Nat} {cs wt : Nat → Nat} {u u1 : XS} (h : x_ok n cs wt u) (h0 : u1 0 = u 0) (h1 : u1 1 = u 1) (h2 : u1 2 = u 2) : x_ok n cs wt u1 := by
  unfold x_ok at h ⊢
  rw [h0, h1, h2]
  exact h
set_option maxHeartbeats 4000000 in
theorem x_lsf (l : Launch) (D : va_G) (ad : Nat → Nat) (ka : Nat → ClassId) (u : XS) (n : Nat) (cs wt : Nat → Nat) (hu : x_ok n cs wt u) : gRo l yX0_lossSoFar cX0_lossSoFar 3 (some .int) ss_r1 D (xT ka) (xW ad ka u) [.ref (ad 0)] (fun r => r = nI (ss_lv n cs wt (u 3))) := by
  refine gRo.ofW RX0 rfl (by decide) (Nat.le_of_ble_eq_true rfl) ?_
  intro p e s m args below meth c S hr hlk hH ls hl
  have hl : lv_has ls 3 [(0, .ref (ad 0))] := hl
  obtain ⟨h0, h12, hw⟩ := hu
  have hn := hw.1
  have loop : ∀ (q j : Nat) (x : Int32) (ls : Array Slot), j + q = n → x = nI (ss_lv j cs wt (u 3)) → lv_has ls 3 [(0, .ref (ad 0)), (1, .int x), (2, .int (nI j))] → W p l e ss_r1 s m args below meth c s.heap [] 0 0 (MQ below (qRo (fun r => r = nI (ss_lv n cs wt (u 3)))) args s 0 0 (fun _ => False)) (F0 m 4 ls []) := by
    intro q
    induction q with
    | zero =>
      intro j x ls hj hx hl
      refine lv_iload_n S.1 S.2.1 dX0_lossSoFar_4 rfl (lv_at hl 2 rfl) ?_
      refine lv_aload_n S.1 S.2.1 dX0_lossSoFar_5 rfl (lv_at hl 0 rfl) ?_
      refine xg0 S hH dX0_lossSoFar_6 ?_
      refine lv_as (nI n) h0 ?_
      refine lv_icmp_ge (tgt := 43) S.1 S.2.1 dX0_lossSoFar_9 (by decide) (fun c1 => ?_) (fun c1 => ?_)
      · refine lv_iload_n S.1 S.2.1 dX0_lossSoFar_43 rfl (lv_at hl 1 rfl) ?_
        exact gRo.iret S hr hlk (by rw [hx, show j = n by omega]) dX0_lossSoFar_44
      · exact absurd (nI_le (by omega) (by omega)) c1
    | succ q ih =>
      intro j x ls hj hx hl
      refine lv_iload_n S.1 S.2.1 dX0_lossSoFar_4 rfl (lv_at hl 2 rfl) ?_
      refine lv_aload_n S.1 S.2.1 dX0_lossSoFar_5 rfl (lv_at hl 0 rfl) ?_
      refine xg0 S hH dX0_lossSoFar_6 ?_
      refine lv_as (nI n) h0 ?_
      refine lv_icmp_ge (tgt := 43) S.1 S.2.1 dX0_lossSoFar_9 (by decide) (fun c1 => ?_) (fun c1 => ?_)
      · exact absurd ((nI_leI (by omega) (by omega)).mp c1) (by omega)
      · have hjn : j < n := by omega
        have K : ∀ (y : Int32), y = nI (if ss_op (nI (cs j)) (u 3) 8 = 0 then wt j else 0) → W p l e ss_r1 s m args below meth c s.heap [] 0 0 (MQ below (qRo (fun r => r = nI (ss_lv n cs wt (u 3)))) args s 0 0 (fun _ => False)) (F0 m 35 ls [.int y, .int x]) := by
          intro y hy
          refine lv_iadd S.1 S.2.1 dX0_lossSoFar_35 ?_
          refine lv_topi (fun z e_z => ?_)
          refine lv_istore_n (lv' := [(1, .int z), (0, .ref (ad 0)), (2, .int (nI j))]) S.1 S.2.1 dX0_lossSoFar_36 rfl hl (by decide) rfl (fun ls hl => ?_)
          refine lv_inc (k := 2) (j := j) (lv' := [(2, .int (nI (j + 1))), (1, .int z), (0, .ref (ad 0))]) S dX0_lossSoFar_37 hl rfl (by decide) rfl (fun ls hl => ?_)
          refine lv_goto (tgt := 4) S.1 S.2.1 dX0_lossSoFar_40 (by decide) ?_
          exact ih (j + 1) z ls (by omega) (by rw [e_z, hx, hy, nI_add]; rfl) (lv_sub hl [2, 1, 0] rfl)
        refine lv_iload_n S.1 S.2.1 dX0_lossSoFar_12 rfl (lv_at hl 1 rfl) ?_
        refine lv_aload_n S.1 S.2.1 dX0_lossSoFar_13 rfl (lv_at hl 0 rfl) ?_
        refine lv_iload_n S.1 S.2.1 dX0_lossSoFar_14 rfl (lv_at hl 2 rfl) ?_
        refine lv_aload_n S.1 S.2.1 dX0_lossSoFar_15 rfl (lv_at hl 0 rfl) ?_
        refine xg3 S hH dX0_lossSoFar_16 ?_
        refine gRo.call (As := [.int (nI j), .ref (ad 3)]) (rest := [.int x]) (x_open l D ad ka u j (by omega) 3 (Or.inl rfl)) S hH (cwV 2 S.2.2.2.2 (lw_V q105 q107 qs5 q16 q108) rfl rfl rfl (by decide +kernel) ⟨Nat.le_of_ble_eq_true rfl, Nat.le_of_ble_eq_true rfl⟩) (x_recv hH) rfl hl.1 rfl (Nat.le_of_ble_eq_true rfl) dX0_lossSoFar_19 ⟨Nat.le_refl _, Nat.le_refl _⟩ (fun z hz => ?_)
        rw [(h12 j hjn).1] at hz
        refine lv_if_ne (tgt := 34) S.1 S.2.1 dX0_lossSoFar_22 (by decide) (fun c2 => ?_) (fun c2 => ?_)
        · refine lv_iconst (v := 0) S.1 S.2.1 dX0_lossSoFar_34 (by decide) ?_
          exact K 0 (by rw [if_neg (by rw [← hz]; exact c2)]; rfl)
        · refine lv_aload_n S.1 S.2.1 dX0_lossSoFar_25 rfl (lv_at hl 0 rfl) ?_
          refine xg2 S hH dX0_lossSoFar_26 ?_
          refine lv_iload_n S.1 S.2.1 dX0_lossSoFar_29 rfl (lv_at hl 2 rfl) ?_
          refine xl2 S hH (j) (by omega) dX0_lossSoFar_30 ?_
          refine lv_as (nI (wt j)) (h12 j hjn).2 ?_
          refine lv_goto (tgt := 35) S.1 S.2.1 dX0_lossSoFar_31 (by decide) ?_
          exact K _ (by rw [if_pos (hz.symm.trans c2)])
  refine lv_iconst (v := 0) S.1 S.2.1 dX0_lossSoFar_0 (by decide) ?_
  refine lv_istore_n (lv' := [(1, .int (0)), (0, .ref (ad 0))]) S.1 S.2.1 dX0_lossSoFar_1 rfl hl (by decide) rfl (fun ls hl => ?_)
  refine lv_iconst (v := nI 0) S.1 S.2.1 dX0_lossSoFar_2 (by decide) ?_
  refine lv_istore_n (lv' := [(2, .int (nI 0)), (1, .int (0)), (0, .ref (ad 0))]) S.1 S.2.1 dX0_lossSoFar_3 rfl hl (by decide) rfl (fun ls hl => ?_)
  exact loop n 0 0 ls (by omega) rfl (lv_sub hl [2, 1, 0] rfl)
theorem xup_xup (u : XS) (f : Nat) (g h : Nat → Int32) : xup (xup u f g) f h = xup u f h := by
  funext j
  by_cases q : j = f
  · subst q; rw [xup_s, xup_s]
  · rw [xup_n _ _ q, xup_n _ _ q, xup_n _ _ q]
theorem xup_id (u : XS) (f : Nat) : xup u f (u f) = u := by
  funext j
  by_cases q : j = f
  · subst q; rw [xup_s]
  · rw [xup_n _ _ q]
set_option maxHeartbeats 4000000 in
theorem x_free (l : Launch) (D : va_G) (ad : Nat → Nat) (ka : Nat → ClassId) (u : XS) : gMv l yX0_freeAll cX0_freeAll 2 none ss_r0 D (xT ka) (xW ad ka) u [.ref (ad 0)] (fun u1 : XS => ∃ g : Nat → Int32, (∀ i, i < 8 → g i = -1) ∧ u1 = xup u 4 g) := by
  refine gMv.ofW RX0 rfl (by decide) (Nat.le_of_ble_eq_true rfl) ?_
  intro p e s m args below meth c A S hr hlk hH ls hl
  have hl : lv_has ls 2 [(0, .ref (ad 0))] := hl
  have loop : ∀ (q j : Nat) (g : Nat → Int32) (H : Heap) (locs : List Loc) (ls : Array Slot), j + q = 8 → (∀ i, i < j → g i = -1) → gH D (xT ka) (xW ad ka (xup u 4 g)) A s H locs → lv_has ls 2 [(0, .ref (ad 0)), (1, .int (nI j))] → W p l e ss_r0 s m args below meth c H locs 0 0 (MQ below (va_Qv (fun u1 : XS => ∃ g : Nat → Int32, (∀ i, i < 8 → g i = -1) ∧ u1 = xup u 4 g) (gB D (xT ka) (xW ad ka) A) A) args s 0 0 A) (F0 m 2 ls []) := by
    intro q
    induction q with
    | zero =>
      intro j g H locs ls hj hg hH hl
      refine lv_iload_n S.1 S.2.1 dX0_freeAll_2 rfl (lv_at hl 1 rfl) ?_
      refine lv_bipush (v := nI 8) S.1 S.2.1 dX0_freeAll_3 (by decide) ?_
      refine lv_icmp_ge (tgt := 21) S.1 S.2.1 dX0_freeAll_5 (by decide) (fun c1 => ?_) (fun c1 => ?_)
      · exact gMv.vret S hr hlk hH ⟨g, fun i hi => hg i (by omega), rfl⟩ dX0_freeAll_21
      · exact absurd (nI_le (by omega) (by omega)) c1
    | succ q ih =>
      intro j g H locs ls hj hg hH hl
      refine lv_iload_n S.1 S.2.1 dX0_freeAll_2 rfl (lv_at hl 1 rfl) ?_
      refine lv_bipush (v := nI 8) S.1 S.2.1 dX0_freeAll_3 (by decide) ?_
      refine lv_icmp_ge (tgt := 21) S.1 S.2.1 dX0_freeAll_5 (by decide) (fun c1 => ?_) (fun c1 => ?_)
      · exact absurd ((nI_leI (by omega) (by omega)).mp c1) (by omega)
      · refine lv_aload_n S.1 S.2.1 dX0_freeAll_8 rfl (lv_at hl 0 rfl) ?_
        refine xg4 S hH dX0_freeAll_9 ?_
        refine lv_iload_n S.1 S.2.1 dX0_freeAll_12 rfl (lv_at hl 1 rfl) ?_
        refine lv_iconst (v := (-1)) S.1 S.2.1 dX0_freeAll_13 (by decide) ?_
        refine xs4 S hH (j) (by omega) dX0_freeAll_14 (fun H locs hH => ?_)
        rw [xup_s, xup_xup] at hH
        refine lv_inc (k := 1) (j := j) (lv' := [(1, .int (nI (j + 1))), (0, .ref (ad 0))]) S dX0_freeAll_15 hl rfl (by decide) rfl (fun ls hl => ?_)
        refine lv_goto (tgt := 2) S.1 S.2.1 dX0_freeAll_18 (by decide) ?_
        refine ih (j + 1) _ H locs ls (by omega) (fun i hi => ?_) hH (lv_sub hl [1, 0] rfl)
        by_cases q : i = j
        · subst q; exact upd_s _ _ _
        · rw [upd_n _ _ q]; exact hg i (by omega)
  refine lv_iconst (v := nI 0) S.1 S.2.1 dX0_freeAll_0 (by decide) ?_
  refine lv_istore_n (lv' := [(1, .int (nI 0)), (0, .ref (ad 0))]) S.1 S.2.1 dX0_freeAll_1 rfl hl (by decide) rfl (fun ls hl => ?_)
  exact loop 8 0 (u 4) _ _ ls rfl (fun i h => absurd h (Nat.not_lt_zero _)) (by rw [xup_id]; exact hH) (lv_sub hl [1, 0] rfl)
/-- the low bits that the values make -/
def ss_lo (val : Nat → Int32) : Nat → Nat
  | 0 => 0
  | j + 1 => ss_lo val j + 2 ^ j * ss_bv (val j)
theorem ss_lo_lt (val : Nat → Int32) : ∀ j, ss_lo val j < 2 ^ j
  | 0 => by simp [ss_lo]
  | j + 1 => by
    have h := ss_lo_lt val j
    have h2 := ss_bv_le (val j)
    have h3 : 2 ^ j * ss_bv (val j) ≤ 2 ^ j * 1 := Nat.mul_le_mul_left _ h2
    rw [ss_lo, Nat.pow_succ]
    omega
theorem ss_lo_pn (val : Nat → Int32) : ss_lo val 8 = ss_pn val 8 := by
  simp only [ss_lo, ss_pn, Nat.reduceSub]
  omega
theorem ss_lo_or (val : Nat → Int32) {j : Nat} (hj : j < 8) (hv : val j = 0 ∨ val j = 1) : nI (ss_lo val j) ||| (val j <<< (nI j &&& 31)) = nI (ss_lo val (j + 1)) := by
  have e : val j <<< (nI j &&& 31) = nI (2 ^ j * ss_bv (val j)) := by
    have h : ∀ j, j < 8 → (0 : Int32) <<< (nI j &&& 31) = nI (2 ^ j * ss_bv 0) ∧ (1 : Int32) <<< (nI j &&& 31) = nI (2 ^ j * ss_bv 1) := by decide +kernel
    rcases hv with q | q <;> rw [q]
    · exact (h j hj).1
    · exact (h j hj).2
  rw [e, ss_lo, fa_or, Nat.or_comm, Nat.add_comm, Nat.two_pow_add_eq_or_of_lt (ss_lo_lt val j)]
set_option maxHeartbeats 4000000 in
theorem x_leaf (l : Launch) (D : va_G) (ad : Nat → Nat) (ka : Nat → ClassId) (u : XS) (n : Nat) (cs wt : Nat → Nat) (hu : x_ok n cs wt u) (hv : ∀ i, i < 8 → u 3 i = 0 ∨ u 3 i = 1) : gMu l yX0_takeLeaf cX0_takeLeaf 2 (some .int) ss_r2 D (xT ka) (xW ad ka) u [.ref (ad 0)] (fun (r : Int32) (u1 : XS) => r = 0 ∧ ∃ b1 b2 : Nat → Int32, u1 = xup (xup u 5 b1) 6 b2 ∧ b1 0 = nI (ss_lv n cs wt (u 3)) ∧ b2 0 = nI (ss_pn (u 3) 8)) := by
  refine gMu.ofW RX0 rfl (by decide) (Nat.le_of_ble_eq_true rfl) ?_
  intro p e s m args below meth c A S hr hlk hH ls hl
  have hl : lv_has ls 2 [(0, .ref (ad 0))] := hl
  have loop : ∀ (b1 : Nat → Int32), b1 0 = nI (ss_lv n cs wt (u 3)) → ∀ (q j : Nat) (b2 : Nat → Int32) (H : Heap) (locs : List Loc) (ls : Array Slot), j + q = 8 → b2 0 = nI (ss_lo (u 3) j) → gH D (xT ka) (xW ad ka (xup (xup u 5 b1) 6 b2)) A s H locs → lv_has ls 2 [(0, .ref (ad 0)), (1, .int (nI j))] → W p l e ss_r2 s m args below meth c H locs 0 0 (MQ below (va_Qi (fun (r : Int32) (u1 : XS) => r = 0 ∧ ∃ b1 b2 : Nat → Int32, u1 = xup (xup u 5 b1) 6 b2 ∧ b1 0 = nI (ss_lv n cs wt (u 3)) ∧ b2 0 = nI (ss_pn (u 3) 8)) (gB D (xT ka) (xW ad ka) A) A) args s 0 0 A) (F0 m 15 ls []) := by
    intro b1 hb1 q
    induction q with
    | zero =>
      intro j b2 H locs ls hj hg hH hl
      refine lv_iload_n S.1 S.2.1 dX0_takeLeaf_15 rfl (lv_at hl 1 rfl) ?_
      refine lv_bipush (v := nI 8) S.1 S.2.1 dX0_takeLeaf_16 (by decide) ?_
      refine lv_icmp_ge (tgt := 44) S.1 S.2.1 dX0_takeLeaf_18 (by decide) (fun c1 => ?_) (fun c1 => ?_)
      · refine lv_iconst (v := 0) S.1 S.2.1 dX0_takeLeaf_44 (by decide) ?_
        exact gMu.iret S hr hlk hH ⟨rfl, b1, b2, rfl, hb1, by rw [hg, show j = 8 by omega, ss_lo_pn]⟩ dX0_takeLeaf_45
      · exact absurd (nI_le (by omega) (by omega)) c1
    | succ q ih =>
      intro j b2 H locs ls hj hg hH hl
      refine lv_iload_n S.1 S.2.1 dX0_takeLeaf_15 rfl (lv_at hl 1 rfl) ?_
      refine lv_bipush (v := nI 8) S.1 S.2.1 dX0_takeLeaf_16 (by decide) ?_
      refine lv_icmp_ge (tgt := 44) S.1 S.2.1 dX0_takeLeaf_18 (by decide) (fun c1 => ?_) (fun c1 => ?_)
      · exact absurd ((nI_leI (by omega) (by omega)).mp c1) (by omega)
      · refine lv_aload_n S.1 S.2.1 dX0_takeLeaf_21 rfl (lv_at hl 0 rfl) ?_
        refine lv_dup S.1 S.2.1 dX0_takeLeaf_22 rfl ?_
        refine xg6 S hH dX0_takeLeaf_23 ?_
        refine lv_aload_n S.1 S.2.1 dX0_takeLeaf_26 rfl (lv_at hl 0 rfl) ?_
        refine xg3 S hH dX0_takeLeaf_27 ?_
        refine lv_iload_n S.1 S.2.1 dX0_takeLeaf_30 rfl (lv_at hl 1 rfl) ?_
        refine xl3 S hH (j) (by omega) dX0_takeLeaf_31 ?_
        refine lv_iload_n S.1 S.2.1 dX0_takeLeaf_32 rfl (lv_at hl 1 rfl) ?_
        refine lv_ishl S.1 S.2.1 dX0_takeLeaf_33 ?_
        refine lv_ior S.1 S.2.1 dX0_takeLeaf_34 ?_
        refine lv_as (nI (ss_lo (u 3) (j + 1))) ?_ ?_
        · rw [← ss_lo_or (u 3) (by omega) (hv j (by omega)), ← hg]
          rfl
        refine xp6 S hH dX0_takeLeaf_35 (fun H locs hH => ?_)
        rw [xup_xup] at hH
        refine lv_inc (k := 1) (j := j) (lv' := [(1, .int (nI (j + 1))), (0, .ref (ad 0))]) S dX0_takeLeaf_38 hl rfl (by decide) rfl (fun ls hl => ?_)
        refine lv_goto (tgt := 15) S.1 S.2.1 dX0_takeLeaf_41 (by decide) ?_
        exact ih (j + 1) _ H locs ls (by omega) rfl hH (lv_sub hl [1, 0] rfl)
  refine lv_aload_n S.1 S.2.1 dX0_takeLeaf_0 rfl (lv_at hl 0 rfl) ?_
  refine lv_aload_n S.1 S.2.1 dX0_takeLeaf_1 rfl (lv_at hl 0 rfl) ?_
  refine gRo.call (As := []) (rest := [.ref (ad 0)]) (x_lsf l D ad ka u n cs wt hu) S hH (cwV 0 S.2.2.2.2 (lw_V q101 q103 qs4 q16 q104) rfl rfl rfl (by decide +kernel) ⟨Nat.le_of_ble_eq_true rfl, Nat.le_of_ble_eq_true rfl⟩) (x_recv hH) rfl hl.1 rfl (Nat.le_of_ble_eq_true rfl) dX0_takeLeaf_2 ⟨Nat.le_refl _, Nat.le_refl _⟩ (fun z hz => ?_)
  refine xp5 S hH dX0_takeLeaf_5 (fun H locs hH => ?_)
  refine lv_aload_n S.1 S.2.1 dX0_takeLeaf_8 rfl (lv_at hl 0 rfl) ?_
  refine lv_iconst (v := 0) S.1 S.2.1 dX0_takeLeaf_9 (by decide) ?_
  refine xp6 S hH dX0_takeLeaf_10 (fun H locs hH => ?_)
  refine lv_iconst (v := nI 0) S.1 S.2.1 dX0_takeLeaf_13 (by decide) ?_
  refine lv_istore_n (lv' := [(1, .int (nI 0)), (0, .ref (ad 0))]) S.1 S.2.1 dX0_takeLeaf_14 rfl hl (by decide) rfl (fun ls hl => ?_)
  exact loop _ hz 8 0 _ _ _ ls rfl rfl hH (lv_sub hl [1, 0] rfl)
end
section
set_option maxRecDepth 100000
/-! SoftSolver: step, unitSteps -/
/-- nothing but the parts that are listed has changed -/
def x_fr (fs : List Nat) (u u1 : XS) : Prop := ∀ f, f ∉ fs → u1 f = u f
theorem x_fr.rf {fs : List Nat} {u : XS} : x_fr fs u u := fun _ _ => rfl
theorem x_fr.tr {fs : List Nat} {u u1 u2 : XS} (h1 : x_fr fs u u1) (h2 : x_fr fs u1 u2) : x_fr fs u u2 := fun f h => (h2 f h).trans (h1 f h)
theorem x_fr.wd {fs gs : List Nat} {u u1 : XS} (h : x_fr fs u u1) (hs : ∀ f ∈ fs, f ∈ gs) : x_fr gs u u1 := fun f hf => h f (fun q => hf (hs f q))
theorem x_fr.up {fs : List Nat} {u u1 : XS} {f : Nat} {g : Nat → Int32} (h : x_fr fs u u1) (hf : f ∈ fs) : x_fr fs u (xup u1 f g) := fun j hj => (xup_n _ _ (fun q => hj (by rw [q]; exact hf))).trans (h j hj)
def xU (n : Nat) (cs wt : Nat → Nat) (u : XS) (T : Nat) : Prop := u 9 0 = nI T ∧ ss_tr n cs wt (u 11) (u 3) (u 7) (u 8) (u 10) T
theorem xU.le {n : Nat} {cs wt : Nat → Nat} {u : XS} {T : Nat} (h : xU n cs wt u T) : T ≤ 8 := by
  have := h.2.2.2.2
  omega
theorem v3_neg {val : Nat → Int32} (h : ss_v3 val) {j : Nat} (hj : j < 8) (hn : ¬ 0 ≤ val j) : val j = -1 := by
  rcases h j hj with q | q | q
  · exact q
  · rw [q] at hn; exact absurd (by decide) hn
  · rw [q] at hn; exact absurd (by decide) hn
set_option maxHeartbeats 4000000 in
theorem x_step (l : Launch) (D : va_G) (ad : Nat → Nat) (ka : Nat → ClassId) (u : XS) (n : Nat) (cs wt : Nat → Nat) (hu : x_ok n cs wt u) (T kk : Nat) (hT : xU n cs wt u T) (hk : kk < n) (ha : wt kk = 0 ∨ 0 < u 11 kk) (o : Int32) (ho : o = ss_op (nI (cs kk)) (u 7) 8) : gMu l yX0_step cX0_step 5 (some .boolean) ss_r0 D (xT ka) (xW ad ka) u [.ref (ad 0), .int (nI kk), .int o] (fun (r : Int32) (u1 : XS) => (r = 0 ∨ r = 1) ∧ x_fr [7, 8, 9, 10] u u1 ∧ ∃ T1, xU n cs wt u1 T1) := by
  refine gMu.ofW RX0 rfl (by decide) (Nat.le_of_ble_eq_true rfl) ?_
  intro p e s m args below meth c A S hr hlk hH ls hl
  have hl : lv_has ls 5 [(0, .ref (ad 0)), (1, .int (nI kk)), (2, .int o)] := hl
  have hc := (hu.2.2.2 kk hk).1
  refine lv_iload_n S.1 S.2.1 dX0_step_0 rfl (lv_at hl 2 rfl) ?_
  refine lv_iload_n S.1 S.2.1 dX0_step_1 rfl (lv_at hl 2 rfl) ?_
  refine lv_iconst (v := 1) S.1 S.2.1 dX0_step_2 (by decide) ?_
  refine lv_isub S.1 S.2.1 dX0_step_3 ?_
  refine lv_iand S.1 S.2.1 dX0_step_4 ?_
  refine lv_if_eq (tgt := 10) S.1 S.2.1 dX0_step_5 (by decide) (fun c0 => ?_) (fun c0 => ?_)
  · have loop : ∀ (q j : Nat) (ls : Array Slot), j + q = 8 → lv_has ls 5 [(0, .ref (ad 0)), (1, .int (nI kk)), (2, .int o), (3, .int (nI j))] → W p l e ss_r0 s m args below meth c s.heap [] 0 0 (MQ below (va_Qi (fun (r : Int32) (u1 : XS) => (r = 0 ∨ r = 1) ∧ x_fr [7, 8, 9, 10] u u1 ∧ ∃ T1, xU n cs wt u1 T1) (gB D (xT ka) (xW ad ka) A) A) args s 0 0 A) (F0 m 12 ls []) := by
      intro q
      induction q with
      | zero =>
        intro j ls hj hl
        refine lv_iload_n S.1 S.2.1 dX0_step_12 rfl (lv_at hl 3 rfl) ?_
        refine lv_bipush (v := nI 8) S.1 S.2.1 dX0_step_13 (by decide) ?_
        refine lv_icmp_ge (tgt := 105) S.1 S.2.1 dX0_step_15 (by decide) (fun c1 => ?_) (fun c1 => ?_)
        · refine lv_iconst (v := 0) S.1 S.2.1 dX0_step_105 (by decide) ?_
          exact gMu.zret S hr hlk (Or.inl rfl) hH ⟨Or.inl rfl, x_fr.rf, T, hT⟩ dX0_step_106
        · exact absurd (nI_le (by omega) (by omega)) c1
      | succ q ih =>
        intro j ls hj hl
        refine lv_iload_n S.1 S.2.1 dX0_step_12 rfl (lv_at hl 3 rfl) ?_
        refine lv_bipush (v := nI 8) S.1 S.2.1 dX0_step_13 (by decide) ?_
        refine lv_icmp_ge (tgt := 105) S.1 S.2.1 dX0_step_15 (by decide) (fun c1 => ?_) (fun c1 => ?_)
        · exact absurd ((nI_leI (by omega) (by omega)).mp c1) (by omega)
        · have e2 : nI 2 * nI j = nI (2 * j) := pk_mul 2 j
          refine lv_iload_n S.1 S.2.1 dX0_step_18 rfl (lv_at hl 2 rfl) ?_
          refine lv_iconst (v := nI 2) S.1 S.2.1 dX0_step_19 (by decide) ?_
          refine lv_iload_n S.1 S.2.1 dX0_step_20 rfl (lv_at hl 3 rfl) ?_
          refine lv_imul S.1 S.2.1 dX0_step_21 ?_
          refine lv_as (nI (2 * j)) e2 ?_
          refine lv_iushr S.1 S.2.1 dX0_step_22 rfl ?_
          refine lv_iconst (v := 3) S.1 S.2.1 dX0_step_23 (by decide) ?_
          refine lv_iand S.1 S.2.1 dX0_step_24 ?_
          refine lv_if_eq (tgt := 32) S.1 S.2.1 dX0_step_25 (by decide) (fun c2 => ?_) (fun c2 => ?_)
          · refine lv_iconst (v := 0) S.1 S.2.1 dX0_step_32 (by decide) ?_
            refine lv_istore (lv' := [(4, .int (0)), (0, .ref (ad 0)), (1, .int (nI kk)), (2, .int o), (3, .int (nI j))]) S.1 S.2.1 dX0_step_33 hl (by decide) rfl (fun ls hl => ?_)
            refine lv_iload S.1 S.2.1 dX0_step_35 (lv_at hl 0 rfl) ?_
            refine lv_if_eq (tgt := 99) S.1 S.2.1 dX0_step_37 (by decide) (fun c3 => ?_) (fun c3 => ?_)
            · refine lv_inc (k := 4) (j := j) (lv' := [(3, .int (nI (j + 1))), (4, .int (0)), (0, .ref (ad 0)), (1, .int (nI kk)), (2, .int o)]) S dX0_step_99 hl rfl (by decide) rfl (fun ls hl => ?_)
              refine lv_goto (tgt := 12) S.1 S.2.1 dX0_step_102 (by decide) ?_
              exact ih (j + 1) ls (by omega) (lv_sub hl [2, 3, 4, 0] rfl)
            · exact absurd rfl c3
          · refine lv_iconst (v := 1) S.1 S.2.1 dX0_step_28 (by decide) ?_
            refine lv_goto (tgt := 33) S.1 S.2.1 dX0_step_29 (by decide) ?_
            refine lv_istore (lv' := [(4, .int (1)), (0, .ref (ad 0)), (1, .int (nI kk)), (2, .int o), (3, .int (nI j))]) S.1 S.2.1 dX0_step_33 hl (by decide) rfl (fun ls hl => ?_)
            refine lv_iload S.1 S.2.1 dX0_step_35 (lv_at hl 0 rfl) ?_
            refine lv_if_eq (tgt := 99) S.1 S.2.1 dX0_step_37 (by decide) (fun c3 => ?_) (fun c3 => ?_)
            · exact absurd c3 (by decide)
            · refine lv_aload_n S.1 S.2.1 dX0_step_40 rfl (lv_at hl 1 rfl) ?_
              refine xg7 S hH dX0_step_41 ?_
              refine lv_iload_n S.1 S.2.1 dX0_step_44 rfl (lv_at hl 4 rfl) ?_
              refine xl7 S hH (j) (by omega) dX0_step_45 ?_
              refine lv_if_ge (tgt := 99) S.1 S.2.1 dX0_step_46 (by decide) (fun c4 => ?_) (fun c4 => ?_)
              · refine lv_inc (k := 4) (j := j) (lv' := [(3, .int (nI (j + 1))), (4, .int (1)), (0, .ref (ad 0)), (1, .int (nI kk)), (2, .int o)]) S dX0_step_99 hl rfl (by decide) rfl (fun ls hl => ?_)
                refine lv_goto (tgt := 12) S.1 S.2.1 dX0_step_102 (by decide) ?_
                exact ih (j + 1) ls (by omega) (lv_sub hl [2, 3, 4, 0] rfl)
              · have hm := v3_neg hT.2.1 (show j < 8 by omega) c4
                have hb : bt o (2 * j) = true ∨ bt o (2 * j + 1) = true := by
                  cases q1 : bt o (2 * j)
                  · cases q2 : bt o (2 * j + 1)
                    · exact absurd ((ss_bit2 o (2 * j) (by omega)).mpr ⟨q1, q2⟩) c2
                    · exact Or.inr rfl
                  · exact Or.inl rfl
                obtain ⟨hT8, hst⟩ := ss_tr_step hT.2 hk hc ha ho c0 (show j < 8 by omega) hb hm
                have K : ∀ (y : Int32), y = (if bt o (2 * j) = true then 1 else 0) → W p l e ss_r0 s m args below meth c s.heap [] 0 0 (MQ below (va_Qi (fun (r : Int32) (u1 : XS) => (r = 0 ∨ r = 1) ∧ x_fr [7, 8, 9, 10] u u1 ∧ ∃ T1, xU n cs wt u1 T1) (gB D (xT ka) (xW ad ka) A) A) args s 0 0 A) (F0 m 69 ls [.int y, .int (nI j), .ref (ad 7)]) := by
                  intro y hy
                  refine xs7 S hH (j) (by omega) dX0_step_69 (fun H locs hH => ?_)
                  refine lv_aload_n S.1 S.2.1 dX0_step_70 rfl (lv_at hl 1 rfl) ?_
                  refine xg8 S hH dX0_step_71 ?_
                  refine lv_iload_n S.1 S.2.1 dX0_step_74 rfl (lv_at hl 4 rfl) ?_
                  refine lv_iload_n S.1 S.2.1 dX0_step_75 rfl (lv_at hl 2 rfl) ?_
                  refine xs8 S hH (j) (by omega) dX0_step_76 (fun H locs hH => ?_)
                  refine lv_aload_n S.1 S.2.1 dX0_step_77 rfl (lv_at hl 1 rfl) ?_
                  refine xg10 S hH dX0_step_78 ?_
                  refine lv_aload_n S.1 S.2.1 dX0_step_81 rfl (lv_at hl 1 rfl) ?_
                  refine xg9 S hH dX0_step_82 ?_
                  refine lv_as (nI T) hT.1 ?_
                  refine lv_iload_n S.1 S.2.1 dX0_step_85 rfl (lv_at hl 4 rfl) ?_
                  refine xs10 S hH (T) (hT8) dX0_step_86 (fun H locs hH => ?_)
                  refine lv_aload_n S.1 S.2.1 dX0_step_87 rfl (lv_at hl 1 rfl) ?_
                  refine lv_dup S.1 S.2.1 dX0_step_88 rfl ?_
                  refine xg9 S hH dX0_step_89 ?_
                  refine lv_iconst (v := 1) S.1 S.2.1 dX0_step_92 (by decide) ?_
                  refine lv_iadd S.1 S.2.1 dX0_step_93 ?_
                  refine lv_as (nI (T + 1)) ?_ ?_
                  · rw [← nI_1 T, ← hT.1]
                    rfl
                  refine xp9 S hH dX0_step_94 (fun H locs hH => ?_)
                  refine lv_iconst (v := 1) S.1 S.2.1 dX0_step_97 (by decide) ?_
                  rw [← hy] at hst
                  exact gMu.zret S hr hlk (Or.inr rfl) hH ⟨Or.inr rfl, (((x_fr.rf.up (by decide)).up (by decide)).up (by decide)).up (by decide), T + 1, rfl, hst⟩ dX0_step_98
                refine lv_aload_n S.1 S.2.1 dX0_step_49 rfl (lv_at hl 1 rfl) ?_
                refine xg7 S hH dX0_step_50 ?_
                refine lv_iload_n S.1 S.2.1 dX0_step_53 rfl (lv_at hl 4 rfl) ?_
                refine lv_iload_n S.1 S.2.1 dX0_step_54 rfl (lv_at hl 3 rfl) ?_
                refine lv_iconst (v := nI 2) S.1 S.2.1 dX0_step_55 (by decide) ?_
                refine lv_iload_n S.1 S.2.1 dX0_step_56 rfl (lv_at hl 4 rfl) ?_
                refine lv_imul S.1 S.2.1 dX0_step_57 ?_
                refine lv_as (nI (2 * j)) e2 ?_
                refine lv_iushr S.1 S.2.1 dX0_step_58 rfl ?_
                refine lv_iconst (v := 1) S.1 S.2.1 dX0_step_59 (by decide) ?_
                refine lv_iand S.1 S.2.1 dX0_step_60 ?_
                refine lv_as (if bt o (2 * j) = true then 1 else 0) (ss_bit o (2 * j) (by omega)) ?_
                refine lv_if_eq (tgt := 68) S.1 S.2.1 dX0_step_61 (by decide) (fun c5 => ?_) (fun c5 => ?_)
                · refine lv_iconst (v := 0) S.1 S.2.1 dX0_step_68 (by decide) ?_
                  refine K 0 ?_
                  by_cases h : bt o (2 * j) = true
                  · rw [if_pos h] at c5; exact absurd c5 (by decide)
                  · rw [if_neg h]
                · refine lv_iconst (v := 1) S.1 S.2.1 dX0_step_64 (by decide) ?_
                  refine lv_goto (tgt := 69) S.1 S.2.1 dX0_step_65 (by decide) ?_
                  refine K 1 ?_
                  by_cases h : bt o (2 * j) = true
                  · rw [if_pos h]
                  · rw [if_neg h] at c5; exact absurd rfl c5
    refine lv_iconst (v := nI 0) S.1 S.2.1 dX0_step_10 (by decide) ?_
    refine lv_istore_n (lv' := [(3, .int (nI 0)), (0, .ref (ad 0)), (1, .int (nI kk)), (2, .int o)]) S.1 S.2.1 dX0_step_11 rfl hl (by decide) rfl (fun ls hl => ?_)
    exact loop 8 0 ls rfl (lv_sub hl [1, 2, 3, 0] rfl)
  · refine lv_iconst (v := 0) S.1 S.2.1 dX0_step_8 (by decide) ?_
    exact gMu.zret S hr hlk (Or.inl rfl) hH ⟨Or.inl rfl, x_fr.rf, T, hT⟩ dX0_step_9
set_option maxHeartbeats 4000000 in
theorem x_unit (l : Launch) (D : va_G) (ad : Nat → Nat) (ka : Nat → ClassId) (u : XS) (n : Nat) (cs wt : Nat → Nat) (hu : x_ok n cs wt u) (h3 : ss_v3 (u 3)) : gMu l yX0_unitSteps cX0_unitSteps 5 (some .int) ss_r1 D (xT ka) (xW ad ka) u [.ref (ad 0)] (fun (r : Int32) (u1 : XS) => x_fr [7, 8, 9, 10] u u1 ∧ ∃ T, xU n cs wt u1 T ∧ (r = -1 ∨ ∃ k, k < n ∧ r = nI k ∧ (wt k = 0 ∨ 0 < u 11 k) ∧ ss_cf cs (u 3) (u1 7) (u1 10) T k)) := by
  refine gMu.ofW RX0 rfl (by decide) (Nat.le_of_ble_eq_true rfl) ?_
  intro p e s m args below meth c A S hr hlk hH ls hl
  have hl : lv_has ls 5 [(0, .ref (ad 0))] := hl
  have hn := hu.2.2.1
  have outer : ∀ (q r : Nat) (x : Int32) (u1 : XS) (H : Heap) (locs : List Loc) (ls : Array Slot), r + q = 9 → x_fr [7, 8, 9, 10] u u1 → (∃ T, xU n cs wt u1 T) → gH D (xT ka) (xW ad ka u1) A s H locs → lv_has ls 5 [(0, .ref (ad 0)), (1, .int x), (2, .int (nI r))] → W p l e ss_r1 s m args below meth c H locs 0 0 (MQ below (va_Qi (fun (r : Int32) (u1 : XS) => x_fr [7, 8, 9, 10] u u1 ∧ ∃ T, xU n cs wt u1 T ∧ (r = -1 ∨ ∃ k, k < n ∧ r = nI k ∧ (wt k = 0 ∨ 0 < u 11 k) ∧ ss_cf cs (u 3) (u1 7) (u1 10) T k)) (gB D (xT ka) (xW ad ka) A) A) args s 0 0 A) (F0 m 42 ls []) := by
    intro q
    induction q with
    | zero =>
      intro r x u1 H locs ls hj hf hT hH hl
      refine lv_iload_n S.1 S.2.1 dX0_unitSteps_42 rfl (lv_at hl 2 rfl) ?_
      refine lv_bipush (v := nI 9) S.1 S.2.1 dX0_unitSteps_43 (by decide) ?_
      refine lv_icmp_ge (tgt := 132) S.1 S.2.1 dX0_unitSteps_45 (by decide) (fun c1 => ?_) (fun c1 => ?_)
      · refine lv_iconst (v := (-1)) S.1 S.2.1 dX0_unitSteps_132 (by decide) ?_
        obtain ⟨T, hT⟩ := hT
        exact gMu.iret S hr hlk hH ⟨hf, T, hT, Or.inl rfl⟩ dX0_unitSteps_133
      · exact absurd (nI_le (by omega) (by omega)) c1
    | succ q ih =>
      intro r x u1 H locs ls hj hf hT hH hl
      refine lv_iload_n S.1 S.2.1 dX0_unitSteps_42 rfl (lv_at hl 2 rfl) ?_
      refine lv_bipush (v := nI 9) S.1 S.2.1 dX0_unitSteps_43 (by decide) ?_
      refine lv_icmp_ge (tgt := 132) S.1 S.2.1 dX0_unitSteps_45 (by decide) (fun c1 => ?_) (fun c1 => ?_)
      · exact absurd ((nI_leI (by omega) (by omega)).mp c1) (by omega)
      · refine lv_iload_n S.1 S.2.1 dX0_unitSteps_48 rfl (lv_at hl 1 rfl) ?_
        refine lv_if_eq (tgt := 132) S.1 S.2.1 dX0_unitSteps_49 (by decide) (fun c2 => ?_) (fun c2 => ?_)
        · refine lv_iconst (v := (-1)) S.1 S.2.1 dX0_unitSteps_132 (by decide) ?_
          obtain ⟨T, hT⟩ := hT
          exact gMu.iret S hr hlk hH ⟨hf, T, hT, Or.inl rfl⟩ dX0_unitSteps_133
        · have inner : ∀ (q2 j : Nat) (x : Int32) (u1 : XS) (H : Heap) (locs : List Loc) (ls : Array Slot), j + q2 = n → x_fr [7, 8, 9, 10] u u1 → (∃ T, xU n cs wt u1 T) → gH D (xT ka) (xW ad ka u1) A s H locs → lv_has ls 5 [(0, .ref (ad 0)), (1, .int x), (2, .int (nI r)), (3, .int (nI j))] → W p l e ss_r1 s m args below meth c H locs 0 0 (MQ below (va_Qi (fun (r : Int32) (u1 : XS) => x_fr [7, 8, 9, 10] u u1 ∧ ∃ T, xU n cs wt u1 T ∧ (r = -1 ∨ ∃ k, k < n ∧ r = nI k ∧ (wt k = 0 ∨ 0 < u 11 k) ∧ ss_cf cs (u 3) (u1 7) (u1 10) T k)) (gB D (xT ka) (xW ad ka) A) A) args s 0 0 A) (F0 m 56 ls []) := by
            intro q2
            induction q2 with
            | zero =>
              intro j x u1 H locs ls hjn hf hT hH hl
              have hu1 := hu.mv (hf 0 (by decide)) (hf 1 (by decide)) (hf 2 (by decide))
              refine lv_iload_n S.1 S.2.1 dX0_unitSteps_56 rfl (lv_at hl 3 rfl) ?_
              refine lv_aload_n S.1 S.2.1 dX0_unitSteps_57 rfl (lv_at hl 0 rfl) ?_
              refine xg0 S hH dX0_unitSteps_58 ?_
              refine lv_as (nI n) hu1.1 ?_
              refine lv_icmp_ge (tgt := 126) S.1 S.2.1 dX0_unitSteps_61 (by decide) (fun c3 => ?_) (fun c3 => ?_)
              · refine lv_inc (k := 2) (j := r) (lv' := [(2, .int (nI (r + 1))), (0, .ref (ad 0)), (1, .int x), (3, .int (nI j))]) S dX0_unitSteps_126 hl rfl (by decide) rfl (fun ls hl => ?_)
                refine lv_goto (tgt := 42) S.1 S.2.1 dX0_unitSteps_129 (by decide) ?_
                exact ih (r + 1) x u1 H locs ls (by omega) hf hT hH (lv_sub hl [1, 2, 0] rfl)
              · exact absurd (nI_le (by omega) (by omega)) c3
            | succ q2 ih2 =>
              intro j x u1 H locs ls hjn hf hT hH hl
              have hu1 := hu.mv (hf 0 (by decide)) (hf 1 (by decide)) (hf 2 (by decide))
              refine lv_iload_n S.1 S.2.1 dX0_unitSteps_56 rfl (lv_at hl 3 rfl) ?_
              refine lv_aload_n S.1 S.2.1 dX0_unitSteps_57 rfl (lv_at hl 0 rfl) ?_
              refine xg0 S hH dX0_unitSteps_58 ?_
              refine lv_as (nI n) hu1.1 ?_
              refine lv_icmp_ge (tgt := 126) S.1 S.2.1 dX0_unitSteps_61 (by decide) (fun c3 => ?_) (fun c3 => ?_)
              · exact absurd ((nI_leI (by omega) (by omega)).mp c3) (by omega)
              · have hj2 : j < n := by omega
                obtain ⟨T, hT⟩ := hT
                have hwj := (hu1.2.2.2 j hj2).2
                have K : (wt j = 0 ∨ 0 < u1 11 j) → W p l e ss_r1 s m args below meth c H locs 0 0 (MQ below (va_Qi (fun (r : Int32) (u1 : XS) => x_fr [7, 8, 9, 10] u u1 ∧ ∃ T, xU n cs wt u1 T ∧ (r = -1 ∨ ∃ k, k < n ∧ r = nI k ∧ (wt k = 0 ∨ 0 < u 11 k) ∧ ss_cf cs (u 3) (u1 7) (u1 10) T k)) (gB D (xT ka) (xW ad ka) A) A) args s 0 0 A) (F0 m 82 ls []) := by
                  intro ha
                  refine lv_aload_n S.1 S.2.1 dX0_unitSteps_82 rfl (lv_at hl 0 rfl) ?_
                  refine lv_iload_n S.1 S.2.1 dX0_unitSteps_83 rfl (lv_at hl 3 rfl) ?_
                  refine lv_aload_n S.1 S.2.1 dX0_unitSteps_84 rfl (lv_at hl 0 rfl) ?_
                  refine xg7 S hH dX0_unitSteps_85 ?_
                  refine gRo.call (As := [.int (nI j), .ref (ad 7)]) (rest := []) (x_open l D ad ka u1 j (by omega) 7 (Or.inr rfl)) S hH (cwV 2 S.2.2.2.2 (lw_V q105 q107 qs5 q16 q108) rfl rfl rfl (by decide +kernel) ⟨Nat.le_of_ble_eq_true rfl, Nat.le_of_ble_eq_true rfl⟩) (x_recv hH) rfl hl.1 rfl (Nat.le_of_ble_eq_true rfl) dX0_unitSteps_88 ⟨Nat.le_refl _, Nat.le_refl _⟩ (fun z hz => ?_)
                  rw [(hu1.2.1 j hj2).1] at hz
                  refine lv_istore (lv' := [(4, .int (z)), (0, .ref (ad 0)), (1, .int x), (2, .int (nI r)), (3, .int (nI j))]) S.1 S.2.1 dX0_unitSteps_91 hl (by decide) rfl (fun ls hl => ?_)
                  refine lv_iload S.1 S.2.1 dX0_unitSteps_93 (lv_at hl 0 rfl) ?_
                  refine lv_if_ne (tgt := 100) S.1 S.2.1 dX0_unitSteps_95 (by decide) (fun c4 => ?_) (fun c4 => ?_)
                  · refine lv_aload_n S.1 S.2.1 dX0_unitSteps_100 rfl (lv_at hl 1 rfl) ?_
                    refine lv_iload_n S.1 S.2.1 dX0_unitSteps_101 rfl (lv_at hl 4 rfl) ?_
                    refine lv_iload S.1 S.2.1 dX0_unitSteps_102 (lv_at hl 0 rfl) ?_
                    refine gMu.call (As := [.int (nI j), .int z]) (rest := []) (x_step l D ad ka u1 n cs wt hu1 T j hT hj2 ha z hz) S hH (cwV 2 S.2.2.2.2 (lw_V q121 q123 qs9 q16 q124) rfl rfl rfl (by decide +kernel) ⟨Nat.le_of_ble_eq_true rfl, Nat.le_of_ble_eq_true rfl⟩) (x_recv hH) rfl hl.1 rfl (Nat.le_of_ble_eq_true rfl) dX0_unitSteps_104 ⟨Nat.le_refl _, Nat.le_refl _⟩ (fun b u2 H locs hp hH => ?_)
                    obtain ⟨hb, hf2, hT2⟩ := hp
                    have hf2 := hf.tr hf2
                    have K2 : ∀ (y : Int32), W p l e ss_r1 s m args below meth c H locs 0 0 (MQ below (va_Qi (fun (r : Int32) (u1 : XS) => x_fr [7, 8, 9, 10] u u1 ∧ ∃ T, xU n cs wt u1 T ∧ (r = -1 ∨ ∃ k, k < n ∧ r = nI k ∧ (wt k = 0 ∨ 0 < u 11 k) ∧ ss_cf cs (u 3) (u1 7) (u1 10) T k)) (gB D (xT ka) (xW ad ka) A) A) args s 0 0 A) (F0 m 119 ls [.int y]) := by
                      intro y
                      refine lv_istore_n (lv' := [(1, .int (y)), (4, .int (z)), (0, .ref (ad 0)), (2, .int (nI r)), (3, .int (nI j))]) S.1 S.2.1 dX0_unitSteps_119 rfl hl (by decide) rfl (fun ls hl => ?_)
                      refine lv_inc (k := 4) (j := j) (lv' := [(3, .int (nI (j + 1))), (1, .int (y)), (4, .int (z)), (0, .ref (ad 0)), (2, .int (nI r))]) S dX0_unitSteps_120 hl rfl (by decide) rfl (fun ls hl => ?_)
                      refine lv_goto (tgt := 56) S.1 S.2.1 dX0_unitSteps_123 (by decide) ?_
                      exact ih2 (j + 1) y u2 H locs ls (by omega) hf2 hT2 hH (lv_sub hl [3, 1, 4, 0] rfl)
                    refine lv_if_ne (tgt := 114) S.1 S.2.1 dX0_unitSteps_107 (by decide) (fun c5 => ?_) (fun c5 => ?_)
                    · refine lv_iconst (v := 1) S.1 S.2.1 dX0_unitSteps_114 (by decide) ?_
                      refine lv_goto (tgt := 119) S.1 S.2.1 dX0_unitSteps_115 (by decide) ?_
                      exact K2 1
                    · refine lv_iload_n S.1 S.2.1 dX0_unitSteps_110 rfl (lv_at hl 2 rfl) ?_
                      refine lv_if_eq (tgt := 118) S.1 S.2.1 dX0_unitSteps_111 (by decide) (fun c6 => ?_) (fun c6 => ?_)
                      · refine lv_iconst (v := 0) S.1 S.2.1 dX0_unitSteps_118 (by decide) ?_
                        exact K2 0
                      · refine lv_iconst (v := 1) S.1 S.2.1 dX0_unitSteps_114 (by decide) ?_
                        refine lv_goto (tgt := 119) S.1 S.2.1 dX0_unitSteps_115 (by decide) ?_
                        exact K2 1
                  · refine lv_iload_n S.1 S.2.1 dX0_unitSteps_98 rfl (lv_at hl 4 rfl) ?_
                    have hcf := ss_tr_cf hT.2 (hu1.2.2.2 j hj2).1 (hz.symm.trans c4)
                    rw [hf 3 (by decide)] at hcf
                    rw [hf 11 (by decide)] at ha
                    exact gMu.iret S hr hlk hH ⟨hf, T, hT, Or.inr ⟨j, hj2, rfl, ha, hcf⟩⟩ dX0_unitSteps_99
                refine lv_aload_n S.1 S.2.1 dX0_unitSteps_64 rfl (lv_at hl 0 rfl) ?_
                refine xg2 S hH dX0_unitSteps_65 ?_
                refine lv_iload_n S.1 S.2.1 dX0_unitSteps_68 rfl (lv_at hl 3 rfl) ?_
                refine xl2 S hH (j) (by omega) dX0_unitSteps_69 ?_
                refine lv_as (nI (wt j)) (hu1.2.1 j hj2).2 ?_
                refine lv_if_eq (tgt := 82) S.1 S.2.1 dX0_unitSteps_70 (by decide) (fun c4 => ?_) (fun c4 => ?_)
                · exact K (Or.inl ((nI_eq (a := wt j) (b := 0) (by omega) (by omega)).mp c4))
                · refine lv_aload_n S.1 S.2.1 dX0_unitSteps_73 rfl (lv_at hl 0 rfl) ?_
                  refine xg11 S hH dX0_unitSteps_74 ?_
                  refine lv_iload_n S.1 S.2.1 dX0_unitSteps_77 rfl (lv_at hl 3 rfl) ?_
                  refine xl11 S hH (j) (by omega) dX0_unitSteps_78 ?_
                  refine lv_if_le (tgt := 120) S.1 S.2.1 dX0_unitSteps_79 (by decide) (fun c5 => ?_) (fun c5 => ?_)
                  · refine lv_inc (k := 3) (j := j) (lv' := [(3, .int (nI (j + 1))), (0, .ref (ad 0)), (1, .int x), (2, .int (nI r))]) S dX0_unitSteps_120 hl rfl (by decide) rfl (fun ls hl => ?_)
                    refine lv_goto (tgt := 56) S.1 S.2.1 dX0_unitSteps_123 (by decide) ?_
                    exact ih2 (j + 1) x u1 H locs ls (by omega) hf ⟨T, hT⟩ hH (lv_sub hl [1, 2, 3, 0] rfl)
                  · exact K (Or.inr (fa_of_nle c5))
          refine lv_iconst (v := 0) S.1 S.2.1 dX0_unitSteps_52 (by decide) ?_
          refine lv_istore_n (lv' := [(1, .int (0)), (0, .ref (ad 0)), (2, .int (nI r))]) S.1 S.2.1 dX0_unitSteps_53 rfl hl (by decide) rfl (fun ls hl => ?_)
          refine lv_iconst (v := nI 0) S.1 S.2.1 dX0_unitSteps_54 (by decide) ?_
          refine lv_istore_n (lv' := [(3, .int (nI 0)), (1, .int (0)), (0, .ref (ad 0)), (2, .int (nI r))]) S.1 S.2.1 dX0_unitSteps_55 rfl hl (by decide) rfl (fun ls hl => ?_)
          exact inner n 0 0 u1 H locs ls (by omega) hf hT hH (lv_sub hl [2, 1, 3, 0] rfl)
  have first : ∀ (q j : Nat) (u1 : XS) (H : Heap) (locs : List Loc) (ls : Array Slot), j + q = 8 → x_fr [7, 8, 9, 10] u u1 → (∀ i, i < j → u1 7 i = u 3 i) → gH D (xT ka) (xW ad ka u1) A s H locs → lv_has ls 5 [(0, .ref (ad 0)), (1, .int (nI j))] → W p l e ss_r1 s m args below meth c H locs 0 0 (MQ below (va_Qi (fun (r : Int32) (u1 : XS) => x_fr [7, 8, 9, 10] u u1 ∧ ∃ T, xU n cs wt u1 T ∧ (r = -1 ∨ ∃ k, k < n ∧ r = nI k ∧ (wt k = 0 ∨ 0 < u 11 k) ∧ ss_cf cs (u 3) (u1 7) (u1 10) T k)) (gB D (xT ka) (xW ad ka) A) A) args s 0 0 A) (F0 m 2 ls []) := by
    intro q
    induction q with
    | zero =>
      intro j u1 H locs ls hj hf hg hH hl
      refine lv_iload_n S.1 S.2.1 dX0_unitSteps_2 rfl (lv_at hl 1 rfl) ?_
      refine lv_bipush (v := nI 8) S.1 S.2.1 dX0_unitSteps_3 (by decide) ?_
      refine lv_icmp_ge (tgt := 33) S.1 S.2.1 dX0_unitSteps_5 (by decide) (fun c1 => ?_) (fun c1 => ?_)
      · refine lv_aload_n S.1 S.2.1 dX0_unitSteps_33 rfl (lv_at hl 0 rfl) ?_
        refine lv_iconst (v := 0) S.1 S.2.1 dX0_unitSteps_34 (by decide) ?_
        refine xp9 S hH dX0_unitSteps_35 (fun H locs hH => ?_)
        refine lv_iconst (v := 1) S.1 S.2.1 dX0_unitSteps_38 (by decide) ?_
        refine lv_istore_n (lv' := [(1, .int (1)), (0, .ref (ad 0))]) S.1 S.2.1 dX0_unitSteps_39 rfl hl (by decide) rfl (fun ls hl => ?_)
        refine lv_iconst (v := nI 0) S.1 S.2.1 dX0_unitSteps_40 (by decide) ?_
        refine lv_istore_n (lv' := [(2, .int (nI 0)), (1, .int (1)), (0, .ref (ad 0))]) S.1 S.2.1 dX0_unitSteps_41 rfl hl (by decide) rfl (fun ls hl => ?_)
        refine outer 9 0 1 _ H locs ls rfl (hf.up (by decide)) ⟨0, rfl, ?_⟩ hH (lv_sub hl [2, 1, 0] rfl)
        exact ss_tr_0 (by show ss_v3 (u1 3); rw [hf 3 (by decide)]; exact h3) (fun v hv => (hg v (by omega)).trans (congrFun (hf 3 (by decide)) v).symm)
      · exact absurd (nI_le (by omega) (by omega)) c1
    | succ q ih =>
      intro j u1 H locs ls hj hf hg hH hl
      refine lv_iload_n S.1 S.2.1 dX0_unitSteps_2 rfl (lv_at hl 1 rfl) ?_
      refine lv_bipush (v := nI 8) S.1 S.2.1 dX0_unitSteps_3 (by decide) ?_
      refine lv_icmp_ge (tgt := 33) S.1 S.2.1 dX0_unitSteps_5 (by decide) (fun c1 => ?_) (fun c1 => ?_)
      · exact absurd ((nI_leI (by omega) (by omega)).mp c1) (by omega)
      · refine lv_aload_n S.1 S.2.1 dX0_unitSteps_8 rfl (lv_at hl 0 rfl) ?_
        refine xg7 S hH dX0_unitSteps_9 ?_
        refine lv_iload_n S.1 S.2.1 dX0_unitSteps_12 rfl (lv_at hl 1 rfl) ?_
        refine lv_aload_n S.1 S.2.1 dX0_unitSteps_13 rfl (lv_at hl 0 rfl) ?_
        refine xg3 S hH dX0_unitSteps_14 ?_
        refine lv_iload_n S.1 S.2.1 dX0_unitSteps_17 rfl (lv_at hl 1 rfl) ?_
        refine xl3 S hH (j) (by omega) dX0_unitSteps_18 ?_
        refine xs7 S hH (j) (by omega) dX0_unitSteps_19 (fun H locs hH => ?_)
        refine lv_aload_n S.1 S.2.1 dX0_unitSteps_20 rfl (lv_at hl 0 rfl) ?_
        refine xg8 S hH dX0_unitSteps_21 ?_
        refine lv_iload_n S.1 S.2.1 dX0_unitSteps_24 rfl (lv_at hl 1 rfl) ?_
        refine lv_iconst (v := (-1)) S.1 S.2.1 dX0_unitSteps_25 (by decide) ?_
        refine xs8 S hH (j) (by omega) dX0_unitSteps_26 (fun H locs hH => ?_)
        refine lv_inc (k := 1) (j := j) (lv' := [(1, .int (nI (j + 1))), (0, .ref (ad 0))]) S dX0_unitSteps_27 hl rfl (by decide) rfl (fun ls hl => ?_)
        refine lv_goto (tgt := 2) S.1 S.2.1 dX0_unitSteps_30 (by decide) ?_
        refine ih (j + 1) _ H locs ls (by omega) ((hf.up (by decide)).up (by decide)) (fun i hi => ?_) hH (lv_sub hl [1, 0] rfl)
        show upd (u1 7) j (u1 3 j) i = u 3 i
        by_cases q : i = j
        · subst q; rw [upd_s, hf 3 (by decide)]
        · rw [upd_n _ _ q]; exact hg i (by omega)
  refine lv_iconst (v := nI 0) S.1 S.2.1 dX0_unitSteps_0 (by decide) ?_
  refine lv_istore_n (lv' := [(1, .int (nI 0)), (0, .ref (ad 0))]) S.1 S.2.1 dX0_unitSteps_1 rfl hl (by decide) rfl (fun ls hl => ?_)
  exact first 8 0 u _ _ ls rfl x_fr.rf (fun i h => absurd h (Nat.not_lt_zero _)) hH (lv_sub hl [1, 0] rfl)
end
section
set_option maxRecDepth 100000
/-! SoftSolver: book -/
set_option maxHeartbeats 8000000 in
theorem x_book (l : Launch) (D : va_G) (ad : Nat → Nat) (ka : Nat → ClassId) (u : XS) (n : Nat) (cs wt : Nat → Nat) (hu : x_ok n cs wt u) (T k0 : Nat) (hT : xU n cs wt u T) (hk : k0 < n) (ha0 : wt k0 = 0 ∨ 0 < u 11 k0) (hcf : ss_cf cs (u 3) (u 7) (u 10) T k0) (ubn : Nat → Nat) (hub : ∀ k, k < n → u 11 k = nI (ubn k) ∧ ubn k ≤ 50) : gMu l yX0_book cX0_book 6 (some .int) ss_r1 D (xT ka) (xW ad ka) u [.ref (ad 0), .int (nI k0)] (fun (r : Int32) (u1 : XS) => x_fr [11, 12] u u1 ∧ ∃ (β : Nat) (inv : Nat → Int32), r = nI β ∧ ss_le wt ubn inv n β ∧ (∀ a, ss_ext (u 3) a → ∃ k, k < n ∧ inv k ≠ 0 ∧ ss_sat (cs k) a 16 = false) ∧ ∀ k, k < n → u1 11 k = nI (ss_ub wt ubn inv β k)) := by
  refine gMu.ofW RX0 rfl (by decide) (Nat.le_of_ble_eq_true rfl) ?_
  intro p e s m args below meth c A S hr hlk hH ls hl
  have hl : lv_has ls 6 [(0, .ref (ad 0)), (1, .int (nI k0))] := hl
  have hn := hu.2.2.1
  have hT8 := hT.le
  have last : ∀ (β : Nat) (inv : Nat → Int32), ss_le wt ubn inv n β → (∀ a, ss_ext (u 3) a → ∃ k, k < n ∧ inv k ≠ 0 ∧ ss_sat (cs k) a 16 = false) → ∀ (q j : Nat) (u1 : XS) (H : Heap) (locs : List Loc) (ls : Array Slot), j + q = n → x_fr [11, 12] u u1 → u1 12 = inv → (∀ k, k < j → u1 11 k = nI (ss_ub wt ubn inv β k)) → (∀ k, j ≤ k → k < n → u1 11 k = nI (ubn k)) → gH D (xT ka) (xW ad ka u1) A s H locs → lv_has ls 6 [(0, .ref (ad 0)), (3, .int (nI β)), (4, .int (nI j))] → W p l e ss_r1 s m args below meth c H locs 0 0 (MQ below (va_Qi (fun (r : Int32) (u1 : XS) => x_fr [11, 12] u u1 ∧ ∃ (β : Nat) (inv : Nat → Int32), r = nI β ∧ ss_le wt ubn inv n β ∧ (∀ a, ss_ext (u 3) a → ∃ k, k < n ∧ inv k ≠ 0 ∧ ss_sat (cs k) a 16 = false) ∧ ∀ k, k < n → u1 11 k = nI (ss_ub wt ubn inv β k)) (gB D (xT ka) (xW ad ka) A) A) args s 0 0 A) (F0 m 181 ls []) := by
    intro β inv hle hex q
    induction q with
    | zero =>
      intro j u1 H locs ls hj hf hi hd1 hd2 hH hl
      have hu1 := hu.mv (hf 0 (by decide)) (hf 1 (by decide)) (hf 2 (by decide))
      refine lv_iload S.1 S.2.1 dX0_book_181 (lv_at hl 2 rfl) ?_
      refine lv_aload_n S.1 S.2.1 dX0_book_183 rfl (lv_at hl 0 rfl) ?_
      refine xg0 S hH dX0_book_184 ?_
      refine lv_as (nI n) hu1.1 ?_
      refine lv_icmp_ge (tgt := 231) S.1 S.2.1 dX0_book_187 (by decide) (fun c1 => ?_) (fun c1 => ?_)
      · refine lv_iload_n S.1 S.2.1 dX0_book_231 rfl (lv_at hl 1 rfl) ?_
        exact gMu.iret S hr hlk hH ⟨hf, β, inv, rfl, hle, hex, fun k hk => hd1 k (by omega)⟩ dX0_book_232
      · exact absurd (nI_le (by omega) (by omega)) c1
    | succ q ih =>
      intro j u1 H locs ls hj hf hi hd1 hd2 hH hl
      have hu1 := hu.mv (hf 0 (by decide)) (hf 1 (by decide)) (hf 2 (by decide))
      refine lv_iload S.1 S.2.1 dX0_book_181 (lv_at hl 2 rfl) ?_
      refine lv_aload_n S.1 S.2.1 dX0_book_183 rfl (lv_at hl 0 rfl) ?_
      refine xg0 S hH dX0_book_184 ?_
      refine lv_as (nI n) hu1.1 ?_
      refine lv_icmp_ge (tgt := 231) S.1 S.2.1 dX0_book_187 (by decide) (fun c1 => ?_) (fun c1 => ?_)
      · exact absurd ((nI_leI (by omega) (by omega)).mp c1) (by omega)
      · have hjn : j < n := by omega
        have hwj := (hu1.2.2.2 j hjn).2
        have hb50 := hle.2.2
        have hubj := (hub j hjn).2
        have K : ∀ (y : Int32), y = nI (if inv j ≠ 0 ∧ 0 < wt j then β else 0) → W p l e ss_r1 s m args below meth c H locs 0 0 (MQ below (va_Qi (fun (r : Int32) (u1 : XS) => x_fr [11, 12] u u1 ∧ ∃ (β : Nat) (inv : Nat → Int32), r = nI β ∧ ss_le wt ubn inv n β ∧ (∀ a, ss_ext (u 3) a → ∃ k, k < n ∧ inv k ≠ 0 ∧ ss_sat (cs k) a 16 = false) ∧ ∀ k, k < n → u1 11 k = nI (ss_ub wt ubn inv β k)) (gB D (xT ka) (xW ad ka) A) A) args s 0 0 A) (F0 m 223 ls [.int y, .int (nI (ubn j)), .int (nI j), .ref (ad 11)]) := by
          intro y hy
          refine lv_isub S.1 S.2.1 dX0_book_223 ?_
          refine lv_as (nI (ss_ub wt ubn inv β j)) ?_ ?_
          · rw [hy, ss_ub]
            by_cases h : inv j ≠ 0 ∧ 0 < wt j
            · rw [if_pos h, if_pos h]
              exact pk_sub (hle.2.1 j hjn h.1 h.2)
            · rw [if_neg h, if_neg h]
              exact pk_sub (Nat.zero_le _)
          refine xs11 S hH (j) (by omega) dX0_book_224 (fun H locs hH => ?_)
          refine lv_inc (k := 2) (j := j) (lv' := [(4, .int (nI (j + 1))), (0, .ref (ad 0)), (3, .int (nI β))]) S dX0_book_225 hl rfl (by decide) rfl (fun ls hl => ?_)
          refine lv_goto (tgt := 181) S.1 S.2.1 dX0_book_228 (by decide) ?_
          refine ih (j + 1) (xup u1 11 (upd (u1 11) j (nI (ss_ub wt ubn inv β j)))) H locs ls (by omega) (hf.up (by decide)) hi (fun k hk => ?_) (fun k hk1 hk2 => ?_) hH (lv_sub hl [1, 2, 0] rfl)
          · show upd (u1 11) j _ k = _
            by_cases q : k = j
            · subst q; rw [upd_s]
            · rw [upd_n _ _ q]; exact hd1 k (by omega)
          · show upd (u1 11) j _ k = _
            rw [upd_n _ _ (show k ≠ j by omega)]; exact hd2 k (by omega) hk2
        refine lv_aload_n S.1 S.2.1 dX0_book_190 rfl (lv_at hl 0 rfl) ?_
        refine xg11 S hH dX0_book_191 ?_
        refine lv_iload S.1 S.2.1 dX0_book_194 (lv_at hl 2 rfl) ?_
        refine lv_dup2_11 S.1 S.2.1 dX0_book_196 rfl rfl ?_
        refine xl11 S hH (j) (by omega) dX0_book_197 ?_
        refine lv_as (nI (ubn j)) (hd2 j (Nat.le_refl _) hjn) ?_
        refine lv_aload_n S.1 S.2.1 dX0_book_198 rfl (lv_at hl 0 rfl) ?_
        refine xg12 S hH dX0_book_199 ?_
        refine lv_iload S.1 S.2.1 dX0_book_202 (lv_at hl 2 rfl) ?_
        refine xl12 S hH (j) (by omega) dX0_book_204 ?_
        rw [hi]
        refine lv_if_eq (tgt := 222) S.1 S.2.1 dX0_book_205 (by decide) (fun c2 => ?_) (fun c2 => ?_)
        · refine lv_iconst (v := 0) S.1 S.2.1 dX0_book_222 (by decide) ?_
          exact K 0 (by rw [if_neg (fun z => z.1 c2)]; rfl)
        · refine lv_aload_n S.1 S.2.1 dX0_book_208 rfl (lv_at hl 0 rfl) ?_
          refine xg2 S hH dX0_book_209 ?_
          refine lv_iload S.1 S.2.1 dX0_book_212 (lv_at hl 2 rfl) ?_
          refine xl2 S hH (j) (by omega) dX0_book_214 ?_
          refine lv_as (nI (wt j)) (hu1.2.1 j hjn).2 ?_
          refine lv_if_le (tgt := 222) S.1 S.2.1 dX0_book_215 (by decide) (fun c3 => ?_) (fun c3 => ?_)
          · refine lv_iconst (v := 0) S.1 S.2.1 dX0_book_222 (by decide) ?_
            have h0 : wt j ≤ 0 := (nI_leI (b := 0) (by omega) (by omega)).mp c3
            exact K 0 (by rw [if_neg (fun z => absurd z.2 (by omega))]; rfl)
          · refine lv_iload_n S.1 S.2.1 dX0_book_218 rfl (lv_at hl 1 rfl) ?_
            refine lv_goto (tgt := 223) S.1 S.2.1 dX0_book_219 (by decide) ?_
            have h0 : ¬ wt j ≤ 0 := fun z => c3 (nI_le (b := 0) z (by decide))
            exact K _ (by rw [if_pos ⟨c2, by omega⟩])
  have least : ∀ (u1 : XS) (H : Heap) (locs : List Loc), x_fr [12] u u1 → (∀ k, k < n → u1 12 k ≠ 0 → wt k = 0 ∨ 0 < u 11 k) → (∀ a, ss_ext (u 3) a → ∃ k, k < n ∧ u1 12 k ≠ 0 ∧ ss_sat (cs k) a 16 = false) → gH D (xT ka) (xW ad ka u1) A s H locs → ∀ (q j β : Nat) (ls : Array Slot), j + q = n → ss_le wt ubn (u1 12) j β → lv_has ls 6 [(0, .ref (ad 0)), (3, .int (nI β)), (4, .int (nI j))] → W p l e ss_r1 s m args below meth c H locs 0 0 (MQ below (va_Qi (fun (r : Int32) (u1 : XS) => x_fr [11, 12] u u1 ∧ ∃ (β : Nat) (inv : Nat → Int32), r = nI β ∧ ss_le wt ubn inv n β ∧ (∀ a, ss_ext (u 3) a → ∃ k, k < n ∧ inv k ≠ 0 ∧ ss_sat (cs k) a 16 = false) ∧ ∀ k, k < n → u1 11 k = nI (ss_ub wt ubn inv β k)) (gB D (xT ka) (xW ad ka) A) A) args s 0 0 A) (F0 m 104 ls []) := by
    intro u1 H locs hf hact hex hH q
    have hu1 := hu.mv (hf 0 (by decide)) (hf 1 (by decide)) (hf 2 (by decide))
    have h11 : u1 11 = u 11 := hf 11 (by decide)
    induction q with
    | zero =>
      intro j β ls hj hle hl
      refine lv_iload S.1 S.2.1 dX0_book_104 (lv_at hl 2 rfl) ?_
      refine lv_aload_n S.1 S.2.1 dX0_book_106 rfl (lv_at hl 0 rfl) ?_
      refine xg0 S hH dX0_book_107 ?_
      refine lv_as (nI n) hu1.1 ?_
      refine lv_icmp_ge (tgt := 178) S.1 S.2.1 dX0_book_110 (by decide) (fun c1 => ?_) (fun c1 => ?_)
      · refine lv_iconst (v := nI 0) S.1 S.2.1 dX0_book_178 (by decide) ?_
        refine lv_istore (lv' := [(4, .int (nI 0)), (0, .ref (ad 0)), (3, .int (nI β))]) S.1 S.2.1 dX0_book_179 hl (by decide) rfl (fun ls hl => ?_)
        have ejn : j = n := by omega
        subst ejn
        exact last β (u1 12) hle hex j 0 u1 H locs ls (by omega) (hf.wd (by decide)) rfl (fun k h => absurd h (Nat.not_lt_zero _)) (fun k _ hk => by rw [h11]; exact (hub k hk).1) hH (lv_sub hl [1, 2, 0] rfl)
      · exact absurd (nI_le (by omega) (by omega)) c1
    | succ q ih =>
      intro j β ls hj hle hl
      refine lv_iload S.1 S.2.1 dX0_book_104 (lv_at hl 2 rfl) ?_
      refine lv_aload_n S.1 S.2.1 dX0_book_106 rfl (lv_at hl 0 rfl) ?_
      refine xg0 S hH dX0_book_107 ?_
      refine lv_as (nI n) hu1.1 ?_
      refine lv_icmp_ge (tgt := 178) S.1 S.2.1 dX0_book_110 (by decide) (fun c1 => ?_) (fun c1 => ?_)
      · exact absurd ((nI_leI (by omega) (by omega)).mp c1) (by omega)
      · have hjn : j < n := by omega
        have hwj := (hu1.2.2.2 j hjn).2
        have hb50 := hle.2.2
        have hubj := hub j hjn
        have hubj2 := hubj.2
        have K2 : ∀ (γ : Nat) (ls : Array Slot), ss_le wt ubn (u1 12) (j + 1) γ → lv_has ls 6 [(0, .ref (ad 0)), (3, .int (nI β)), (4, .int (nI j))] → W p l e ss_r1 s m args below meth c H locs 0 0 (MQ below (va_Qi (fun (r : Int32) (u1 : XS) => x_fr [11, 12] u u1 ∧ ∃ (β : Nat) (inv : Nat → Int32), r = nI β ∧ ss_le wt ubn inv n β ∧ (∀ a, ss_ext (u 3) a → ∃ k, k < n ∧ inv k ≠ 0 ∧ ss_sat (cs k) a 16 = false) ∧ ∀ k, k < n → u1 11 k = nI (ss_ub wt ubn inv β k)) (gB D (xT ka) (xW ad ka) A) A) args s 0 0 A) (F0 m 171 ls [.int (nI γ)]) := by
          intro γ ls hle2 hl
          refine lv_istore_n (lv' := [(3, .int (nI γ)), (0, .ref (ad 0)), (4, .int (nI j))]) S.1 S.2.1 dX0_book_171 rfl hl (by decide) rfl (fun ls hl => ?_)
          refine lv_inc (k := 2) (j := j) (lv' := [(4, .int (nI (j + 1))), (3, .int (nI γ)), (0, .ref (ad 0))]) S dX0_book_172 hl rfl (by decide) rfl (fun ls hl => ?_)
          refine lv_goto (tgt := 104) S.1 S.2.1 dX0_book_175 (by decide) ?_
          exact ih (j + 1) γ ls (by omega) hle2 (lv_sub hl [2, 1, 0] rfl)
        have K1 : (u1 12 j ≠ 0 → wt j = 0) → W p l e ss_r1 s m args below meth c H locs 0 0 (MQ below (va_Qi (fun (r : Int32) (u1 : XS) => x_fr [11, 12] u u1 ∧ ∃ (β : Nat) (inv : Nat → Int32), r = nI β ∧ ss_le wt ubn inv n β ∧ (∀ a, ss_ext (u 3) a → ∃ k, k < n ∧ inv k ≠ 0 ∧ ss_sat (cs k) a 16 = false) ∧ ∀ k, k < n → u1 11 k = nI (ss_ub wt ubn inv β k)) (gB D (xT ka) (xW ad ka) A) A) args s 0 0 A) (F0 m 138 ls [.int 0]) := by
          intro hc
          refine lv_istore (lv' := [(5, .int (0)), (0, .ref (ad 0)), (3, .int (nI β)), (4, .int (nI j))]) S.1 S.2.1 dX0_book_138 hl (by decide) rfl (fun ls hl => ?_)
          refine lv_iload S.1 S.2.1 dX0_book_140 (lv_at hl 0 rfl) ?_
          refine lv_if_eq (tgt := 170) S.1 S.2.1 dX0_book_142 (by decide) (fun c2 => ?_) (fun c2 => ?_)
          · refine lv_iload_n S.1 S.2.1 dX0_book_170 rfl (lv_at hl 2 rfl) ?_
            exact K2 β ls (ss_le_keep hle (Or.inl hc)) (lv_sub hl [1, 2, 3] rfl)
          · exact absurd rfl c2
        have K0 : u1 12 j ≠ 0 → 0 < wt j → W p l e ss_r1 s m args below meth c H locs 0 0 (MQ below (va_Qi (fun (r : Int32) (u1 : XS) => x_fr [11, 12] u u1 ∧ ∃ (β : Nat) (inv : Nat → Int32), r = nI β ∧ ss_le wt ubn inv n β ∧ (∀ a, ss_ext (u 3) a → ∃ k, k < n ∧ inv k ≠ 0 ∧ ss_sat (cs k) a 16 = false) ∧ ∀ k, k < n → u1 11 k = nI (ss_ub wt ubn inv β k)) (gB D (xT ka) (xW ad ka) A) A) args s 0 0 A) (F0 m 138 ls [.int 1]) := by
          intro hc1 hc2
          have hpos : 0 < ubn j := by
            rcases hact j hjn hc1 with q | q
            · omega
            · rw [hubj.1] at q
              exact (nI_ltI (a := 0) (by omega) (by omega)).mp q
          refine lv_istore (lv' := [(5, .int (1)), (0, .ref (ad 0)), (3, .int (nI β)), (4, .int (nI j))]) S.1 S.2.1 dX0_book_138 hl (by decide) rfl (fun ls hl => ?_)
          refine lv_iload S.1 S.2.1 dX0_book_140 (lv_at hl 0 rfl) ?_
          refine lv_if_eq (tgt := 170) S.1 S.2.1 dX0_book_142 (by decide) (fun c2 => ?_) (fun c2 => ?_)
          · exact absurd c2 (by decide)
          · refine lv_iload_n S.1 S.2.1 dX0_book_145 rfl (lv_at hl 2 rfl) ?_
            refine lv_if_eq (tgt := 160) S.1 S.2.1 dX0_book_146 (by decide) (fun c3 => ?_) (fun c3 => ?_)
            · refine lv_aload_n S.1 S.2.1 dX0_book_160 rfl (lv_at hl 1 rfl) ?_
              refine xg11 S hH dX0_book_161 ?_
              refine lv_iload S.1 S.2.1 dX0_book_164 (lv_at hl 3 rfl) ?_
              refine xl11 S hH (j) (by omega) dX0_book_166 ?_
              refine lv_as (nI (ubn j)) (by rw [h11]; exact hubj.1) ?_
              refine lv_goto (tgt := 171) S.1 S.2.1 dX0_book_167 (by decide) ?_
              exact K2 (ubn j) ls (ss_le_new hle hpos hubj2 (Or.inl ((nI_eq (b := 0) (by omega) (by omega)).mp c3))) (lv_sub hl [1, 2, 3] rfl)
            · refine lv_aload_n S.1 S.2.1 dX0_book_149 rfl (lv_at hl 1 rfl) ?_
              refine xg11 S hH dX0_book_150 ?_
              refine lv_iload S.1 S.2.1 dX0_book_153 (lv_at hl 3 rfl) ?_
              refine xl11 S hH (j) (by omega) dX0_book_155 ?_
              refine lv_as (nI (ubn j)) (by rw [h11]; exact hubj.1) ?_
              refine lv_iload_n S.1 S.2.1 dX0_book_156 rfl (lv_at hl 2 rfl) ?_
              refine lv_icmp_ge (tgt := 170) S.1 S.2.1 dX0_book_157 (by decide) (fun c4 => ?_) (fun c4 => ?_)
              · refine lv_iload_n S.1 S.2.1 dX0_book_170 rfl (lv_at hl 2 rfl) ?_
                exact K2 β ls (ss_le_keep hle (Or.inr ⟨fun z => c3 (by rw [z]; rfl), (nI_leI (by omega) (by omega)).mp c4⟩)) (lv_sub hl [1, 2, 3] rfl)
              · refine lv_aload_n S.1 S.2.1 dX0_book_160 rfl (lv_at hl 1 rfl) ?_
                refine xg11 S hH dX0_book_161 ?_
                refine lv_iload S.1 S.2.1 dX0_book_164 (lv_at hl 3 rfl) ?_
                refine xl11 S hH (j) (by omega) dX0_book_166 ?_
                refine lv_as (nI (ubn j)) (by rw [h11]; exact hubj.1) ?_
                refine lv_goto (tgt := 171) S.1 S.2.1 dX0_book_167 (by decide) ?_
                exact K2 (ubn j) ls (ss_le_new hle hpos hubj2 (Or.inr ((nI_ltI (by omega) (by omega)).mp (fa_of_nle c4)))) (lv_sub hl [1, 2, 3] rfl)
        refine lv_aload_n S.1 S.2.1 dX0_book_113 rfl (lv_at hl 0 rfl) ?_
        refine xg12 S hH dX0_book_114 ?_
        refine lv_iload S.1 S.2.1 dX0_book_117 (lv_at hl 2 rfl) ?_
        refine xl12 S hH (j) (by omega) dX0_book_119 ?_
        refine lv_if_eq (tgt := 137) S.1 S.2.1 dX0_book_120 (by decide) (fun c2 => ?_) (fun c2 => ?_)
        · refine lv_iconst (v := 0) S.1 S.2.1 dX0_book_137 (by decide) ?_
          exact K1 (fun z => absurd c2 z)
        · refine lv_aload_n S.1 S.2.1 dX0_book_123 rfl (lv_at hl 0 rfl) ?_
          refine xg2 S hH dX0_book_124 ?_
          refine lv_iload S.1 S.2.1 dX0_book_127 (lv_at hl 2 rfl) ?_
          refine xl2 S hH (j) (by omega) dX0_book_129 ?_
          refine lv_as (nI (wt j)) (hu1.2.1 j hjn).2 ?_
          refine lv_if_le (tgt := 137) S.1 S.2.1 dX0_book_130 (by decide) (fun c3 => ?_) (fun c3 => ?_)
          · refine lv_iconst (v := 0) S.1 S.2.1 dX0_book_137 (by decide) ?_
            have h0 : wt j ≤ 0 := (nI_leI (b := 0) (by omega) (by omega)).mp c3
            exact K1 (fun _ => by omega)
          · refine lv_iconst (v := 1) S.1 S.2.1 dX0_book_133 (by decide) ?_
            refine lv_goto (tgt := 138) S.1 S.2.1 dX0_book_134 (by decide) ?_
            have h0 : ¬ wt j ≤ 0 := fun z => c3 (nI_le (b := 0) z (by decide))
            exact K0 c2 (by omega)
  have back : ∀ (t : Nat) (nd : Int32) (u1 : XS) (H : Heap) (locs : List Loc) (ls : Array Slot), t ≤ T → x_fr [12] u u1 → (∀ k, k < n → u1 12 k ≠ 0 → wt k = 0 ∨ 0 < u 11 k) → ss_rf n cs (u 3) (u 7) (u 10) (u1 12) nd t → gH D (xT ka) (xW ad ka u1) A s H locs → lv_has ls 6 [(0, .ref (ad 0)), (2, .int nd), (3, .int (nI t + (-1)))] → W p l e ss_r1 s m args below meth c H locs 0 0 (MQ below (va_Qi (fun (r : Int32) (u1 : XS) => x_fr [11, 12] u u1 ∧ ∃ (β : Nat) (inv : Nat → Int32), r = nI β ∧ ss_le wt ubn inv n β ∧ (∀ a, ss_ext (u 3) a → ∃ k, k < n ∧ inv k ≠ 0 ∧ ss_sat (cs k) a 16 = false) ∧ ∀ k, k < n → u1 11 k = nI (ss_ub wt ubn inv β k)) (gB D (xT ka) (xW ad ka) A) A) args s 0 0 A) (F0 m 45 ls []) := by
    intro t
    induction t with
    | zero =>
      intro nd u1 H locs ls ht hf hact hrf hH hl
      refine lv_iload_n S.1 S.2.1 dX0_book_45 rfl (lv_at hl 2 rfl) ?_
      refine lv_if_lt (tgt := 99) S.1 S.2.1 dX0_book_46 (by decide) (fun c1 => ?_) (fun c1 => ?_)
      · refine lv_iconst (v := nI 0) S.1 S.2.1 dX0_book_99 (by decide) ?_
        refine lv_istore_n (lv' := [(3, .int (nI 0)), (0, .ref (ad 0)), (2, .int nd)]) S.1 S.2.1 dX0_book_100 rfl hl (by decide) rfl (fun ls hl => ?_)
        refine lv_iconst (v := nI 0) S.1 S.2.1 dX0_book_101 (by decide) ?_
        refine lv_istore (lv' := [(4, .int (nI 0)), (3, .int (nI 0)), (0, .ref (ad 0)), (2, .int nd)]) S.1 S.2.1 dX0_book_102 hl (by decide) rfl (fun ls hl => ?_)
        exact least u1 H locs hf hact (fun a he => ss_rf_end hrf he) hH n 0 0 ls (by omega) (ss_le_0 _ _ _) (lv_sub hl [2, 1, 0] rfl)
      · exact absurd (by decide) c1
    | succ t ih =>
      intro nd u1 H locs ls ht hf hact hrf hH hl
      rw [pk_m1] at hl
      have hu1 := hu.mv (hf 0 (by decide)) (hf 1 (by decide)) (hf 2 (by decide))
      obtain ⟨v, k, hen⟩ := hT.2.2.2.1 t (by omega)
      have hen' := hen
      obtain ⟨hv, hk2, e3, e4, e5, e6, -⟩ := hen'
      refine lv_iload_n S.1 S.2.1 dX0_book_45 rfl (lv_at hl 2 rfl) ?_
      refine lv_if_lt (tgt := 99) S.1 S.2.1 dX0_book_46 (by decide) (fun c1 => ?_) (fun c1 => ?_)
      · exact absurd c1 (nI_pos (by omega))
      · refine lv_aload_n S.1 S.2.1 dX0_book_49 rfl (lv_at hl 0 rfl) ?_
        refine xg10 S hH dX0_book_50 ?_
        refine lv_iload_n S.1 S.2.1 dX0_book_53 rfl (lv_at hl 2 rfl) ?_
        refine xl10 S hH (t) (by omega) dX0_book_54 ?_
        refine lv_as (nI v) (by rw [hf 10 (by decide)]; exact e3) ?_
        refine lv_istore (lv' := [(4, .int (nI v)), (0, .ref (ad 0)), (2, .int nd), (3, .int (nI t))]) S.1 S.2.1 dX0_book_55 hl (by decide) rfl (fun ls hl => ?_)
        refine lv_iload_n S.1 S.2.1 dX0_book_57 rfl (lv_at hl 2 rfl) ?_
        refine lv_iload S.1 S.2.1 dX0_book_58 (lv_at hl 0 rfl) ?_
        refine lv_iushr S.1 S.2.1 dX0_book_60 rfl ?_
        refine lv_iconst (v := 1) S.1 S.2.1 dX0_book_61 (by decide) ?_
        refine lv_iand S.1 S.2.1 dX0_book_62 ?_
        refine lv_as (if bt nd v = true then 1 else 0) (ss_bit nd v (by omega)) ?_
        refine lv_if_eq (tgt := 93) S.1 S.2.1 dX0_book_63 (by decide) (fun c2 => ?_) (fun c2 => ?_)
        · have hb : ¬ bt nd v = true := fun z => by rw [if_pos z] at c2; exact absurd c2 (by decide)
          refine lv_iinc (v := nI t + (-1)) (lv' := [(3, .int (nI t + (-1))), (4, .int (nI v)), (0, .ref (ad 0)), (2, .int nd)]) S.1 S.2.1 dX0_book_93 hl (k := 3) rfl rfl (by decide) rfl (fun ls hl => ?_)
          refine lv_goto (tgt := 45) S.1 S.2.1 dX0_book_96 (by decide) ?_
          exact ih nd u1 H locs ls (by omega) hf hact (ss_rf_skip hrf hv e3 hb) hH (lv_sub hl [2, 3, 0] rfl)
        · have e5' : u1 8 v = nI k := by rw [hf 8 (by decide)]; exact e5
          refine lv_aload_n S.1 S.2.1 dX0_book_66 rfl (lv_at hl 1 rfl) ?_
          refine xg12 S hH dX0_book_67 ?_
          refine lv_aload_n S.1 S.2.1 dX0_book_70 rfl (lv_at hl 1 rfl) ?_
          refine xg8 S hH dX0_book_71 ?_
          refine lv_iload S.1 S.2.1 dX0_book_74 (lv_at hl 0 rfl) ?_
          refine xl8 S hH (v) (hv) dX0_book_76 ?_
          refine lv_as (nI k) e5' ?_
          refine lv_iconst (v := 1) S.1 S.2.1 dX0_book_77 (by decide) ?_
          refine xs12 S hH (k) (by omega) (Or.inr rfl) dX0_book_78 (fun H locs hH => ?_)
          refine lv_iload_n S.1 S.2.1 dX0_book_79 rfl (lv_at hl 2 rfl) ?_
          refine lv_aload_n S.1 S.2.1 dX0_book_80 rfl (lv_at hl 1 rfl) ?_
          refine lv_aload_n S.1 S.2.1 dX0_book_81 rfl (lv_at hl 1 rfl) ?_
          refine xg8 S hH dX0_book_82 ?_
          refine lv_iload S.1 S.2.1 dX0_book_85 (lv_at hl 0 rfl) ?_
          refine xl8 S hH (v) (hv) dX0_book_87 ?_
          refine lv_as (nI k) e5' ?_
          have hu2 : x_ok n cs wt (xup u1 12 (upd (u1 12) k 1)) := hu1
          refine gRo.call (As := [.int (nI k)]) (rest := [.int nd]) (x_vars l D ad ka _ k (by omega)) S hH (cwV 1 S.2.2.2.2 (lw_V q129 q131 qs11 q16 q132) rfl rfl rfl (by decide +kernel) ⟨Nat.le_of_ble_eq_true rfl, Nat.le_of_ble_eq_true rfl⟩) (x_recv hH) rfl hl.1 rfl (Nat.le_of_ble_eq_true rfl) dX0_book_88 ⟨Nat.le_refl _, Nat.le_refl _⟩ (fun z hz => ?_)
          have hz : z = ss_vr (nI (cs k)) 8 := by rw [hz]; exact congrArg (fun q => ss_vr q 8) (hu1.2.1 k hk2).1
          refine lv_ior S.1 S.2.1 dX0_book_91 ?_
          refine lv_topi (fun nd2 e_nd2 => ?_)
          refine lv_istore_n (lv' := [(2, .int nd2), (4, .int (nI v)), (0, .ref (ad 0)), (3, .int (nI t))]) S.1 S.2.1 dX0_book_92 rfl hl (by decide) rfl (fun ls hl => ?_)
          refine lv_iinc (v := nI t + (-1)) (lv' := [(3, .int (nI t + (-1))), (2, .int nd2), (4, .int (nI v)), (0, .ref (ad 0))]) S.1 S.2.1 dX0_book_93 hl (k := 3) rfl rfl (by decide) rfl (fun ls hl => ?_)
          refine lv_goto (tgt := 45) S.1 S.2.1 dX0_book_96 (by decide) ?_
          refine ih nd2 _ H locs ls (by omega) (hf.up (by decide)) (fun k1 hk1 hi => ?_) ?_ hH (lv_sub hl [3, 1, 0] rfl)
          · by_cases q : k1 = k
            · subst q; exact e6
            · exact hact k1 hk1 (fun z => hi ((upd_n _ _ q).trans z))
          · rw [e_nd2, hz]
            exact ss_rf_step hrf hen
  have first : ∀ (q j : Nat) (u1 : XS) (H : Heap) (locs : List Loc) (ls : Array Slot), j + q = n → x_fr [12] u u1 → (∀ i, i < j → u1 12 i = if i = k0 then 1 else 0) → gH D (xT ka) (xW ad ka u1) A s H locs → lv_has ls 6 [(0, .ref (ad 0)), (1, .int (nI k0)), (2, .int (nI j))] → W p l e ss_r1 s m args below meth c H locs 0 0 (MQ below (va_Qi (fun (r : Int32) (u1 : XS) => x_fr [11, 12] u u1 ∧ ∃ (β : Nat) (inv : Nat → Int32), r = nI β ∧ ss_le wt ubn inv n β ∧ (∀ a, ss_ext (u 3) a → ∃ k, k < n ∧ inv k ≠ 0 ∧ ss_sat (cs k) a 16 = false) ∧ ∀ k, k < n → u1 11 k = nI (ss_ub wt ubn inv β k)) (gB D (xT ka) (xW ad ka) A) A) args s 0 0 A) (F0 m 2 ls []) := by
    intro q
    induction q with
    | zero =>
      intro j u1 H locs ls hj hf hg hH hl
      have hu1 := hu.mv (hf 0 (by decide)) (hf 1 (by decide)) (hf 2 (by decide))
      refine lv_iload_n S.1 S.2.1 dX0_book_2 rfl (lv_at hl 2 rfl) ?_
      refine lv_aload_n S.1 S.2.1 dX0_book_3 rfl (lv_at hl 0 rfl) ?_
      refine xg0 S hH dX0_book_4 ?_
      refine lv_as (nI n) hu1.1 ?_
      refine lv_icmp_ge (tgt := 32) S.1 S.2.1 dX0_book_7 (by decide) (fun c1 => ?_) (fun c1 => ?_)
      · refine lv_aload_n S.1 S.2.1 dX0_book_32 rfl (lv_at hl 0 rfl) ?_
        refine lv_iload_n S.1 S.2.1 dX0_book_33 rfl (lv_at hl 1 rfl) ?_
        refine gRo.call (As := [.int (nI k0)]) (rest := []) (x_vars l D ad ka u1 k0 (by omega)) S hH (cwV 1 S.2.2.2.2 (lw_V q129 q131 qs11 q16 q132) rfl rfl rfl (by decide +kernel) ⟨Nat.le_of_ble_eq_true rfl, Nat.le_of_ble_eq_true rfl⟩) (x_recv hH) rfl hl.1 rfl (Nat.le_of_ble_eq_true rfl) dX0_book_34 ⟨Nat.le_refl _, Nat.le_refl _⟩ (fun z hz => ?_)
        have hz : z = ss_vr (nI (cs k0)) 8 := by rw [hz, (hu1.2.1 k0 hk).1]
        refine lv_istore_n (lv' := [(2, .int (z)), (0, .ref (ad 0)), (1, .int (nI k0))]) S.1 S.2.1 dX0_book_37 rfl hl (by decide) rfl (fun ls hl => ?_)
        refine lv_aload_n S.1 S.2.1 dX0_book_38 rfl (lv_at hl 1 rfl) ?_
        refine xg9 S hH dX0_book_39 ?_
        refine lv_iconst (v := 1) S.1 S.2.1 dX0_book_42 (by decide) ?_
        refine lv_isub S.1 S.2.1 dX0_book_43 ?_
        refine lv_as (nI T + (-1)) ?_ ?_
        · show u1 9 0 - 1 = _
          rw [hf 9 (by decide), hT.1, Int32.sub_eq_add_neg]
        refine lv_istore_n (lv' := [(3, .int (nI T + (-1))), (2, .int (z)), (0, .ref (ad 0)), (1, .int (nI k0))]) S.1 S.2.1 dX0_book_44 rfl hl (by decide) rfl (fun ls hl => ?_)
        have h12 : u1 12 k0 ≠ 0 := by
          rw [hg k0 (by omega), if_pos rfl]
          decide
        refine back T z u1 H locs ls (Nat.le_refl _) hf (fun k hk1 hi => ?_) (by rw [hz]; exact ss_rf_0 hcf hk h12) hH (lv_sub hl [2, 1, 0] rfl)
        by_cases q : k = k0
        · subst q; exact ha0
        · rw [hg k (by omega), if_neg q] at hi
          exact absurd rfl hi
      · exact absurd (nI_le (by omega) (by omega)) c1
    | succ q ih =>
      intro j u1 H locs ls hj hf hg hH hl
      have hu1 := hu.mv (hf 0 (by decide)) (hf 1 (by decide)) (hf 2 (by decide))
      refine lv_iload_n S.1 S.2.1 dX0_book_2 rfl (lv_at hl 2 rfl) ?_
      refine lv_aload_n S.1 S.2.1 dX0_book_3 rfl (lv_at hl 0 rfl) ?_
      refine xg0 S hH dX0_book_4 ?_
      refine lv_as (nI n) hu1.1 ?_
      refine lv_icmp_ge (tgt := 32) S.1 S.2.1 dX0_book_7 (by decide) (fun c1 => ?_) (fun c1 => ?_)
      · exact absurd ((nI_leI (by omega) (by omega)).mp c1) (by omega)
      · have K : ∀ (y : Int32), y = 0 ∨ y = 1 → y = (if j = k0 then 1 else 0) → W p l e ss_r1 s m args below meth c H locs 0 0 (MQ below (va_Qi (fun (r : Int32) (u1 : XS) => x_fr [11, 12] u u1 ∧ ∃ (β : Nat) (inv : Nat → Int32), r = nI β ∧ ss_le wt ubn inv n β ∧ (∀ a, ss_ext (u 3) a → ∃ k, k < n ∧ inv k ≠ 0 ∧ ss_sat (cs k) a 16 = false) ∧ ∀ k, k < n → u1 11 k = nI (ss_ub wt ubn inv β k)) (gB D (xT ka) (xW ad ka) A) A) args s 0 0 A) (F0 m 25 ls [.int y, .int (nI j), .ref (ad 12)]) := by
          intro y hy1 hy
          refine xs12 S hH (j) (by omega) (hy1) dX0_book_25 (fun H locs hH => ?_)
          refine lv_inc (k := 2) (j := j) (lv' := [(2, .int (nI (j + 1))), (0, .ref (ad 0)), (1, .int (nI k0))]) S dX0_book_26 hl rfl (by decide) rfl (fun ls hl => ?_)
          refine lv_goto (tgt := 2) S.1 S.2.1 dX0_book_29 (by decide) ?_
          refine ih (j + 1) _ H locs ls (by omega) (hf.up (by decide)) (fun i hi => ?_) hH (lv_sub hl [1, 2, 0] rfl)
          show upd (u1 12) j y i = _
          by_cases q : i = j
          · subst q; rw [upd_s, hy]
          · rw [upd_n _ _ q]; exact hg i (by omega)
        refine lv_aload_n S.1 S.2.1 dX0_book_10 rfl (lv_at hl 0 rfl) ?_
        refine xg12 S hH dX0_book_11 ?_
        refine lv_iload_n S.1 S.2.1 dX0_book_14 rfl (lv_at hl 2 rfl) ?_
        refine lv_iload_n S.1 S.2.1 dX0_book_15 rfl (lv_at hl 2 rfl) ?_
        refine lv_iload_n S.1 S.2.1 dX0_book_16 rfl (lv_at hl 1 rfl) ?_
        refine lv_icmp_ne (tgt := 24) S.1 S.2.1 dX0_book_17 (by decide) (fun c2 => ?_) (fun c2 => ?_)
        · refine lv_iconst (v := 0) S.1 S.2.1 dX0_book_24 (by decide) ?_
          exact K 0 (Or.inl rfl) (by rw [if_neg (fun z => c2 (by rw [z]))])
        · refine lv_iconst (v := 1) S.1 S.2.1 dX0_book_20 (by decide) ?_
          refine lv_goto (tgt := 25) S.1 S.2.1 dX0_book_21 (by decide) ?_
          exact K 1 (Or.inr rfl) (by rw [if_pos ((nI_eq (by omega) (by omega)).mp c2)])
  refine lv_iconst (v := nI 0) S.1 S.2.1 dX0_book_0 (by decide) ?_
  refine lv_istore_n (lv' := [(2, .int (nI 0)), (0, .ref (ad 0)), (1, .int (nI k0))]) S.1 S.2.1 dX0_book_1 rfl hl (by decide) rfl (fun ls hl => ?_)
  exact first n 0 u _ _ ls (by omega) x_fr.rf (fun i h => absurd h (Nat.not_lt_zero _)) hH (lv_sub hl [1, 2, 0] rfl)
end
section
set_option maxRecDepth 100000
/-! SoftSolver: worthwhile -/
def xw_post (n : Nat) (cs wt : Nat → Nat) (u : XS) (r : Int32) (u1 : XS) : Prop := (r = 0 ∨ r = 1) ∧ x_fr [7, 8, 9, 10, 11, 12] u u1 ∧ (r = 0 → ∀ a, ss_ext (u 3) a → ss_al cs wt a n = true → u 5 0 ≤ nI (ss_ls cs wt a n)) ∧ (r = 1 → ss_hd n cs wt (u 3) ∧ nI (ss_lv n cs wt (u 3)) < u 5 0)
set_option maxHeartbeats 8000000 in
theorem x_worth (l : Launch) (D : va_G) (ad : Nat → Nat) (ka : Nat → ClassId) (u : XS) (n : Nat) (cs wt : Nat → Nat) (hu : x_ok n cs wt u) (h3 : ss_v3 (u 3)) : gMu l yX0_worthwhile cX0_worthwhile 5 (some .boolean) ss_r2 D (xT ka) (xW ad ka) u [.ref (ad 0)] (xw_post n cs wt u) := by
  refine gMu.ofW RX0 rfl (by decide) (Nat.le_of_ble_eq_true rfl) ?_
  intro p e s m args below meth c A S hr hlk hH ls hl
  have hl : lv_has ls 5 [(0, .ref (ad 0))] := hl
  have hw := hu.2.2
  have hn := hw.1
  have hlv := ss_lv_le hw (u 3)
  have rounds : ss_hd n cs wt (u 3) → ∀ (q r lam : Nat) (ubn : Nat → Nat) (u1 : XS) (H : Heap) (locs : List Loc) (ls : Array Slot), r + q = 25 → lam ≤ 1200 + 50 * r → ss_lv n cs wt (u 3) ≤ lam → ss_sl n cs wt ubn (u 3) lam → x_fr [7, 8, 9, 10, 11, 12] u u1 → (∀ k, k < n → u1 11 k = nI (ubn k) ∧ ubn k ≤ 50) → gH D (xT ka) (xW ad ka u1) A s H locs → lv_has ls 5 [(0, .ref (ad 0)), (1, .int (nI lam)), (2, .int (nI r))] → W p l e ss_r2 s m args below meth c H locs 0 0 (MQ below (va_Qi (xw_post n cs wt u) (gB D (xT ka) (xW ad ka) A) A) args s 0 0 A) (F0 m 93 ls []) := by
    intro hhd q
    have K143 : ∀ (lam : Nat) (ubn : Nat → Nat) (u1 : XS) (H : Heap) (locs : List Loc) (ls : Array Slot), lam ≤ 2500 → ss_lv n cs wt (u 3) ≤ lam → ss_sl n cs wt ubn (u 3) lam → x_fr [7, 8, 9, 10, 11, 12] u u1 → gH D (xT ka) (xW ad ka u1) A s H locs → lv_has ls 5 [(0, .ref (ad 0)), (1, .int (nI lam))] → W p l e ss_r2 s m args below meth c H locs 0 0 (MQ below (va_Qi (xw_post n cs wt u) (gB D (xT ka) (xW ad ka) A) A) args s 0 0 A) (F0 m 143 ls []) := by
      intro lam ubn u1 H locs ls hlam hlo hsl hf hH hl
      have h5 : u1 5 0 = u 5 0 := congrFun (hf 5 (by decide)) 0
      refine lv_iload_n S.1 S.2.1 dX0_worthwhile_143 rfl (lv_at hl 1 rfl) ?_
      refine lv_aload_n S.1 S.2.1 dX0_worthwhile_144 rfl (lv_at hl 0 rfl) ?_
      refine xg5 S hH dX0_worthwhile_145 ?_
      refine lv_as (u 5 0) h5 ?_
      refine lv_icmp_ge (tgt := 155) S.1 S.2.1 dX0_worthwhile_148 (by decide) (fun c1 => ?_) (fun c1 => ?_)
      · refine lv_iconst (v := 0) S.1 S.2.1 dX0_worthwhile_155 (by decide) ?_
        refine gMu.zret S hr hlk (Or.inl rfl) hH ⟨Or.inl rfl, hf, fun _ a he hal => ?_, fun q => absurd q (by decide)⟩ dX0_worthwhile_156
        have h1 := hsl a he hal
        have h2 := ss_ls_le hw a
        have h4 : nI lam ≤ nI (ss_ls cs wt a n) := nI_le (by omega) (by omega)
        rw [fa_le] at c1 h4 ⊢
        omega
      · refine lv_iconst (v := 1) S.1 S.2.1 dX0_worthwhile_151 (by decide) ?_
        refine lv_goto (tgt := 156) S.1 S.2.1 dX0_worthwhile_152 (by decide) ?_
        refine gMu.zret S hr hlk (Or.inr rfl) hH ⟨Or.inr rfl, hf, fun q => absurd q (by decide), fun _ => ⟨hhd, ?_⟩⟩ dX0_worthwhile_156
        have h4 : nI (ss_lv n cs wt (u 3)) ≤ nI lam := nI_le hlo (by omega)
        have c2 := fa_of_nle c1
        rw [fa_lt] at c2 ⊢
        rw [fa_le] at h4
        omega
    induction q with
    | zero =>
      intro r lam ubn u1 H locs ls hj hlam hlo hsl hf hub hH hl
      refine lv_iload_n S.1 S.2.1 dX0_worthwhile_93 rfl (lv_at hl 2 rfl) ?_
      refine lv_bipush (v := nI 25) S.1 S.2.1 dX0_worthwhile_94 (by decide) ?_
      refine lv_icmp_ge (tgt := 143) S.1 S.2.1 dX0_worthwhile_96 (by decide) (fun c1 => ?_) (fun c1 => ?_)
      · exact K143 lam ubn u1 H locs ls (by omega) hlo hsl hf hH (lv_sub hl [0, 1] rfl)
      · exact absurd (nI_le (by omega) (by omega)) c1
    | succ q ih =>
      intro r lam ubn u1 H locs ls hj hlam hlo hsl hf hub hH hl
      have hu1 := hu.mv (hf 0 (by decide)) (hf 1 (by decide)) (hf 2 (by decide))
      have h5 : u1 5 0 = u 5 0 := congrFun (hf 5 (by decide)) 0
      refine lv_iload_n S.1 S.2.1 dX0_worthwhile_93 rfl (lv_at hl 2 rfl) ?_
      refine lv_bipush (v := nI 25) S.1 S.2.1 dX0_worthwhile_94 (by decide) ?_
      refine lv_icmp_ge (tgt := 143) S.1 S.2.1 dX0_worthwhile_96 (by decide) (fun c1 => ?_) (fun c1 => ?_)
      · exact absurd ((nI_leI (by omega) (by omega)).mp c1) (by omega)
      · refine lv_iload_n S.1 S.2.1 dX0_worthwhile_99 rfl (lv_at hl 1 rfl) ?_
        refine lv_aload_n S.1 S.2.1 dX0_worthwhile_100 rfl (lv_at hl 0 rfl) ?_
        refine xg5 S hH dX0_worthwhile_101 ?_
        refine lv_as (u 5 0) h5 ?_
        refine lv_icmp_ge (tgt := 143) S.1 S.2.1 dX0_worthwhile_104 (by decide) (fun c2 => ?_) (fun c2 => ?_)
        · exact K143 lam ubn u1 H locs ls (by omega) hlo hsl hf hH (lv_sub hl [0, 1] rfl)
        · refine lv_aload_n S.1 S.2.1 dX0_worthwhile_107 rfl (lv_at hl 0 rfl) ?_
          refine gMu.call (As := []) (rest := []) (x_unit l D ad ka u1 n cs wt hu1 (by rw [hf 3 (by decide)]; exact h3)) S hH (cwV 0 S.2.2.2.2 (lw_V q117 q119 qs8 q16 q120) rfl rfl rfl (by decide +kernel) ⟨Nat.le_of_ble_eq_true rfl, Nat.le_of_ble_eq_true rfl⟩) (x_recv hH) rfl hl.1 rfl (Nat.le_of_ble_eq_true rfl) dX0_worthwhile_108 ⟨Nat.le_refl _, Nat.le_refl _⟩ (fun r1 u2 H locs hp hH => ?_)
          obtain ⟨hf2, T, hT, hp⟩ := hp
          have hf3 := hf.tr (hf2.wd (by decide))
          have hu2 := hu.mv (hf3 0 (by decide)) (hf3 1 (by decide)) (hf3 2 (by decide))
          refine lv_istore_n (lv' := [(3, .int (r1)), (0, .ref (ad 0)), (1, .int (nI lam)), (2, .int (nI r))]) S.1 S.2.1 dX0_worthwhile_111 rfl hl (by decide) rfl (fun ls hl => ?_)
          refine lv_iload_n S.1 S.2.1 dX0_worthwhile_112 rfl (lv_at hl 0 rfl) ?_
          refine lv_if_ge (tgt := 118) S.1 S.2.1 dX0_worthwhile_113 (by decide) (fun c3 => ?_) (fun c3 => ?_)
          · rcases hp with hp | ⟨k, hk, rfl, hact, hcf⟩
            · rw [hp] at c3; exact absurd c3 (by decide)
            · have h11 : u2 11 = u1 11 := hf2 11 (by decide)
              have h33 : u2 3 = u 3 := hf3 3 (by decide)
              refine lv_aload_n S.1 S.2.1 dX0_worthwhile_118 rfl (lv_at hl 1 rfl) ?_
              refine lv_iload_n S.1 S.2.1 dX0_worthwhile_119 rfl (lv_at hl 0 rfl) ?_
              refine gMu.call (As := [.int (nI k)]) (rest := []) (x_book l D ad ka u2 n cs wt hu2 T k hT hk (by rw [h11]; exact hact) (by rw [hf2 3 (by decide)]; exact hcf) ubn (fun k hk => by rw [h11]; exact hub k hk)) S hH (cwV 1 S.2.2.2.2 (lw_V q125 q127 qs10 q16 q128) rfl rfl rfl (by decide +kernel) ⟨Nat.le_of_ble_eq_true rfl, Nat.le_of_ble_eq_true rfl⟩) (x_recv hH) rfl hl.1 rfl (Nat.le_of_ble_eq_true rfl) dX0_worthwhile_120 ⟨Nat.le_refl _, Nat.le_refl _⟩ (fun r2 u3 H locs hp hH => ?_)
              obtain ⟨hf4, β, inv, rfl, hle, hex, hub2⟩ := hp
              rw [h33] at hex
              have hf5 := hf3.tr (hf4.wd (by decide))
              have hb50 := hle.2.2
              refine lv_istore (lv' := [(4, .int (nI β)), (3, .int (nI k)), (0, .ref (ad 0)), (1, .int (nI lam)), (2, .int (nI r))]) S.1 S.2.1 dX0_worthwhile_123 hl (by decide) rfl (fun ls hl => ?_)
              refine lv_iload S.1 S.2.1 dX0_worthwhile_125 (lv_at hl 0 rfl) ?_
              refine lv_if_ne (tgt := 132) S.1 S.2.1 dX0_worthwhile_127 (by decide) (fun c4 => ?_) (fun c4 => ?_)
              · refine lv_iload_n S.1 S.2.1 dX0_worthwhile_132 rfl (lv_at hl 3 rfl) ?_
                refine lv_iload S.1 S.2.1 dX0_worthwhile_133 (lv_at hl 0 rfl) ?_
                refine lv_iadd S.1 S.2.1 dX0_worthwhile_135 ?_
                refine lv_as (nI (lam + β)) (nI_add lam β) ?_
                refine lv_istore_n (lv' := [(1, .int (nI (lam + β))), (4, .int (nI β)), (3, .int (nI k)), (0, .ref (ad 0)), (2, .int (nI r))]) S.1 S.2.1 dX0_worthwhile_136 rfl hl (by decide) rfl (fun ls hl => ?_)
                refine lv_inc (k := 4) (j := r) (lv' := [(2, .int (nI (r + 1))), (1, .int (nI (lam + β))), (4, .int (nI β)), (3, .int (nI k)), (0, .ref (ad 0))]) S dX0_worthwhile_137 hl rfl (by decide) rfl (fun ls hl => ?_)
                refine lv_goto (tgt := 93) S.1 S.2.1 dX0_worthwhile_140 (by decide) ?_
                refine ih (r + 1) (lam + β) (ss_ub wt ubn inv β) u3 H locs ls (by omega) (by omega) (by omega) (ss_sl_book hsl hex hle) hf5 (fun k hk => ⟨hub2 k hk, ?_⟩) hH (lv_sub hl [4, 1, 0] rfl)
                have := (hub k hk).2
                unfold ss_ub
                split <;> omega
              · refine lv_iconst (v := 0) S.1 S.2.1 dX0_worthwhile_130 (by decide) ?_
                have hb0 : β = 0 := (nI_eq (b := 0) (by omega) (by omega)).mp c4
                exact gMu.zret S hr hlk (Or.inl rfl) hH ⟨Or.inl rfl, hf5, fun _ a he hal => (ss_no_hard hex (hle.1 hb0) he hal).elim, fun q => absurd q (by decide)⟩ dX0_worthwhile_131
          · refine lv_iconst (v := 1) S.1 S.2.1 dX0_worthwhile_116 (by decide) ?_
            refine gMu.zret S hr hlk (Or.inr rfl) hH ⟨Or.inr rfl, hf3, fun q => absurd q (by decide), fun _ => ⟨hhd, ?_⟩⟩ dX0_worthwhile_117
            have h4 : nI (ss_lv n cs wt (u 3)) ≤ nI lam := nI_le hlo (by omega)
            have c5 := fa_of_nle c2
            rw [fa_lt] at c5 ⊢
            rw [fa_le] at h4
            omega
  have weights : ∀ (q j : Nat) (u1 : XS) (H : Heap) (locs : List Loc) (ls : Array Slot), j + q = n → x_fr [7, 8, 9, 10, 11, 12] u u1 → (∀ i, i < j → (wt i = 0 → ss_op (nI (cs i)) (u 3) 8 ≠ 0) ∧ u1 11 i = nI (if 0 < wt i ∧ ss_op (nI (cs i)) (u 3) 8 ≠ 0 then wt i else 0)) → gH D (xT ka) (xW ad ka u1) A s H locs → lv_has ls 5 [(0, .ref (ad 0)), (1, .int (nI (ss_lv n cs wt (u 3)))), (2, .int (nI j))] → W p l e ss_r2 s m args below meth c H locs 0 0 (MQ below (va_Qi (xw_post n cs wt u) (gB D (xT ka) (xW ad ka) A) A) args s 0 0 A) (F0 m 7 ls []) := by
    intro q
    induction q with
    | zero =>
      intro j u1 H locs ls hj hf hg hH hl
      have hu1 := hu.mv (hf 0 (by decide)) (hf 1 (by decide)) (hf 2 (by decide))
      refine lv_iload_n S.1 S.2.1 dX0_worthwhile_7 rfl (lv_at hl 2 rfl) ?_
      refine lv_aload_n S.1 S.2.1 dX0_worthwhile_8 rfl (lv_at hl 0 rfl) ?_
      refine xg0 S hH dX0_worthwhile_9 ?_
      refine lv_as (nI n) hu1.1 ?_
      refine lv_icmp_ge (tgt := 91) S.1 S.2.1 dX0_worthwhile_12 (by decide) (fun c1 => ?_) (fun c1 => ?_)
      · refine lv_iconst (v := nI 0) S.1 S.2.1 dX0_worthwhile_91 (by decide) ?_
        refine lv_istore_n (lv' := [(2, .int (nI 0)), (0, .ref (ad 0)), (1, .int (nI (ss_lv n cs wt (u 3))))]) S.1 S.2.1 dX0_worthwhile_92 rfl hl (by decide) rfl (fun ls hl => ?_)
        refine rounds (fun k hk => (hg k (by omega)).1) 25 0 (ss_lv n cs wt (u 3)) (fun i => if 0 < wt i ∧ ss_op (nI (cs i)) (u 3) 8 ≠ 0 then wt i else 0) u1 H locs ls rfl (by omega) (Nat.le_refl _) (ss_sl_0 hw h3 (fun k _ => rfl)) hf (fun k hk => ⟨(hg k (by omega)).2, ?_⟩) hH (lv_sub hl [1, 2, 0] rfl)
        have := (hw.2 k hk).2
        split <;> omega
      · exact absurd (nI_le (by omega) (by omega)) c1
    | succ q ih =>
      intro j u1 H locs ls hj hf hg hH hl
      have hu1 := hu.mv (hf 0 (by decide)) (hf 1 (by decide)) (hf 2 (by decide))
      have h33 : u1 3 = u 3 := hf 3 (by decide)
      refine lv_iload_n S.1 S.2.1 dX0_worthwhile_7 rfl (lv_at hl 2 rfl) ?_
      refine lv_aload_n S.1 S.2.1 dX0_worthwhile_8 rfl (lv_at hl 0 rfl) ?_
      refine xg0 S hH dX0_worthwhile_9 ?_
      refine lv_as (nI n) hu1.1 ?_
      refine lv_icmp_ge (tgt := 91) S.1 S.2.1 dX0_worthwhile_12 (by decide) (fun c1 => ?_) (fun c1 => ?_)
      · exact absurd ((nI_leI (by omega) (by omega)).mp c1) (by omega)
      · have hjn : j < n := by omega
        have hwj := (hw.2 j hjn).2
        have hcj := (hu1.2.1 j hjn).1
        have K84 : ∀ (y : Int32) (ls : Array Slot), (wt j = 0 → ss_op (nI (cs j)) (u 3) 8 ≠ 0) → y = nI (if 0 < wt j ∧ ss_op (nI (cs j)) (u 3) 8 ≠ 0 then wt j else 0) → lv_has ls 5 [(0, .ref (ad 0)), (1, .int (nI (ss_lv n cs wt (u 3)))), (2, .int (nI j))] → W p l e ss_r2 s m args below meth c H locs 0 0 (MQ below (va_Qi (xw_post n cs wt u) (gB D (xT ka) (xW ad ka) A) A) args s 0 0 A) (F0 m 84 ls [.int y, .int (nI j), .ref (ad 11)]) := by
          intro y ls hh hy hl
          refine xs11 S hH (j) (by omega) dX0_worthwhile_84 (fun H locs hH => ?_)
          refine lv_inc (k := 2) (j := j) (lv' := [(2, .int (nI (j + 1))), (0, .ref (ad 0)), (1, .int (nI (ss_lv n cs wt (u 3))))]) S dX0_worthwhile_85 hl rfl (by decide) rfl (fun ls hl => ?_)
          refine lv_goto (tgt := 7) S.1 S.2.1 dX0_worthwhile_88 (by decide) ?_
          refine ih (j + 1) _ H locs ls (by omega) (hf.up (by decide)) (fun i hi => ?_) hH (lv_sub hl [1, 2, 0] rfl)
          by_cases q : i = j
          · subst q
            refine ⟨hh, ?_⟩
            show upd (u1 11) i y i = _
            rw [upd_s, hy]
          · refine ⟨(hg i (by omega)).1, ?_⟩
            show upd (u1 11) j y i = _
            rw [upd_n _ _ q]; exact (hg i (by omega)).2
        have K38 : (wt j = 0 → ss_op (nI (cs j)) (u 3) 8 ≠ 0) → W p l e ss_r2 s m args below meth c H locs 0 0 (MQ below (va_Qi (xw_post n cs wt u) (gB D (xT ka) (xW ad ka) A) A) args s 0 0 A) (F0 m 38 ls []) := by
          intro hh
          have K63 : ¬ (0 < wt j ∧ ss_op (nI (cs j)) (u 3) 8 ≠ 0) → W p l e ss_r2 s m args below meth c H locs 0 0 (MQ below (va_Qi (xw_post n cs wt u) (gB D (xT ka) (xW ad ka) A) A) args s 0 0 A) (F0 m 63 ls []) := by
            intro hno
            refine lv_iconst (v := 0) S.1 S.2.1 dX0_worthwhile_63 (by decide) ?_
            refine lv_istore_n (lv' := [(3, .int (0)), (0, .ref (ad 0)), (1, .int (nI (ss_lv n cs wt (u 3)))), (2, .int (nI j))]) S.1 S.2.1 dX0_worthwhile_64 rfl hl (by decide) rfl (fun ls hl => ?_)
            refine lv_aload_n S.1 S.2.1 dX0_worthwhile_65 rfl (lv_at hl 1 rfl) ?_
            refine xg11 S hH dX0_worthwhile_66 ?_
            refine lv_iload_n S.1 S.2.1 dX0_worthwhile_69 rfl (lv_at hl 3 rfl) ?_
            refine lv_iload_n S.1 S.2.1 dX0_worthwhile_70 rfl (lv_at hl 0 rfl) ?_
            refine lv_if_eq (tgt := 83) S.1 S.2.1 dX0_worthwhile_71 (by decide) (fun c5 => ?_) (fun c5 => ?_)
            · refine lv_iconst (v := 0) S.1 S.2.1 dX0_worthwhile_83 (by decide) ?_
              exact K84 0 ls hh (by rw [if_neg hno]; rfl) (lv_sub hl [1, 2, 3] rfl)
            · exact absurd rfl c5
          refine lv_aload_n S.1 S.2.1 dX0_worthwhile_38 rfl (lv_at hl 0 rfl) ?_
          refine xg2 S hH dX0_worthwhile_39 ?_
          refine lv_iload_n S.1 S.2.1 dX0_worthwhile_42 rfl (lv_at hl 2 rfl) ?_
          refine xl2 S hH (j) (by omega) dX0_worthwhile_43 ?_
          refine lv_as (nI (wt j)) (hu1.2.1 j hjn).2 ?_
          refine lv_if_le (tgt := 63) S.1 S.2.1 dX0_worthwhile_44 (by decide) (fun c3 => ?_) (fun c3 => ?_)
          · have h0 : wt j ≤ 0 := (nI_leI (b := 0) (by omega) (by omega)).mp c3
            exact K63 (fun z => absurd z.1 (by omega))
          · have h0 : ¬ wt j ≤ 0 := fun z => c3 (nI_le (b := 0) z (by decide))
            refine lv_aload_n S.1 S.2.1 dX0_worthwhile_47 rfl (lv_at hl 0 rfl) ?_
            refine lv_iload_n S.1 S.2.1 dX0_worthwhile_48 rfl (lv_at hl 2 rfl) ?_
            refine lv_aload_n S.1 S.2.1 dX0_worthwhile_49 rfl (lv_at hl 0 rfl) ?_
            refine xg3 S hH dX0_worthwhile_50 ?_
            refine gRo.call (As := [.int (nI j), .ref (ad 3)]) (rest := []) (x_open l D ad ka u1 j (by omega) 3 (Or.inl rfl)) S hH (cwV 2 S.2.2.2.2 (lw_V q105 q107 qs5 q16 q108) rfl rfl rfl (by decide +kernel) ⟨Nat.le_of_ble_eq_true rfl, Nat.le_of_ble_eq_true rfl⟩) (x_recv hH) rfl hl.1 rfl (Nat.le_of_ble_eq_true rfl) dX0_worthwhile_53 ⟨Nat.le_refl _, Nat.le_refl _⟩ (fun z hz => ?_)
            rw [hcj, h33] at hz
            refine lv_if_eq (tgt := 63) S.1 S.2.1 dX0_worthwhile_56 (by decide) (fun c4 => ?_) (fun c4 => ?_)
            · exact K63 (fun z => z.2 (hz.symm.trans c4))
            · refine lv_iconst (v := 1) S.1 S.2.1 dX0_worthwhile_59 (by decide) ?_
              refine lv_goto (tgt := 64) S.1 S.2.1 dX0_worthwhile_60 (by decide) ?_
              refine lv_istore_n (lv' := [(3, .int (1)), (0, .ref (ad 0)), (1, .int (nI (ss_lv n cs wt (u 3)))), (2, .int (nI j))]) S.1 S.2.1 dX0_worthwhile_64 rfl hl (by decide) rfl (fun ls hl => ?_)
              refine lv_aload_n S.1 S.2.1 dX0_worthwhile_65 rfl (lv_at hl 1 rfl) ?_
              refine xg11 S hH dX0_worthwhile_66 ?_
              refine lv_iload_n S.1 S.2.1 dX0_worthwhile_69 rfl (lv_at hl 3 rfl) ?_
              refine lv_iload_n S.1 S.2.1 dX0_worthwhile_70 rfl (lv_at hl 0 rfl) ?_
              refine lv_if_eq (tgt := 83) S.1 S.2.1 dX0_worthwhile_71 (by decide) (fun c5 => ?_) (fun c5 => ?_)
              · exact absurd c5 (by decide)
              · refine lv_aload_n S.1 S.2.1 dX0_worthwhile_74 rfl (lv_at hl 1 rfl) ?_
                refine xg2 S hH dX0_worthwhile_75 ?_
                refine lv_iload_n S.1 S.2.1 dX0_worthwhile_78 rfl (lv_at hl 3 rfl) ?_
                refine xl2 S hH (j) (by omega) dX0_worthwhile_79 ?_
                refine lv_as (nI (wt j)) (hu1.2.1 j hjn).2 ?_
                refine lv_goto (tgt := 84) S.1 S.2.1 dX0_worthwhile_80 (by decide) ?_
                exact K84 _ ls hh (by rw [if_pos ⟨by omega, fun z => c4 (hz.trans z)⟩]) (lv_sub hl [1, 2, 3] rfl)
        refine lv_aload_n S.1 S.2.1 dX0_worthwhile_15 rfl (lv_at hl 0 rfl) ?_
        refine xg2 S hH dX0_worthwhile_16 ?_
        refine lv_iload_n S.1 S.2.1 dX0_worthwhile_19 rfl (lv_at hl 2 rfl) ?_
        refine xl2 S hH (j) (by omega) dX0_worthwhile_20 ?_
        refine lv_as (nI (wt j)) (hu1.2.1 j hjn).2 ?_
        refine lv_if_ne (tgt := 38) S.1 S.2.1 dX0_worthwhile_21 (by decide) (fun c2 => ?_) (fun c2 => ?_)
        · exact K38 (fun z => absurd (by rw [z]; rfl) c2)
        · refine lv_aload_n S.1 S.2.1 dX0_worthwhile_24 rfl (lv_at hl 0 rfl) ?_
          refine lv_iload_n S.1 S.2.1 dX0_worthwhile_25 rfl (lv_at hl 2 rfl) ?_
          refine lv_aload_n S.1 S.2.1 dX0_worthwhile_26 rfl (lv_at hl 0 rfl) ?_
          refine xg3 S hH dX0_worthwhile_27 ?_
          refine gRo.call (As := [.int (nI j), .ref (ad 3)]) (rest := []) (x_open l D ad ka u1 j (by omega) 3 (Or.inl rfl)) S hH (cwV 2 S.2.2.2.2 (lw_V q105 q107 qs5 q16 q108) rfl rfl rfl (by decide +kernel) ⟨Nat.le_of_ble_eq_true rfl, Nat.le_of_ble_eq_true rfl⟩) (x_recv hH) rfl hl.1 rfl (Nat.le_of_ble_eq_true rfl) dX0_worthwhile_30 ⟨Nat.le_refl _, Nat.le_refl _⟩ (fun z hz => ?_)
          rw [hcj, h33] at hz
          refine lv_if_ne (tgt := 38) S.1 S.2.1 dX0_worthwhile_33 (by decide) (fun c3 => ?_) (fun c3 => ?_)
          · exact K38 (fun _ z => c3 (hz.trans z))
          · refine lv_iconst (v := 0) S.1 S.2.1 dX0_worthwhile_36 (by decide) ?_
            have hw0 : wt j = 0 := (nI_eq (b := 0) (by omega) (by omega)).mp c2
            refine gMu.zret S hr hlk (Or.inl rfl) hH ⟨Or.inl rfl, hf, fun _ a he hal => ?_, fun q => absurd q (by decide)⟩ dX0_worthwhile_37
            exfalso
            have h1 := ss_fl_unsat ((ss_opz h3 (hw.2 j hjn).1).mp (hz.symm.trans c3)) he
            rw [(ss_al_iff cs wt a n).mp hal j hjn hw0] at h1
            cases h1
  refine lv_aload_n S.1 S.2.1 dX0_worthwhile_0 rfl (lv_at hl 0 rfl) ?_
  refine gRo.call (As := []) (rest := []) (x_lsf l D ad ka u n cs wt hu) S hH (cwV 0 S.2.2.2.2 (lw_V q101 q103 qs4 q16 q104) rfl rfl rfl (by decide +kernel) ⟨Nat.le_of_ble_eq_true rfl, Nat.le_of_ble_eq_true rfl⟩) (x_recv hH) rfl hl.1 rfl (Nat.le_of_ble_eq_true rfl) dX0_worthwhile_1 ⟨Nat.le_refl _, Nat.le_refl _⟩ (fun z hz => ?_)
  subst hz
  refine lv_istore_n (lv' := [(1, .int (nI (ss_lv n cs wt (u 3)))), (0, .ref (ad 0))]) S.1 S.2.1 dX0_worthwhile_4 rfl hl (by decide) rfl (fun ls hl => ?_)
  refine lv_iconst (v := nI 0) S.1 S.2.1 dX0_worthwhile_5 (by decide) ?_
  refine lv_istore_n (lv' := [(2, .int (nI 0)), (1, .int (nI (ss_lv n cs wt (u 3)))), (0, .ref (ad 0))]) S.1 S.2.1 dX0_worthwhile_6 rfl hl (by decide) rfl (fun ls hl => ?_)
  exact weights n 0 u _ _ ls (by omega) x_fr.rf (fun i h => absurd h (Nat.not_lt_zero _)) hH (lv_sub hl [2, 1, 0] rfl)
end
section
set_option maxRecDepth 100000
/-! SoftSolver: search -/
set_option maxHeartbeats 8000000 in
theorem x_search (l : Launch) (D : va_G) (ad : Nat → Nat) (ka : Nat → ClassId) (u : XS) (n : Nat) (cs wt : Nat → Nat) (hu : x_ok n cs wt u) : gMv l yX0_search cX0_search 3 none ss_r3 D (xT ka) (xW ad ka) u [.ref (ad 0)] (fun (u1 : XS) => x_fr [3, 5, 6, 7, 8, 9, 10, 11, 12] u u1 ∧ ss_bi n cs wt 256 (ss_G (u 4)) (u1 5 0) (u1 6 0)) := by
  refine gMv.ofW RX0 rfl (by decide) (Nat.le_of_ble_eq_true rfl) ?_
  intro p e s m args below meth c A S hr hlk hH ls hl
  have hl : lv_has ls 3 [(0, .ref (ad 0))] := hl
  have hw := hu.2.2
  have hn := hw.1
  have main : ∀ (q st : Nat) (vx : Int32) (u1 : XS) (H : Heap) (locs : List Loc) (ls : Array Slot), st + q = 1022 → x_fr [3, 5, 6, 7, 8, 9, 10, 11, 12] u u1 → ss_in n cs wt (u1 3) (u 4) (u1 5 0) (u1 6 0) vx st → gH D (xT ka) (xW ad ka u1) A s H locs → lv_has ls 3 [(0, .ref (ad 0)), (1, .int vx), (2, .int (nI st))] → W p l e ss_r3 s m args below meth c H locs 0 0 (MQ below (va_Qv (fun (u1 : XS) => x_fr [3, 5, 6, 7, 8, 9, 10, 11, 12] u u1 ∧ ss_bi n cs wt 256 (ss_G (u 4)) (u1 5 0) (u1 6 0)) (gB D (xT ka) (xW ad ka) A) A) args s 0 0 A) (F0 m 38 ls []) := by
    intro q
    induction q with
    | zero =>
      intro st vx u1 H locs ls hj hf hin hH hl
      exfalso
      rcases hin with ⟨j, -, -, -, -, -, h⟩ | ⟨-, -, -, -, -, h⟩ | ⟨-, -, h⟩ <;> omega
    | succ q ih =>
      intro st vx u1 H locs ls hj hf hin hH hl
      have hu1 := hu.mv (hf 0 (by decide)) (hf 1 (by decide)) (hf 2 (by decide))
      have h44 : u1 4 = u 4 := hf 4 (by decide)
      have K104 : ∀ (vy : Int32) (u2 : XS) (H : Heap) (locs : List Loc) (ls : Array Slot), x_fr [3, 5, 6, 7, 8, 9, 10, 11, 12] u u2 → ss_in n cs wt (u2 3) (u 4) (u2 5 0) (u2 6 0) vy (st + 1) → gH D (xT ka) (xW ad ka u2) A s H locs → lv_has ls 3 [(0, .ref (ad 0)), (1, .int vy), (2, .int (nI st))] → W p l e ss_r3 s m args below meth c H locs 0 0 (MQ below (va_Qv (fun (u1 : XS) => x_fr [3, 5, 6, 7, 8, 9, 10, 11, 12] u u1 ∧ ss_bi n cs wt 256 (ss_G (u 4)) (u1 5 0) (u1 6 0)) (gB D (xT ka) (xW ad ka) A) A) args s 0 0 A) (F0 m 104 ls []) := by
        intro vy u2 H locs ls hf2 hin2 hH hl
        refine lv_inc (k := 2) (j := st) (lv' := [(2, .int (nI (st + 1))), (0, .ref (ad 0)), (1, .int vy)]) S dX0_search_104 hl rfl (by decide) rfl (fun ls hl => ?_)
        refine lv_goto (tgt := 38) S.1 S.2.1 dX0_search_107 (by decide) ?_
        exact ih (st + 1) vy u2 H locs ls (by omega) hf2 hin2 hH (lv_sub hl [1, 2, 0] rfl)
      refine lv_iload_n S.1 S.2.1 dX0_search_38 rfl (lv_at hl 2 rfl) ?_
      refine lv_sipush (v := nI 2000) S.1 S.2.1 dX0_search_39 (by decide) ?_
      refine lv_icmp_ge (tgt := 110) S.1 S.2.1 dX0_search_42 (by decide) (fun c1 => ?_) (fun c1 => ?_)
      · exact absurd ((nI_leI (by omega) (by omega)).mp c1) (by omega)
      · refine lv_iload_n S.1 S.2.1 dX0_search_45 rfl (lv_at hl 1 rfl) ?_
        refine lv_bipush (v := nI 8) S.1 S.2.1 dX0_search_46 (by decide) ?_
        refine lv_icmp_ge (tgt := 110) S.1 S.2.1 dX0_search_48 (by decide) (fun c2 => ?_) (fun c2 => ?_)
        · rcases hin with ⟨j, hj8, rfl, -⟩ | ⟨rfl, -⟩ | ⟨rfl, hbi, -⟩
          · exact absurd ((nI_leI (by omega) (by omega)).mp c2) (by omega)
          · exact absurd c2 (by decide)
          · exact gMv.vret S hr hlk hH ⟨hf, hbi⟩ dX0_search_110
        · refine lv_iload_n S.1 S.2.1 dX0_search_51 rfl (lv_at hl 1 rfl) ?_
          refine lv_if_ge (tgt := 63) S.1 S.2.1 dX0_search_52 (by decide) (fun c3 => ?_) (fun c3 => ?_)
          · rcases hin with ⟨j, hj8, rfl, hdf, h3j, hbi, hmu⟩ | ⟨rfl, -⟩ | ⟨rfl, -⟩
            · refine lv_aload_n S.1 S.2.1 dX0_search_63 rfl (lv_at hl 0 rfl) ?_
              refine xg3 S hH dX0_search_64 ?_
              refine lv_iload_n S.1 S.2.1 dX0_search_67 rfl (lv_at hl 1 rfl) ?_
              refine lv_aload_n S.1 S.2.1 dX0_search_68 rfl (lv_at hl 0 rfl) ?_
              refine lv_iload_n S.1 S.2.1 dX0_search_69 rfl (lv_at hl 1 rfl) ?_
              refine gRo.call (As := [.int (nI j)]) (rest := [.int (nI j), .ref (ad 3)]) (x_next l D ad ka u1 j hj8 h3j) S hH (cwV 1 S.2.2.2.2 (lw_V q109 q111 qs6 q16 q112) rfl rfl rfl (by decide +kernel) ⟨Nat.le_of_ble_eq_true rfl, Nat.le_of_ble_eq_true rfl⟩) (x_recv hH) rfl hl.1 rfl (Nat.le_of_ble_eq_true rfl) dX0_search_70 ⟨Nat.le_refl _, Nat.le_refl _⟩ (fun z hz => ?_)
              rw [h44] at hz
              refine xs3 S hH (j) (hj8) dX0_search_73 (fun H locs hH => ?_)
              refine lv_aload_n S.1 S.2.1 dX0_search_74 rfl (lv_at hl 0 rfl) ?_
              refine xg3 S hH dX0_search_75 ?_
              refine lv_iload_n S.1 S.2.1 dX0_search_78 rfl (lv_at hl 1 rfl) ?_
              refine xl3 S hH j hj8 dX0_search_79 ?_
              refine lv_as z (upd_s _ _ _) ?_
              have hv3 : (xup u1 3 (upd (u1 3) j z)) 3 = upd (u1 3) j z := rfl
              have K103 : ∀ (vy : Int32) (u2 : XS) (H : Heap) (locs : List Loc), x_fr [3, 5, 6, 7, 8, 9, 10, 11, 12] u u2 → ss_in n cs wt (u2 3) (u 4) (u2 5 0) (u2 6 0) vy (st + 1) → gH D (xT ka) (xW ad ka u2) A s H locs → W p l e ss_r3 s m args below meth c H locs 0 0 (MQ below (va_Qv (fun (u1 : XS) => x_fr [3, 5, 6, 7, 8, 9, 10, 11, 12] u u1 ∧ ss_bi n cs wt 256 (ss_G (u 4)) (u1 5 0) (u1 6 0)) (gB D (xT ka) (xW ad ka) A) A) args s 0 0 A) (F0 m 103 ls [.int vy]) := by
                intro vy u2 H locs hf2 hin2 hH
                refine lv_istore_n (lv' := [(1, .int (vy)), (0, .ref (ad 0)), (2, .int (nI st))]) S.1 S.2.1 dX0_search_103 rfl hl (by decide) rfl (fun ls hl => ?_)
                exact K104 vy u2 H locs ls hf2 hin2 hH (lv_sub hl [1, 0, 2] rfl)
              have hfz : x_fr [3, 5, 6, 7, 8, 9, 10, 11, 12] u (xup u1 3 (upd (u1 3) j z)) := hf.up (by decide)
              have hrng : z = -1 ∨ z = 0 ∨ z = 1 := by
                by_cases h : z = -1
                · exact Or.inl h
                · exact Or.inr (ss_nx_spec h3j hz.symm h).1
              refine lv_if_ge (tgt := 89) S.1 S.2.1 dX0_search_80 (by decide) (fun c4 => ?_) (fun c4 => ?_)
              · have hzn : ¬ z = -1 := fun q => by rw [q] at c4; exact absurd c4 (by decide)
                have hv3z : ss_v3 (upd (u1 3) j z) := by
                  intro i hi
                  rcases Nat.lt_trichotomy i j with q | q | q
                  · rw [upd_n _ _ (show i ≠ j by omega)]; exact Or.inl (hdf.1 i hi q)
                  · subst q; rw [upd_s]; exact hrng
                  · rw [upd_n _ _ (show i ≠ j by omega)]; exact Or.inr (hdf.2 i hi q).1
                refine lv_aload_n S.1 S.2.1 dX0_search_89 rfl (lv_at hl 0 rfl) ?_
                refine gMu.call (As := []) (rest := []) (x_worth l D ad ka _ n cs wt (hu1.mv rfl rfl rfl : x_ok n cs wt (xup u1 3 (upd (u1 3) j z))) hv3z) S hH (cwV 0 S.2.2.2.2 (lw_V q113 q115 qs7 q16 q116) rfl rfl rfl (by decide +kernel) ⟨Nat.le_of_ble_eq_true rfl, Nat.le_of_ble_eq_true rfl⟩) (x_recv hH) rfl hl.1 rfl (Nat.le_of_ble_eq_true rfl) dX0_search_90 ⟨Nat.le_refl _, Nat.le_refl _⟩ (fun b u2 H locs hp hH => ?_)
                obtain ⟨hb01, hf2, hp0, hp1⟩ := hp
                have hf3 := hfz.tr (hf2.wd (by decide))
                have e3 : u2 3 = upd (u1 3) j z := hf2 3 (by decide)
                have e5 : u2 5 0 = u1 5 0 := congrFun (hf2 5 (by decide)) 0
                have e6 : u2 6 0 = u1 6 0 := congrFun (hf2 6 (by decide)) 0
                refine lv_if_eq (tgt := 102) S.1 S.2.1 dX0_search_93 (by decide) (fun c5 => ?_) (fun c5 => ?_)
                · refine lv_iload_n S.1 S.2.1 dX0_search_102 rfl (lv_at hl 1 rfl) ?_
                  refine K103 (nI j) u2 H locs hf3 ?_ hH
                  rw [e3, e5, e6]
                  exact ss_stay hw hj8 hdf h3j hbi hmu hz.symm hzn (hp0 c5)
                · refine lv_iload_n S.1 S.2.1 dX0_search_96 rfl (lv_at hl 1 rfl) ?_
                  refine lv_iconst (v := 1) S.1 S.2.1 dX0_search_97 (by decide) ?_
                  refine lv_isub S.1 S.2.1 dX0_search_98 ?_
                  refine lv_goto (tgt := 103) S.1 S.2.1 dX0_search_99 (by decide) ?_
                  have h1 := hp1 (hb01.resolve_left c5)
                  refine K103 (nI j - 1) u2 H locs hf3 ?_ hH
                  rw [e3, e5, e6]
                  exact ss_down hw hj8 hdf h3j hbi hmu hz.symm hzn h1.1 h1.2
              · refine lv_iload_n S.1 S.2.1 dX0_search_83 rfl (lv_at hl 1 rfl) ?_
                refine lv_iconst (v := 1) S.1 S.2.1 dX0_search_84 (by decide) ?_
                refine lv_iadd S.1 S.2.1 dX0_search_85 ?_
                refine lv_as (nI (j + 1)) (nI_1 j) ?_
                refine lv_goto (tgt := 103) S.1 S.2.1 dX0_search_86 (by decide) ?_
                have hzn : z = -1 := by
                  rcases hrng with q | q | q
                  · exact q
                  · rw [q] at c4; exact absurd (by decide) c4
                  · rw [q] at c4; exact absurd (by decide) c4
                refine K103 _ _ H locs hfz ?_ hH
                show ss_in n cs wt (upd (u1 3) j z) (u 4) (u1 5 0) (u1 6 0) _ _
                rw [hzn]
                exact ss_up hw hj8 hdf h3j hbi hmu (hz.symm.trans hzn)
            · exact absurd c3 (by decide)
            · exact absurd (by decide) c2
          · rcases hin with ⟨j, hj8, rfl, -⟩ | ⟨rfl, hv, hbi, hhd, hlt, hmu⟩ | ⟨rfl, -⟩
            · exact absurd (nI_le (a := 0) (Nat.zero_le _) (by omega)) c3
            · refine lv_aload_n S.1 S.2.1 dX0_search_55 rfl (lv_at hl 0 rfl) ?_
              refine gMu.call (As := []) (rest := []) (x_leaf l D ad ka u1 n cs wt hu1 (fun i hi => (hv i hi).1)) S hH (cwV 0 S.2.2.2.2 (lw_V q97 q99 qs3 q16 q100) rfl rfl rfl (by decide +kernel) ⟨Nat.le_of_ble_eq_true rfl, Nat.le_of_ble_eq_true rfl⟩) (x_recv hH) rfl hl.1 rfl (Nat.le_of_ble_eq_true rfl) dX0_search_56 ⟨Nat.le_refl _, Nat.le_refl _⟩ (fun b u2 H locs hp hH => ?_)
              obtain ⟨rfl, b1, b2, rfl, hb1, hb2⟩ := hp
              refine lv_istore_n (lv' := [(1, .int (0)), (0, .ref (ad 0)), (2, .int (nI st))]) S.1 S.2.1 dX0_search_59 rfl hl (by decide) rfl (fun ls hl => ?_)
              refine lv_goto (tgt := 104) S.1 S.2.1 dX0_search_60 (by decide) ?_
              refine K104 0 _ H locs ls ((hf.up (by decide)).up (by decide)) ?_ hH (lv_sub hl [1, 0, 2] rfl)
              show ss_in n cs wt (u1 3) (u 4) (b1 0) (b2 0) 0 (st + 1)
              rw [hb1, hb2]
              exact ss_leaf hw hv hbi hhd hlt hmu
            · exact absurd (by decide) c3
  have init : ∀ (q j : Nat) (u1 : XS) (H : Heap) (locs : List Loc) (ls : Array Slot), j + q = 8 → x_fr [3, 5, 6, 7, 8, 9, 10, 11, 12] u u1 → u1 5 0 = nI 2000 → u1 6 0 = -1 → (∀ i, i < j → u1 3 i = -1) → gH D (xT ka) (xW ad ka u1) A s H locs → lv_has ls 3 [(0, .ref (ad 0)), (1, .int (nI j))] → W p l e ss_r3 s m args below meth c H locs 0 0 (MQ below (va_Qv (fun (u1 : XS) => x_fr [3, 5, 6, 7, 8, 9, 10, 11, 12] u u1 ∧ ss_bi n cs wt 256 (ss_G (u 4)) (u1 5 0) (u1 6 0)) (gB D (xT ka) (xW ad ka) A) A) args s 0 0 A) (F0 m 14 ls []) := by
    intro q
    induction q with
    | zero =>
      intro j u1 H locs ls hj hf h5 h6 hg hH hl
      refine lv_iload_n S.1 S.2.1 dX0_search_14 rfl (lv_at hl 1 rfl) ?_
      refine lv_bipush (v := nI 8) S.1 S.2.1 dX0_search_15 (by decide) ?_
      refine lv_icmp_ge (tgt := 33) S.1 S.2.1 dX0_search_17 (by decide) (fun c1 => ?_) (fun c1 => ?_)
      · refine lv_bipush (v := nI 7) S.1 S.2.1 dX0_search_33 (by decide) ?_
        refine lv_istore_n (lv' := [(1, .int (nI 7)), (0, .ref (ad 0))]) S.1 S.2.1 dX0_search_35 rfl hl (by decide) rfl (fun ls hl => ?_)
        refine lv_iconst (v := nI 0) S.1 S.2.1 dX0_search_36 (by decide) ?_
        refine lv_istore_n (lv' := [(2, .int (nI 0)), (1, .int (nI 7)), (0, .ref (ad 0))]) S.1 S.2.1 dX0_search_37 rfl hl (by decide) rfl (fun ls hl => ?_)
        refine main 1022 0 (nI 7) u1 H locs ls rfl hf ?_ hH (lv_sub hl [2, 1, 0] rfl)
        rw [h5, h6]
        exact ss_start hw (fun i hi => hg i (by omega))
      · exact absurd (nI_le (by omega) (by omega)) c1
    | succ q ih =>
      intro j u1 H locs ls hj hf h5 h6 hg hH hl
      refine lv_iload_n S.1 S.2.1 dX0_search_14 rfl (lv_at hl 1 rfl) ?_
      refine lv_bipush (v := nI 8) S.1 S.2.1 dX0_search_15 (by decide) ?_
      refine lv_icmp_ge (tgt := 33) S.1 S.2.1 dX0_search_17 (by decide) (fun c1 => ?_) (fun c1 => ?_)
      · exact absurd ((nI_leI (by omega) (by omega)).mp c1) (by omega)
      · refine lv_aload_n S.1 S.2.1 dX0_search_20 rfl (lv_at hl 0 rfl) ?_
        refine xg3 S hH dX0_search_21 ?_
        refine lv_iload_n S.1 S.2.1 dX0_search_24 rfl (lv_at hl 1 rfl) ?_
        refine lv_iconst (v := (-1)) S.1 S.2.1 dX0_search_25 (by decide) ?_
        refine xs3 S hH (j) (by omega) dX0_search_26 (fun H locs hH => ?_)
        refine lv_inc (k := 1) (j := j) (lv' := [(1, .int (nI (j + 1))), (0, .ref (ad 0))]) S dX0_search_27 hl rfl (by decide) rfl (fun ls hl => ?_)
        refine lv_goto (tgt := 14) S.1 S.2.1 dX0_search_30 (by decide) ?_
        refine ih (j + 1) (xup u1 3 (upd (u1 3) j (-1))) H locs ls (by omega) (hf.up (by decide)) h5 h6 (fun i hi => ?_) hH (lv_sub hl [1, 0] rfl)
        show upd (u1 3) j (-1) i = -1
        by_cases q : i = j
        · subst q; exact upd_s _ _ _
        · rw [upd_n _ _ q]; exact hg i (by omega)
  refine lv_aload_n S.1 S.2.1 dX0_search_0 rfl (lv_at hl 0 rfl) ?_
  refine lv_sipush (v := nI 2000) S.1 S.2.1 dX0_search_1 (by decide) ?_
  refine xp5 S hH dX0_search_4 (fun H locs hH => ?_)
  refine lv_aload_n S.1 S.2.1 dX0_search_7 rfl (lv_at hl 0 rfl) ?_
  refine lv_iconst (v := (-1)) S.1 S.2.1 dX0_search_8 (by decide) ?_
  refine xp6 S hH dX0_search_9 (fun H locs hH => ?_)
  refine lv_iconst (v := nI 0) S.1 S.2.1 dX0_search_12 (by decide) ?_
  refine lv_istore_n (lv' := [(1, .int (nI 0)), (0, .ref (ad 0))]) S.1 S.2.1 dX0_search_13 rfl hl (by decide) rfl (fun ls hl => ?_)
  exact init 8 0 _ H locs ls rfl ((x_fr.rf.up (by decide)).up (by decide)) rfl rfl (fun i h => absurd h (Nat.not_lt_zero _)) hH (lv_sub hl [1, 0] rfl)
end
section
set_option maxRecDepth 100000
/-! SoftSolver: what is asked -/
theorem ss_G_all {g : Nat → Int32} (hg : ∀ i, i < 8 → g i = -1) : ∀ a, a < 256 → (ss_G g a ↔ True) :=
  fun a _ => ⟨fun _ => trivial, fun _ i hi => Or.inl (by rw [hg i hi]; decide)⟩
theorem ss_bi_nn {n : Nat} {cs wt : Nat → Nat} {N : Nat} {G : Nat → Prop} {bl ba : Int32} (hw : ss_w n cs wt) (h : ss_bi n cs wt N G bl ba) : ¬ bl < 0 := by
  rcases h with ⟨-, h, -⟩ | ⟨a, -, -, h, -⟩
  · rw [h]; exact nI_pos (by omega)
  · have := ss_ls_le hw a
    rw [h]; exact nI_pos (by omega)
/-- the literal is so -/
def ss_lit (x a : Nat) : Prop := a.testBit (x / 2) ≠ decide (x % 2 = 1)
def ss_kp (n : Nat) (cs wt : Nat → Nat) (b : Int32) : Int32 := if b < 0 then -1 else nI (fb_ct (fun k => decide (0 < wt k) && ss_sat (cs k) b.toNatClampNeg 16) n)
/-- the low bits of an int -/
abbrev ss_u (x : Int32) (k : Nat) : Nat := x.toBitVec.toNat % 2 ^ k
theorem bt_u (x : Int32) (k : Nat) {i : Nat} (hi : i < k) : (ss_u x k).testBit i = bt x i := by
  unfold ss_u bt
  rw [Nat.testBit_mod_two_pow, BitVec.getLsbD]
  simp [hi]
theorem ss_and1 (x : Int32) : x &&& 1 = nI (ss_u x 4 % 2) := by
  rw [pk_and x 1 (by decide)]
  congr 1
  unfold ss_u
  omega
theorem ss_shr7 (x : Int32) : (x >>> ((1 : Int32) &&& 31)) &&& 7 = nI (ss_u x 4 / 2) := by
  apply b_ext
  intro i hi
  have hs := b_sshr 1 (by omega) x hi
  rw [show (nI 1 &&& 31 : Int32) = (1 : Int32) &&& 31 from rfl] at hs
  rw [b_and, hs, bt_nI _ hi, Nat.testBit_div_two]
  have h7 : bt 7 i = decide (i < 3) := (by decide +kernel : ∀ i, i < 32 → bt 7 i = decide (i < 3)) i hi
  rw [h7]
  by_cases q : i < 3
  · rw [if_pos (by omega), decide_eq_true q, Bool.and_true, bt_u x 4 (by omega), Nat.add_comm]
  · rw [decide_eq_false q, Bool.and_false]
    unfold ss_u
    rw [Nat.testBit_mod_two_pow, decide_eq_false (by omega), Bool.false_and]
theorem ss_G_with {g : Nat → Int32} (hg : ∀ i, i < 8 → g i = -1) {x : Nat} (hx : x < 16) : ∀ a, a < 256 → (ss_G (upd g (x / 2) (1 - nI (x % 2))) a ↔ ss_lit x a) := by
  intro a _
  have hv : (1 : Int32) - nI (x % 2) = if x % 2 = 1 then 0 else 1 := by
    rcases Nat.mod_two_eq_zero_or_one x with q | q <;> rw [q] <;> decide
  constructor
  · intro h
    have h1 := h (x / 2) (by omega)
    rw [upd_s, hv] at h1
    unfold ss_lit
    rcases Nat.mod_two_eq_zero_or_one x with q | q
    · rw [q] at h1 ⊢
      rw [if_neg (by decide)] at h1
      rcases h1 with z | z
      · exact absurd z (by decide)
      · unfold ss_b at z
        by_cases t : a.testBit (x / 2) = true
        · rw [t]; decide
        · rw [if_neg t] at z; exact absurd z (by decide)
    · rw [q] at h1 ⊢
      rw [if_pos rfl] at h1
      rcases h1 with z | z
      · exact absurd z (by decide)
      · unfold ss_b at z
        by_cases t : a.testBit (x / 2) = true
        · rw [if_pos t] at z; exact absurd z (by decide)
        · rw [Bool.not_eq_true] at t; rw [t]; decide
  · intro h i hi
    by_cases q : i = x / 2
    · subst q
      right
      rw [upd_s, hv]
      unfold ss_lit at h
      unfold ss_b
      rcases Nat.mod_two_eq_zero_or_one x with q | q
      · rw [q] at h ⊢
        rw [if_neg (by decide)]
        by_cases t : a.testBit (x / 2) = true
        · rw [if_pos t]
        · rw [Bool.not_eq_true] at t; rw [t] at h; exact absurd (by decide) h
      · rw [q] at h ⊢
        rw [if_pos rfl]
        by_cases t : a.testBit (x / 2) = true
        · rw [t] at h; exact absurd (by decide) h
        · rw [if_neg t]
    · left
      rw [upd_n _ _ q, hg i hi]
      decide
/-- what is given, out of the first l literals of a clause that must be false -/
def ss_gv (c : Nat) (giv : Nat → Int32) (l : Nat) : Prop := ∀ v, v < 8 → (giv v = -1 ∧ ∀ i, i < l → i / 2 = v → ¬ c.testBit i = true) ∨ ∃ i, i < l ∧ i / 2 = v ∧ c.testBit i = true ∧ giv v = nI (i % 2) ∧ ∀ j, j < l → j / 2 = v → c.testBit j = true → j = i
theorem ss_gv_0 {c : Nat} {giv : Nat → Int32} (hg : ∀ i, i < 8 → giv i = -1) : ss_gv c giv 0 := fun v hv => Or.inl ⟨hg v hv, fun i hi => absurd hi (Nat.not_lt_zero _)⟩
theorem ss_gv_no {c : Nat} {giv : Nat → Int32} {l : Nat} (h : ss_gv c giv l) (hb : ¬ c.testBit l = true) : ss_gv c giv (l + 1) := by
  intro v hv
  rcases h v hv with ⟨h1, h2⟩ | ⟨i, h1, h2, h3, h4, h5⟩
  · refine Or.inl ⟨h1, fun i hi e => ?_⟩
    rcases Nat.lt_or_ge i l with q | q
    · exact h2 i q e
    · have e2 : i = l := by omega
      subst e2; exact hb
  · refine Or.inr ⟨i, by omega, h2, h3, h4, fun j hj e t => ?_⟩
    rcases Nat.lt_or_ge j l with q | q
    · exact h5 j q e t
    · have e2 : j = l := by omega
      subst e2; exact absurd t hb
theorem ss_gv_yes {c : Nat} {giv : Nat → Int32} {l : Nat} (h : ss_gv c giv l) (hl : l < 16) (hb : c.testBit l = true) (hn : giv (l / 2) < 0 ∨ giv (l / 2) = nI (l % 2)) : ss_gv c (upd giv (l / 2) (nI (l % 2))) (l + 1) := by
  have h0 : ∀ i, i < l → i / 2 = l / 2 → ¬ c.testBit i = true := by
    rcases h (l / 2) (by omega) with ⟨h1, h2⟩ | ⟨i, h1, h2, h3, h4, h5⟩
    · exact h2
    · exfalso
      rcases hn with q | q
      · rw [h4] at q; exact nI_pos (by omega) q
      · have := (nI_eq (by omega) (by omega)).mp (h4.symm.trans q)
        omega
  intro v hv
  by_cases e : v = l / 2
  · subst e
    refine Or.inr ⟨l, by omega, rfl, hb, upd_s _ _ _, fun j hj e t => ?_⟩
    rcases Nat.lt_or_ge j l with q | q
    · exact absurd t (h0 j q e)
    · omega
  · rcases h v hv with ⟨h1, h2⟩ | ⟨i, h1, h2, h3, h4, h5⟩
    · refine Or.inl ⟨by rw [upd_n _ _ e]; exact h1, fun i hi e3 => ?_⟩
      rcases Nat.lt_or_ge i l with q | q
      · exact h2 i q e3
      · exact absurd (show v = l / 2 by rw [← e3]; congr 1; omega) e
    · refine Or.inr ⟨i, by omega, h2, h3, by rw [upd_n _ _ e]; exact h4, fun j hj e3 t => ?_⟩
      rcases Nat.lt_or_ge j l with q | q
      · exact h5 j q e3 t
      · exact absurd (show v = l / 2 by rw [← e3]; congr 1; omega) e
/-- both literals of a variable: never false -/
theorem ss_gv_both {c : Nat} {giv : Nat → Int32} {l : Nat} (h : ss_gv c giv l) (hl : l < 16) (hb : c.testBit l = true) (h1 : ¬ giv (l / 2) < 0) (h2 : ¬ giv (l / 2) = nI (l % 2)) (a : Nat) : ss_sat c a 16 = true := by
  rcases h (l / 2) (by omega) with ⟨q1, q2⟩ | ⟨i, q1, q2, q3, q4, q5⟩
  · exact absurd (by rw [q1]; decide) h1
  · have hne : i % 2 ≠ l % 2 := fun z => h2 (by rw [q4, z])
    rw [ss_sat_v]
    refine ⟨l / 2, by omega, ?_⟩
    unfold ss_li
    rcases Nat.mod_two_eq_zero_or_one l with z | z
    · split
      · rw [show 2 * (l / 2) = l by omega]; exact hb
      · rw [show 2 * (l / 2) + 1 = i by omega]; exact q3
    · split
      · rw [show 2 * (l / 2) = i by omega]; exact q3
      · rw [show 2 * (l / 2) + 1 = l by omega]; exact hb
theorem ss_gv_G {c : Nat} {giv : Nat → Int32} (h : ss_gv c giv 16) : ∀ a, a < 256 → (ss_G giv a ↔ ss_sat c a 16 = false) := by
  intro a _
  constructor
  · intro hG
    cases hs : ss_sat c a 16
    · rfl
    · exfalso
      obtain ⟨v, hv, hc⟩ := (ss_sat_v c a).mp hs
      rcases h v hv with ⟨q1, q2⟩ | ⟨i, q1, q2, q3, q4, q5⟩
      · exact q2 (ss_li a v) (ss_li_lt hv) (ss_li_div a v) hc
      · have e := q5 (ss_li a v) (ss_li_lt hv) (ss_li_div a v) hc
        rcases hG v hv with z | z
        · rw [q4] at z; exact nI_pos (by omega) z
        · rw [q4, ← e] at z; exact ss_li_ne a v z
  · intro hs v hv
    rcases h v hv with ⟨q1, q2⟩ | ⟨i, q1, q2, q3, q4, q5⟩
    · left; rw [q1]; decide
    · right
      have := ss_unsat_fl (vals := ss_b a) hs (fun j _ => rfl) i q1 q3
      rw [q4, ← this, q2]
set_option maxHeartbeats 8000000 in
theorem x_possible (l : Launch) (D : va_G) (ad : Nat → Nat) (ka : Nat → ClassId) (u : XS) (n : Nat) (cs wt : Nat → Nat) (hu : x_ok n cs wt u)  : gMu l yX0_possible cX0_possible 1 (some .int) ss_r4 D (xT ka) (xW ad ka) u [.ref (ad 0)] (fun (r : Int32) (u1 : XS) => x_ok n cs wt u1 ∧ ∃ r0, ss_min n cs wt 256 (fun _ => True) r0 ∧ r = if r0 < 0 then 0 else 1) := by
  refine gMu.ofW RX0 rfl (by decide) (Nat.le_of_ble_eq_true rfl) ?_
  intro p e s m args below meth c A S hr hlk hH ls hl
  have hl : lv_has ls 1 [(0, .ref (ad 0))] := hl
  have hw := hu.2.2
  have hn := hw.1
  refine lv_aload_n S.1 S.2.1 dX0_possible_0 rfl (lv_at hl 0 rfl) ?_
  refine gMv.call (As := []) (rest := []) (x_free l D ad ka u) S hH (cwV 0 S.2.2.2.2 (lw_V q89 q91 qs1 q16 q92) rfl rfl rfl (by decide +kernel) ⟨Nat.le_of_ble_eq_true rfl, Nat.le_of_ble_eq_true rfl⟩) (x_recv hH) rfl hl.1 rfl (Nat.le_of_ble_eq_true rfl) dX0_possible_1 ⟨Nat.le_refl _, Nat.le_refl _⟩ (fun u1 H locs hp hH => ?_)
  obtain ⟨g, hg, rfl⟩ := hp
  have hu1 : x_ok n cs wt (xup u 4 g) := hu.mv rfl rfl rfl
  refine lv_aload_n S.1 S.2.1 dX0_possible_4 rfl (lv_at hl 0 rfl) ?_
  refine gMv.call (As := []) (rest := []) (x_search l D ad ka (xup u 4 g) n cs wt hu1) S hH (cwV 0 S.2.2.2.2 (lw_V q93 q95 qs2 q16 q96) rfl rfl rfl (by decide +kernel) ⟨Nat.le_of_ble_eq_true rfl, Nat.le_of_ble_eq_true rfl⟩) (x_recv hH) rfl hl.1 rfl (Nat.le_of_ble_eq_true rfl) dX0_possible_5 ⟨Nat.le_refl _, Nat.le_refl _⟩ (fun u2 H locs hp hH => ?_)
  obtain ⟨hf, hbi⟩ := hp
  have hu2 := hu1.mv (hf 0 (by decide)) (hf 1 (by decide)) (hf 2 (by decide))
  obtain ⟨hbest, hmin, hcase⟩ := ss_bi_end hbi
  have hnn := ss_bi_nn hw hbi
  refine lv_aload_n S.1 S.2.1 dX0_possible_8 rfl (lv_at hl 0 rfl) ?_
  refine xg6 S hH dX0_possible_9 ?_
  have hmin := ss_min_G (ss_G_all hg) hmin
  refine lv_if_lt (tgt := 19) S.1 S.2.1 dX0_possible_12 (by decide) (fun c1 => ?_) (fun c1 => ?_)
  · refine lv_iconst (v := 0) S.1 S.2.1 dX0_possible_19 (by decide) ?_
    exact gMu.iret S hr hlk hH ⟨hu2, _, hmin, by rw [if_pos c1, if_pos (by decide)]⟩ dX0_possible_20
  · refine lv_iconst (v := 1) S.1 S.2.1 dX0_possible_15 (by decide) ?_
    refine lv_goto (tgt := 20) S.1 S.2.1 dX0_possible_16 (by decide) ?_
    exact gMu.iret S hr hlk hH ⟨hu2, _, hmin, by rw [if_neg c1, if_neg hnn]⟩ dX0_possible_20
set_option maxHeartbeats 8000000 in
theorem x_loss (l : Launch) (D : va_G) (ad : Nat → Nat) (ka : Nat → ClassId) (u : XS) (n : Nat) (cs wt : Nat → Nat) (hu : x_ok n cs wt u)  : gMu l yX0_loss cX0_loss 1 (some .int) ss_r4 D (xT ka) (xW ad ka) u [.ref (ad 0)] (fun (r : Int32) (u1 : XS) => x_ok n cs wt u1 ∧ ss_min n cs wt 256 (fun _ => True) r) := by
  refine gMu.ofW RX0 rfl (by decide) (Nat.le_of_ble_eq_true rfl) ?_
  intro p e s m args below meth c A S hr hlk hH ls hl
  have hl : lv_has ls 1 [(0, .ref (ad 0))] := hl
  have hw := hu.2.2
  have hn := hw.1
  refine lv_aload_n S.1 S.2.1 dX0_loss_0 rfl (lv_at hl 0 rfl) ?_
  refine gMv.call (As := []) (rest := []) (x_free l D ad ka u) S hH (cwV 0 S.2.2.2.2 (lw_V q89 q91 qs1 q16 q92) rfl rfl rfl (by decide +kernel) ⟨Nat.le_of_ble_eq_true rfl, Nat.le_of_ble_eq_true rfl⟩) (x_recv hH) rfl hl.1 rfl (Nat.le_of_ble_eq_true rfl) dX0_loss_1 ⟨Nat.le_refl _, Nat.le_refl _⟩ (fun u1 H locs hp hH => ?_)
  obtain ⟨g, hg, rfl⟩ := hp
  have hu1 : x_ok n cs wt (xup u 4 g) := hu.mv rfl rfl rfl
  refine lv_aload_n S.1 S.2.1 dX0_loss_4 rfl (lv_at hl 0 rfl) ?_
  refine gMv.call (As := []) (rest := []) (x_search l D ad ka (xup u 4 g) n cs wt hu1) S hH (cwV 0 S.2.2.2.2 (lw_V q93 q95 qs2 q16 q96) rfl rfl rfl (by decide +kernel) ⟨Nat.le_of_ble_eq_true rfl, Nat.le_of_ble_eq_true rfl⟩) (x_recv hH) rfl hl.1 rfl (Nat.le_of_ble_eq_true rfl) dX0_loss_5 ⟨Nat.le_refl _, Nat.le_refl _⟩ (fun u2 H locs hp hH => ?_)
  obtain ⟨hf, hbi⟩ := hp
  have hu2 := hu1.mv (hf 0 (by decide)) (hf 1 (by decide)) (hf 2 (by decide))
  obtain ⟨hbest, hmin, hcase⟩ := ss_bi_end hbi
  have hnn := ss_bi_nn hw hbi
  refine lv_aload_n S.1 S.2.1 dX0_loss_8 rfl (lv_at hl 0 rfl) ?_
  refine xg6 S hH dX0_loss_9 ?_
  have hmin := ss_min_G (ss_G_all hg) hmin
  refine lv_if_lt (tgt := 22) S.1 S.2.1 dX0_loss_12 (by decide) (fun c1 => ?_) (fun c1 => ?_)
  · refine lv_iconst (v := (-1)) S.1 S.2.1 dX0_loss_22 (by decide) ?_
    rw [if_pos c1] at hmin
    exact gMu.iret S hr hlk hH ⟨hu2, hmin⟩ dX0_loss_23
  · refine lv_aload_n S.1 S.2.1 dX0_loss_15 rfl (lv_at hl 0 rfl) ?_
    refine xg5 S hH dX0_loss_16 ?_
    refine lv_goto (tgt := 23) S.1 S.2.1 dX0_loss_19 (by decide) ?_
    rw [if_neg c1] at hmin
    exact gMu.iret S hr hlk hH ⟨hu2, hmin⟩ dX0_loss_23
set_option maxHeartbeats 8000000 in
theorem x_best (l : Launch) (D : va_G) (ad : Nat → Nat) (ka : Nat → ClassId) (u : XS) (n : Nat) (cs wt : Nat → Nat) (hu : x_ok n cs wt u)  : gMu l yX0_best cX0_best 1 (some .int) ss_r4 D (xT ka) (xW ad ka) u [.ref (ad 0)] (fun (r : Int32) (u1 : XS) => x_ok n cs wt u1 ∧ ss_best n cs wt 256 (fun _ => True) r) := by
  refine gMu.ofW RX0 rfl (by decide) (Nat.le_of_ble_eq_true rfl) ?_
  intro p e s m args below meth c A S hr hlk hH ls hl
  have hl : lv_has ls 1 [(0, .ref (ad 0))] := hl
  have hw := hu.2.2
  have hn := hw.1
  refine lv_aload_n S.1 S.2.1 dX0_best_0 rfl (lv_at hl 0 rfl) ?_
  refine gMv.call (As := []) (rest := []) (x_free l D ad ka u) S hH (cwV 0 S.2.2.2.2 (lw_V q89 q91 qs1 q16 q92) rfl rfl rfl (by decide +kernel) ⟨Nat.le_of_ble_eq_true rfl, Nat.le_of_ble_eq_true rfl⟩) (x_recv hH) rfl hl.1 rfl (Nat.le_of_ble_eq_true rfl) dX0_best_1 ⟨Nat.le_refl _, Nat.le_refl _⟩ (fun u1 H locs hp hH => ?_)
  obtain ⟨g, hg, rfl⟩ := hp
  have hu1 : x_ok n cs wt (xup u 4 g) := hu.mv rfl rfl rfl
  refine lv_aload_n S.1 S.2.1 dX0_best_4 rfl (lv_at hl 0 rfl) ?_
  refine gMv.call (As := []) (rest := []) (x_search l D ad ka (xup u 4 g) n cs wt hu1) S hH (cwV 0 S.2.2.2.2 (lw_V q93 q95 qs2 q16 q96) rfl rfl rfl (by decide +kernel) ⟨Nat.le_of_ble_eq_true rfl, Nat.le_of_ble_eq_true rfl⟩) (x_recv hH) rfl hl.1 rfl (Nat.le_of_ble_eq_true rfl) dX0_best_5 ⟨Nat.le_refl _, Nat.le_refl _⟩ (fun u2 H locs hp hH => ?_)
  obtain ⟨hf, hbi⟩ := hp
  have hu2 := hu1.mv (hf 0 (by decide)) (hf 1 (by decide)) (hf 2 (by decide))
  obtain ⟨hbest, hmin, hcase⟩ := ss_bi_end hbi
  have hnn := ss_bi_nn hw hbi
  refine lv_aload_n S.1 S.2.1 dX0_best_8 rfl (lv_at hl 0 rfl) ?_
  refine xg6 S hH dX0_best_9 ?_
  exact gMu.iret S hr hlk hH ⟨hu2, ss_best_G (ss_G_all hg) hbest⟩ dX0_best_12
set_option maxHeartbeats 8000000 in
theorem x_with (l : Launch) (D : va_G) (ad : Nat → Nat) (ka : Nat → ClassId) (u : XS) (n : Nat) (cs wt : Nat → Nat) (hu : x_ok n cs wt u) (x : Int32) : gMu l yX0_lossWith cX0_lossWith 2 (some .int) ss_r4 D (xT ka) (xW ad ka) u [.ref (ad 0), .int x] (fun (r : Int32) (u1 : XS) => x_ok n cs wt u1 ∧ ss_min n cs wt 256 (ss_lit (ss_u x 4)) r) := by
  refine gMu.ofW RX0 rfl (by decide) (Nat.le_of_ble_eq_true rfl) ?_
  intro p e s m args below meth c A S hr hlk hH ls hl
  have hl : lv_has ls 2 [(0, .ref (ad 0)), (1, .int x)] := hl
  have hw := hu.2.2
  have hn := hw.1
  have hx16 : ss_u x 4 < 16 := Nat.mod_lt _ (by decide)
  refine lv_aload_n S.1 S.2.1 dX0_lossWith_0 rfl (lv_at hl 0 rfl) ?_
  refine gMv.call (As := []) (rest := []) (x_free l D ad ka u) S hH (cwV 0 S.2.2.2.2 (lw_V q89 q91 qs1 q16 q92) rfl rfl rfl (by decide +kernel) ⟨Nat.le_of_ble_eq_true rfl, Nat.le_of_ble_eq_true rfl⟩) (x_recv hH) rfl hl.1 rfl (Nat.le_of_ble_eq_true rfl) dX0_lossWith_1 ⟨Nat.le_refl _, Nat.le_refl _⟩ (fun u1 H locs hp hH => ?_)
  obtain ⟨g, hg, rfl⟩ := hp
  have hu1 : x_ok n cs wt (xup u 4 g) := hu.mv rfl rfl rfl
  refine lv_aload_n S.1 S.2.1 dX0_lossWith_4 rfl (lv_at hl 0 rfl) ?_
  refine xg4 S hH dX0_lossWith_5 ?_
  refine lv_iload_n S.1 S.2.1 dX0_lossWith_8 rfl (lv_at hl 1 rfl) ?_
  refine lv_iconst (v := 1) S.1 S.2.1 dX0_lossWith_9 (by decide) ?_
  refine lv_ishr S.1 S.2.1 dX0_lossWith_10 ?_
  refine lv_bipush (v := 7) S.1 S.2.1 dX0_lossWith_11 (by decide) ?_
  refine lv_iand S.1 S.2.1 dX0_lossWith_13 ?_
  refine lv_as (nI (ss_u x 4 / 2)) (ss_shr7 x) ?_
  refine lv_iconst (v := 1) S.1 S.2.1 dX0_lossWith_14 (by decide) ?_
  refine lv_iload_n S.1 S.2.1 dX0_lossWith_15 rfl (lv_at hl 1 rfl) ?_
  refine lv_iconst (v := 1) S.1 S.2.1 dX0_lossWith_16 (by decide) ?_
  refine lv_iand S.1 S.2.1 dX0_lossWith_17 ?_
  refine lv_as (nI (ss_u x 4 % 2)) (ss_and1 x) ?_
  refine lv_isub S.1 S.2.1 dX0_lossWith_18 ?_
  refine xs4 S hH (ss_u x 4 / 2) (by omega) dX0_lossWith_19 (fun H locs hH => ?_)
  refine lv_aload_n S.1 S.2.1 dX0_lossWith_20 rfl (lv_at hl 0 rfl) ?_
  have hu3 : x_ok n cs wt (xup (xup u 4 g) 4 (upd g (ss_u x 4 / 2) (1 - nI (ss_u x 4 % 2)))) := hu1.mv rfl rfl rfl
  refine gMv.call (As := []) (rest := []) (x_search l D ad ka (xup (xup u 4 g) 4 (upd g (ss_u x 4 / 2) (1 - nI (ss_u x 4 % 2)))) n cs wt hu3) S hH (cwV 0 S.2.2.2.2 (lw_V q93 q95 qs2 q16 q96) rfl rfl rfl (by decide +kernel) ⟨Nat.le_of_ble_eq_true rfl, Nat.le_of_ble_eq_true rfl⟩) (x_recv hH) rfl hl.1 rfl (Nat.le_of_ble_eq_true rfl) dX0_lossWith_21 ⟨Nat.le_refl _, Nat.le_refl _⟩ (fun u2 H locs hp hH => ?_)
  obtain ⟨hf, hbi⟩ := hp
  have hu2 := hu3.mv (hf 0 (by decide)) (hf 1 (by decide)) (hf 2 (by decide))
  obtain ⟨hbest, hmin, hcase⟩ := ss_bi_end hbi
  have hnn := ss_bi_nn hw hbi
  refine lv_aload_n S.1 S.2.1 dX0_lossWith_24 rfl (lv_at hl 0 rfl) ?_
  refine xg6 S hH dX0_lossWith_25 ?_
  have hmin := ss_min_G (ss_G_with hg hx16) hmin
  refine lv_if_lt (tgt := 38) S.1 S.2.1 dX0_lossWith_28 (by decide) (fun c1 => ?_) (fun c1 => ?_)
  · refine lv_iconst (v := (-1)) S.1 S.2.1 dX0_lossWith_38 (by decide) ?_
    rw [if_pos c1] at hmin
    exact gMu.iret S hr hlk hH ⟨hu2, hmin⟩ dX0_lossWith_39
  · refine lv_aload_n S.1 S.2.1 dX0_lossWith_31 rfl (lv_at hl 0 rfl) ?_
    refine xg5 S hH dX0_lossWith_32 ?_
    refine lv_goto (tgt := 39) S.1 S.2.1 dX0_lossWith_35 (by decide) ?_
    rw [if_neg c1] at hmin
    exact gMu.iret S hr hlk hH ⟨hu2, hmin⟩ dX0_lossWith_39
set_option maxHeartbeats 8000000 in
theorem x_against (l : Launch) (D : va_G) (ad : Nat → Nat) (ka : Nat → ClassId) (u : XS) (n : Nat) (cs wt : Nat → Nat) (hu : x_ok n cs wt u) (x : Int32) : gMu l yX0_lossAgainst cX0_lossAgainst 5 (some .int) ss_r4 D (xT ka) (xW ad ka) u [.ref (ad 0), .int x] (fun (r : Int32) (u1 : XS) => x_ok n cs wt u1 ∧ ss_min n cs wt 256 (fun a => ss_sat (ss_u x 16) a 16 = false) r) := by
  refine gMu.ofW RX0 rfl (by decide) (Nat.le_of_ble_eq_true rfl) ?_
  intro p e s m args below meth c A S hr hlk hH ls hl
  have hl : lv_has ls 5 [(0, .ref (ad 0)), (1, .int x)] := hl
  have hw := hu.2.2
  have hn := hw.1
  have loop : ∀ (q j : Nat) (u1 : XS) (H : Heap) (locs : List Loc) (ls : Array Slot), j + q = 16 → x_ok n cs wt u1 → ss_gv (ss_u x 16) (u1 4) j → gH D (xT ka) (xW ad ka u1) A s H locs → lv_has ls 5 [(0, .ref (ad 0)), (1, .int x), (2, .int (nI j))] → W p l e ss_r4 s m args below meth c H locs 0 0 (MQ below (va_Qi (fun (r : Int32) (u1 : XS) => x_ok n cs wt u1 ∧ ss_min n cs wt 256 (fun a => ss_sat (ss_u x 16) a 16 = false) r) (gB D (xT ka) (xW ad ka) A) A) args s 0 0 A) (F0 m 6 ls []) := by
    intro q
    induction q with
    | zero =>
      intro j u1 H locs ls hj hu1 hg hH hl
      refine lv_iload_n S.1 S.2.1 dX0_lossAgainst_6 rfl (lv_at hl 2 rfl) ?_
      refine lv_bipush (v := nI 16) S.1 S.2.1 dX0_lossAgainst_7 (by decide) ?_
      refine lv_icmp_ge (tgt := 65) S.1 S.2.1 dX0_lossAgainst_9 (by decide) (fun c1 => ?_) (fun c1 => ?_)
      · have ej : j = 16 := by omega
        subst ej
        refine lv_aload_n S.1 S.2.1 dX0_lossAgainst_65 rfl (lv_at hl 0 rfl) ?_
        refine gMv.call (As := []) (rest := []) (x_search l D ad ka u1 n cs wt hu1) S hH (cwV 0 S.2.2.2.2 (lw_V q93 q95 qs2 q16 q96) rfl rfl rfl (by decide +kernel) ⟨Nat.le_of_ble_eq_true rfl, Nat.le_of_ble_eq_true rfl⟩) (x_recv hH) rfl hl.1 rfl (Nat.le_of_ble_eq_true rfl) dX0_lossAgainst_66 ⟨Nat.le_refl _, Nat.le_refl _⟩ (fun u2 H locs hp hH => ?_)
        obtain ⟨hf, hbi⟩ := hp
        have hu2 := hu1.mv (hf 0 (by decide)) (hf 1 (by decide)) (hf 2 (by decide))
        obtain ⟨hbest, hmin, hcase⟩ := ss_bi_end hbi
        have hnn := ss_bi_nn hw hbi
        refine lv_aload_n S.1 S.2.1 dX0_lossAgainst_69 rfl (lv_at hl 0 rfl) ?_
        refine xg6 S hH dX0_lossAgainst_70 ?_
        have hmin := ss_min_G (ss_gv_G hg) hmin
        refine lv_if_lt (tgt := 83) S.1 S.2.1 dX0_lossAgainst_73 (by decide) (fun c2 => ?_) (fun c2 => ?_)
        · refine lv_iconst (v := (-1)) S.1 S.2.1 dX0_lossAgainst_83 (by decide) ?_
          rw [if_pos c2] at hmin
          exact gMu.iret S hr hlk hH ⟨hu2, hmin⟩ dX0_lossAgainst_84
        · refine lv_aload_n S.1 S.2.1 dX0_lossAgainst_76 rfl (lv_at hl 0 rfl) ?_
          refine xg5 S hH dX0_lossAgainst_77 ?_
          refine lv_goto (tgt := 84) S.1 S.2.1 dX0_lossAgainst_80 (by decide) ?_
          rw [if_neg c2] at hmin
          exact gMu.iret S hr hlk hH ⟨hu2, hmin⟩ dX0_lossAgainst_84
      · exact absurd (nI_le (by omega) (by omega)) c1
    | succ q ih =>
      intro j u1 H locs ls hj hu1 hg hH hl
      refine lv_iload_n S.1 S.2.1 dX0_lossAgainst_6 rfl (lv_at hl 2 rfl) ?_
      refine lv_bipush (v := nI 16) S.1 S.2.1 dX0_lossAgainst_7 (by decide) ?_
      refine lv_icmp_ge (tgt := 65) S.1 S.2.1 dX0_lossAgainst_9 (by decide) (fun c1 => ?_) (fun c1 => ?_)
      · exact absurd ((nI_leI (by omega) (by omega)).mp c1) (by omega)
      · have hj16 : j < 16 := by omega
        have hbt : (ss_u x 16).testBit j = bt x j := bt_u x 16 hj16
        refine lv_iload_n S.1 S.2.1 dX0_lossAgainst_12 rfl (lv_at hl 1 rfl) ?_
        refine lv_iload_n S.1 S.2.1 dX0_lossAgainst_13 rfl (lv_at hl 2 rfl) ?_
        refine lv_iushr S.1 S.2.1 dX0_lossAgainst_14 rfl ?_
        refine lv_iconst (v := 1) S.1 S.2.1 dX0_lossAgainst_15 (by decide) ?_
        refine lv_iand S.1 S.2.1 dX0_lossAgainst_16 ?_
        refine lv_as (if bt x j = true then 1 else 0) (ss_bit x j (by omega)) ?_
        refine lv_if_eq (tgt := 59) S.1 S.2.1 dX0_lossAgainst_17 (by decide) (fun c2 => ?_) (fun c2 => ?_)
        · have hb : ¬ (ss_u x 16).testBit j = true := fun z => by rw [hbt] at z; rw [if_pos z] at c2; exact absurd c2 (by decide)
          refine lv_inc (k := 2) (j := j) (lv' := [(2, .int (nI (j + 1))), (0, .ref (ad 0)), (1, .int x)]) S dX0_lossAgainst_59 hl rfl (by decide) rfl (fun ls hl => ?_)
          refine lv_goto (tgt := 6) S.1 S.2.1 dX0_lossAgainst_62 (by decide) ?_
          exact ih (j + 1) u1 H locs ls (by omega) hu1 (ss_gv_no hg hb) hH (lv_sub hl [1, 2, 0] rfl)
        · have hb : (ss_u x 16).testBit j = true := by
            rw [hbt]
            by_cases z : bt x j = true
            · exact z
            · rw [if_neg z] at c2; exact absurd rfl c2
          refine lv_iload_n S.1 S.2.1 dX0_lossAgainst_20 rfl (lv_at hl 2 rfl) ?_
          refine lv_iconst (v := 1) S.1 S.2.1 dX0_lossAgainst_21 (by decide) ?_
          refine lv_ishr S.1 S.2.1 dX0_lossAgainst_22 ?_
          refine lv_as (nI (j / 2)) (pk_shrN (by omega) _ 1 (by decide)) ?_
          refine lv_istore_n (lv' := [(3, .int (nI (j / 2))), (0, .ref (ad 0)), (1, .int x), (2, .int (nI j))]) S.1 S.2.1 dX0_lossAgainst_23 rfl hl (by decide) rfl (fun ls hl => ?_)
          refine lv_iload_n S.1 S.2.1 dX0_lossAgainst_24 rfl (lv_at hl 3 rfl) ?_
          refine lv_iconst (v := 1) S.1 S.2.1 dX0_lossAgainst_25 (by decide) ?_
          refine lv_iand S.1 S.2.1 dX0_lossAgainst_26 ?_
          refine lv_as (nI (j % 2)) (pk_andN (by omega) 1 (by decide)) ?_
          refine lv_istore (lv' := [(4, .int (nI (j % 2))), (3, .int (nI (j / 2))), (0, .ref (ad 0)), (1, .int x), (2, .int (nI j))]) S.1 S.2.1 dX0_lossAgainst_27 hl (by decide) rfl (fun ls hl => ?_)
          refine lv_aload_n S.1 S.2.1 dX0_lossAgainst_29 rfl (lv_at hl 2 rfl) ?_
          refine xg4 S hH dX0_lossAgainst_30 ?_
          refine lv_iload_n S.1 S.2.1 dX0_lossAgainst_33 rfl (lv_at hl 1 rfl) ?_
          refine xl4 S hH (j / 2) (by omega) dX0_lossAgainst_34 ?_
          have K : (u1 4 (j / 2) < 0 ∨ u1 4 (j / 2) = nI (j % 2)) → W p l e ss_r4 s m args below meth c H locs 0 0 (MQ below (va_Qi (fun (r : Int32) (u1 : XS) => x_ok n cs wt u1 ∧ ss_min n cs wt 256 (fun a => ss_sat (ss_u x 16) a 16 = false) r) (gB D (xT ka) (xW ad ka) A) A) args s 0 0 A) (F0 m 51 ls []) := by
            intro hok
            refine lv_aload_n S.1 S.2.1 dX0_lossAgainst_51 rfl (lv_at hl 2 rfl) ?_
            refine xg4 S hH dX0_lossAgainst_52 ?_
            refine lv_iload_n S.1 S.2.1 dX0_lossAgainst_55 rfl (lv_at hl 1 rfl) ?_
            refine lv_iload S.1 S.2.1 dX0_lossAgainst_56 (lv_at hl 0 rfl) ?_
            refine xs4 S hH (j / 2) (by omega) dX0_lossAgainst_58 (fun H locs hH => ?_)
            refine lv_inc (k := 4) (j := j) (lv' := [(2, .int (nI (j + 1))), (4, .int (nI (j % 2))), (3, .int (nI (j / 2))), (0, .ref (ad 0)), (1, .int x)]) S dX0_lossAgainst_59 hl rfl (by decide) rfl (fun ls hl => ?_)
            refine lv_goto (tgt := 6) S.1 S.2.1 dX0_lossAgainst_62 (by decide) ?_
            exact ih (j + 1) (xup u1 4 (upd (u1 4) (j / 2) (nI (j % 2)))) H locs ls (by omega) (hu1.mv rfl rfl rfl) (ss_gv_yes hg hj16 hb hok) hH (lv_sub hl [3, 4, 0] rfl)
          refine lv_if_lt (tgt := 51) S.1 S.2.1 dX0_lossAgainst_35 (by decide) (fun c3 => ?_) (fun c3 => ?_)
          · exact K (Or.inl c3)
          · refine lv_aload_n S.1 S.2.1 dX0_lossAgainst_38 rfl (lv_at hl 2 rfl) ?_
            refine xg4 S hH dX0_lossAgainst_39 ?_
            refine lv_iload_n S.1 S.2.1 dX0_lossAgainst_42 rfl (lv_at hl 1 rfl) ?_
            refine xl4 S hH (j / 2) (by omega) dX0_lossAgainst_43 ?_
            refine lv_iload S.1 S.2.1 dX0_lossAgainst_44 (lv_at hl 0 rfl) ?_
            refine lv_icmp_eq (tgt := 51) S.1 S.2.1 dX0_lossAgainst_46 (by decide) (fun c4 => ?_) (fun c4 => ?_)
            · exact K (Or.inr c4)
            · refine lv_iconst (v := (-1)) S.1 S.2.1 dX0_lossAgainst_49 (by decide) ?_
              exact gMu.iret S hr hlk hH ⟨hu1, Or.inl ⟨rfl, fun a ha => absurd ((ss_gv_both hg hj16 hb c3 c4 a).symm.trans (show ss_sat (ss_u x 16) a 16 = false from ha.2.1)) (by decide)⟩⟩ dX0_lossAgainst_50
  refine lv_aload_n S.1 S.2.1 dX0_lossAgainst_0 rfl (lv_at hl 0 rfl) ?_
  refine gMv.call (As := []) (rest := []) (x_free l D ad ka u) S hH (cwV 0 S.2.2.2.2 (lw_V q89 q91 qs1 q16 q92) rfl rfl rfl (by decide +kernel) ⟨Nat.le_of_ble_eq_true rfl, Nat.le_of_ble_eq_true rfl⟩) (x_recv hH) rfl hl.1 rfl (Nat.le_of_ble_eq_true rfl) dX0_lossAgainst_1 ⟨Nat.le_refl _, Nat.le_refl _⟩ (fun u1 H locs hp hH => ?_)
  obtain ⟨g, hg, rfl⟩ := hp
  have hu1 : x_ok n cs wt (xup u 4 g) := hu.mv rfl rfl rfl
  refine lv_iconst (v := nI 0) S.1 S.2.1 dX0_lossAgainst_4 (by decide) ?_
  refine lv_istore_n (lv' := [(2, .int (nI 0)), (0, .ref (ad 0)), (1, .int x)]) S.1 S.2.1 dX0_lossAgainst_5 rfl hl (by decide) rfl (fun ls hl => ?_)
  exact loop 16 0 _ H locs ls rfl hu1 (ss_gv_0 hg) hH (lv_sub hl [1, 2, 0] rfl)
set_option maxHeartbeats 8000000 in
theorem x_kept (l : Launch) (D : va_G) (ad : Nat → Nat) (ka : Nat → ClassId) (u : XS) (n : Nat) (cs wt : Nat → Nat) (hu : x_ok n cs wt u)  : gMu l yX0_kept cX0_kept 3 (some .int) ss_r4 D (xT ka) (xW ad ka) u [.ref (ad 0)] (fun (r : Int32) (u1 : XS) => x_ok n cs wt u1 ∧ ∃ b, ss_best n cs wt 256 (fun _ => True) b ∧ r = ss_kp n cs wt b) := by
  refine gMu.ofW RX0 rfl (by decide) (Nat.le_of_ble_eq_true rfl) ?_
  intro p e s m args below meth c A S hr hlk hH ls hl
  have hl : lv_has ls 3 [(0, .ref (ad 0))] := hl
  have hw := hu.2.2
  have hn := hw.1
  refine lv_aload_n S.1 S.2.1 dX0_kept_0 rfl (lv_at hl 0 rfl) ?_
  refine gMv.call (As := []) (rest := []) (x_free l D ad ka u) S hH (cwV 0 S.2.2.2.2 (lw_V q89 q91 qs1 q16 q92) rfl rfl rfl (by decide +kernel) ⟨Nat.le_of_ble_eq_true rfl, Nat.le_of_ble_eq_true rfl⟩) (x_recv hH) rfl hl.1 rfl (Nat.le_of_ble_eq_true rfl) dX0_kept_1 ⟨Nat.le_refl _, Nat.le_refl _⟩ (fun u1 H locs hp hH => ?_)
  obtain ⟨g, hg, rfl⟩ := hp
  have hu1 : x_ok n cs wt (xup u 4 g) := hu.mv rfl rfl rfl
  refine lv_aload_n S.1 S.2.1 dX0_kept_4 rfl (lv_at hl 0 rfl) ?_
  refine gMv.call (As := []) (rest := []) (x_search l D ad ka (xup u 4 g) n cs wt hu1) S hH (cwV 0 S.2.2.2.2 (lw_V q93 q95 qs2 q16 q96) rfl rfl rfl (by decide +kernel) ⟨Nat.le_of_ble_eq_true rfl, Nat.le_of_ble_eq_true rfl⟩) (x_recv hH) rfl hl.1 rfl (Nat.le_of_ble_eq_true rfl) dX0_kept_5 ⟨Nat.le_refl _, Nat.le_refl _⟩ (fun u2 H locs hp hH => ?_)
  obtain ⟨hf, hbi⟩ := hp
  have hu2 := hu1.mv (hf 0 (by decide)) (hf 1 (by decide)) (hf 2 (by decide))
  obtain ⟨hbest, hmin, hcase⟩ := ss_bi_end hbi
  have hnn := ss_bi_nn hw hbi
  have hbest := ss_best_G (ss_G_all hg) hbest
  refine lv_aload_n S.1 S.2.1 dX0_kept_8 rfl (lv_at hl 0 rfl) ?_
  refine xg6 S hH dX0_kept_9 ?_
  refine lv_if_ge (tgt := 17) S.1 S.2.1 dX0_kept_12 (by decide) (fun c1 => ?_) (fun c1 => ?_)
  · rcases hcase with ⟨h, -⟩ | ⟨hnb, B, hB, eB⟩
    · exact absurd h (by rw [fa_le] at c1; rw [fa_lt]; omega)
    · have loop : ∀ (q j t : Nat) (ls : Array Slot), j + q = n → t = fb_ct (fun k => decide (0 < wt k) && ss_sat (cs k) B 16) j → lv_has ls 3 [(0, .ref (ad 0)), (1, .int (nI t)), (2, .int (nI j))] → W p l e ss_r4 s m args below meth c H locs 0 0 (MQ below (va_Qi (fun (r : Int32) (u1 : XS) => x_ok n cs wt u1 ∧ ∃ b, ss_best n cs wt 256 (fun _ => True) b ∧ r = ss_kp n cs wt b) (gB D (xT ka) (xW ad ka) A) A) args s 0 0 A) (F0 m 21 ls []) := by
        intro q
        induction q with
        | zero =>
          intro j t ls hj ht hl
          refine lv_iload_n S.1 S.2.1 dX0_kept_21 rfl (lv_at hl 2 rfl) ?_
          refine lv_aload_n S.1 S.2.1 dX0_kept_22 rfl (lv_at hl 0 rfl) ?_
          refine xg0 S hH dX0_kept_23 ?_
          refine lv_as (nI n) hu2.1 ?_
          refine lv_icmp_ge (tgt := 64) S.1 S.2.1 dX0_kept_26 (by decide) (fun c2 => ?_) (fun c2 => ?_)
          · refine lv_iload_n S.1 S.2.1 dX0_kept_64 rfl (lv_at hl 1 rfl) ?_
            refine gMu.iret S hr hlk hH ⟨hu2, _, hbest, ?_⟩ dX0_kept_65
            rw [ss_kp, if_neg hnb, eB, nI_clamp (by omega), ht, show j = n by omega]
          · exact absurd (nI_le (by omega) (by omega)) c2
        | succ q ih =>
          intro j t ls hj ht hl
          refine lv_iload_n S.1 S.2.1 dX0_kept_21 rfl (lv_at hl 2 rfl) ?_
          refine lv_aload_n S.1 S.2.1 dX0_kept_22 rfl (lv_at hl 0 rfl) ?_
          refine xg0 S hH dX0_kept_23 ?_
          refine lv_as (nI n) hu2.1 ?_
          refine lv_icmp_ge (tgt := 64) S.1 S.2.1 dX0_kept_26 (by decide) (fun c2 => ?_) (fun c2 => ?_)
          · exact absurd ((nI_leI (by omega) (by omega)).mp c2) (by omega)
          · have hjn : j < n := by omega
            have hwj := (hw.2 j hjn).2
            have K : ∀ (y : Nat), y = (if (decide (0 < wt j) && ss_sat (cs j) B 16) = true then 1 else 0) → W p l e ss_r4 s m args below meth c H locs 0 0 (MQ below (va_Qi (fun (r : Int32) (u1 : XS) => x_ok n cs wt u1 ∧ ∃ b, ss_best n cs wt 256 (fun _ => True) b ∧ r = ss_kp n cs wt b) (gB D (xT ka) (xW ad ka) A) A) args s 0 0 A) (F0 m 56 ls [.int (nI y), .int (nI t)]) := by
              intro y hy
              refine lv_iadd S.1 S.2.1 dX0_kept_56 ?_
              refine lv_as (nI (t + y)) (nI_add t y) ?_
              refine lv_istore_n (lv' := [(1, .int (nI (t + y))), (0, .ref (ad 0)), (2, .int (nI j))]) S.1 S.2.1 dX0_kept_57 rfl hl (by decide) rfl (fun ls hl => ?_)
              refine lv_inc (k := 2) (j := j) (lv' := [(2, .int (nI (j + 1))), (1, .int (nI (t + y))), (0, .ref (ad 0))]) S dX0_kept_58 hl rfl (by decide) rfl (fun ls hl => ?_)
              refine lv_goto (tgt := 21) S.1 S.2.1 dX0_kept_61 (by decide) ?_
              exact ih (j + 1) (t + y) ls (by omega) (by rw [ht, hy]; rfl) (lv_sub hl [2, 1, 0] rfl)
            refine lv_iload_n S.1 S.2.1 dX0_kept_29 rfl (lv_at hl 1 rfl) ?_
            refine lv_aload_n S.1 S.2.1 dX0_kept_30 rfl (lv_at hl 0 rfl) ?_
            refine xg2 S hH dX0_kept_31 ?_
            refine lv_iload_n S.1 S.2.1 dX0_kept_34 rfl (lv_at hl 2 rfl) ?_
            refine xl2 S hH (j) (by omega) dX0_kept_35 ?_
            refine lv_as (nI (wt j)) (hu2.2.1 j hjn).2 ?_
            refine lv_if_le (tgt := 55) S.1 S.2.1 dX0_kept_36 (by decide) (fun c3 => ?_) (fun c3 => ?_)
            · refine lv_iconst (v := nI 0) S.1 S.2.1 dX0_kept_55 (by decide) ?_
              have h0 : wt j ≤ 0 := (nI_leI (b := 0) (by omega) (by omega)).mp c3
              refine K 0 ?_
              rw [if_neg]
              rw [decide_eq_false (by omega)]
              simp
            · have h0 : ¬ wt j ≤ 0 := fun z => c3 (nI_le (b := 0) z (by decide))
              refine lv_aload_n S.1 S.2.1 dX0_kept_39 rfl (lv_at hl 0 rfl) ?_
              refine lv_iload_n S.1 S.2.1 dX0_kept_40 rfl (lv_at hl 2 rfl) ?_
              refine lv_aload_n S.1 S.2.1 dX0_kept_41 rfl (lv_at hl 0 rfl) ?_
              refine xg6 S hH dX0_kept_42 ?_
              refine lv_as (nI B) eB ?_
              refine gRo.call (As := [.int (nI j), .int (nI B)]) (rest := [.int (nI t)]) (x_holds l D ad ka u2 j (by omega) B (cs j) (hu2.2.1 j hjn).1) S hH (cwV 2 S.2.2.2.2 (lw_V q153 q155 qs12 q16 q156) rfl rfl rfl (by decide +kernel) ⟨Nat.le_of_ble_eq_true rfl, Nat.le_of_ble_eq_true rfl⟩) (x_recv hH) rfl hl.1 rfl (Nat.le_of_ble_eq_true rfl) dX0_kept_45 ⟨Nat.le_refl _, Nat.le_refl _⟩ (fun z hz => ?_)
              refine lv_if_eq (tgt := 55) S.1 S.2.1 dX0_kept_48 (by decide) (fun c4 => ?_) (fun c4 => ?_)
              · refine lv_iconst (v := nI 0) S.1 S.2.1 dX0_kept_55 (by decide) ?_
                refine K 0 ?_
                rw [if_neg]
                intro z1
                rw [Bool.and_eq_true] at z1
                rw [hz, if_pos z1.2] at c4
                exact absurd c4 (by decide)
              · refine lv_iconst (v := nI 1) S.1 S.2.1 dX0_kept_51 (by decide) ?_
                refine lv_goto (tgt := 56) S.1 S.2.1 dX0_kept_52 (by decide) ?_
                refine K 1 ?_
                rw [if_pos]
                rw [Bool.and_eq_true, decide_eq_true_eq]
                refine ⟨by omega, ?_⟩
                by_cases z1 : ss_sat (cs j) B 16 = true
                · exact z1
                · rw [hz, if_neg z1] at c4; exact absurd rfl c4
      refine lv_iconst (v := nI 0) S.1 S.2.1 dX0_kept_17 (by decide) ?_
      refine lv_istore_n (lv' := [(1, .int (nI 0)), (0, .ref (ad 0))]) S.1 S.2.1 dX0_kept_18 rfl hl (by decide) rfl (fun ls hl => ?_)
      refine lv_iconst (v := nI 0) S.1 S.2.1 dX0_kept_19 (by decide) ?_
      refine lv_istore_n (lv' := [(2, .int (nI 0)), (1, .int (nI 0)), (0, .ref (ad 0))]) S.1 S.2.1 dX0_kept_20 rfl hl (by decide) rfl (fun ls hl => ?_)
      exact loop n 0 0 ls (by omega) rfl (lv_sub hl [2, 1, 0] rfl)
  · refine lv_iconst (v := (-1)) S.1 S.2.1 dX0_kept_15 (by decide) ?_
    have c2 := fa_of_nle c1
    exact gMu.iret S hr hlk hH ⟨hu2, _, hbest, by rw [ss_kp, if_pos c2]⟩ dX0_kept_16
end
section
set_option maxRecDepth 100000
/-! what a clause more, a clause less does -/
def ad_r (n : Nat) : Int32 := if n < 24 then nI (n + 1) else -1
def ad_n (n : Nat) : Nat := if n < 24 then n + 1 else n
def ad_f (n : Nat) (f : Nat → Nat) (v : Nat) : Nat → Nat := if n < 24 then (fun k => if k = n then v else f k) else f
def rm_f (d : Nat) (f : Nat → Nat) : Nat → Nat := fun k => if k < d then f k else f (k + 1)
theorem ad_w {n : Nat} {cs wt : Nat → Nat} {c ω : Nat} (hw : ss_w n cs wt) (hc : c < 65536) (ho : ω ≤ 50) : ss_w (ad_n n) (ad_f n cs c) (ad_f n wt ω) := by
  unfold ad_n ad_f
  by_cases h : n < 24
  · rw [if_pos h, if_pos h, if_pos h]
    refine ⟨by omega, fun k hk => ?_⟩
    by_cases q : k = n
    · subst q
      simp only [if_true]
      exact ⟨hc, ho⟩
    · simp only [if_neg q]
      exact hw.2 k (by omega)
  · rw [if_neg h, if_neg h, if_neg h]
    exact hw
theorem rm_w {n d : Nat} {cs wt : Nat → Nat} (hw : ss_w n cs wt) (hd : d < n) : ss_w (n - 1) (rm_f d cs) (rm_f d wt) := by
  refine ⟨by have := hw.1; omega, fun k hk => ?_⟩
  unfold rm_f
  by_cases q : k < d
  · rw [if_pos q, if_pos q]; exact hw.2 k (by omega)
  · rw [if_neg q, if_neg q]; exact hw.2 (k + 1) (by omega)
set_option maxHeartbeats 8000000 in
theorem x_add (l : Launch) (D : va_G) (ad : Nat → Nat) (ka : Nat → ClassId) (u : XS) (n : Nat) (cs wt : Nat → Nat) (hu : x_ok n cs wt u) (x : Int32) (ω : Nat) (ho : ω ≤ 50) : gMu l yX0_addClause cX0_addClause 3 (some .int) ss_r0 D (xT ka) (xW ad ka) u [.ref (ad 0), .int x, .int (nI ω)] (fun (r : Int32) (u1 : XS) => r = ad_r n ∧ x_ok (ad_n n) (ad_f n cs (ss_u x 16)) (ad_f n wt ω) u1) := by
  refine gMu.ofW RX0 rfl (by decide) (Nat.le_of_ble_eq_true rfl) ?_
  intro p e s m args below meth c A S hr hlk hH ls hl
  have hl : lv_has ls 3 [(0, .ref (ad 0)), (1, .int x), (2, .int (nI ω))] := hl
  have hw := hu.2.2
  have hn := hw.1
  have hc : ss_u x 16 < 65536 := Nat.mod_lt _ (by decide)
  refine lv_aload_n S.1 S.2.1 dX0_addClause_0 rfl (lv_at hl 0 rfl) ?_
  refine xg0 S hH dX0_addClause_1 ?_
  refine lv_bipush (v := nI 24) S.1 S.2.1 dX0_addClause_4 (by decide) ?_
  have hw2 := ad_w hw hc ho
  refine W.eq (g2 := F0 m 6 ls [.int (nI 24), .int (nI n)]) (by rw [hu.1]) ?_
  refine lv_icmp_lt (tgt := 11) S.1 S.2.1 dX0_addClause_6 (by decide) (fun c1 => ?_) (fun c1 => ?_)
  · have hn2 : n < 24 := (nI_ltI (by omega) (by omega)).mp c1
    refine lv_aload_n S.1 S.2.1 dX0_addClause_11 rfl (lv_at hl 0 rfl) ?_
    refine xg1 S hH dX0_addClause_12 ?_
    refine lv_aload_n S.1 S.2.1 dX0_addClause_15 rfl (lv_at hl 0 rfl) ?_
    refine xg0 S hH dX0_addClause_16 ?_
    refine lv_as (nI n) hu.1 ?_
    refine lv_iload_n S.1 S.2.1 dX0_addClause_19 rfl (lv_at hl 1 rfl) ?_
    refine lv_ldc S.1 S.2.1 S.2.2.2.1 (S.2.2.2.2 _ q76) dX0_addClause_20 ?_
    refine lv_iand S.1 S.2.1 dX0_addClause_22 ?_
    refine lv_as (nI (ss_u x 16)) (pk_and x 16 (by decide)) ?_
    refine xs1 S hH (n) (hn2) dX0_addClause_23 (fun H locs hH => ?_)
    refine lv_aload_n S.1 S.2.1 dX0_addClause_24 rfl (lv_at hl 0 rfl) ?_
    refine xg2 S hH dX0_addClause_25 ?_
    refine lv_aload_n S.1 S.2.1 dX0_addClause_28 rfl (lv_at hl 0 rfl) ?_
    refine xg0 S hH dX0_addClause_29 ?_
    refine lv_as (nI n) hu.1 ?_
    refine lv_iload_n S.1 S.2.1 dX0_addClause_32 rfl (lv_at hl 2 rfl) ?_
    refine xs2 S hH (n) (hn2) dX0_addClause_33 (fun H locs hH => ?_)
    refine lv_aload_n S.1 S.2.1 dX0_addClause_34 rfl (lv_at hl 0 rfl) ?_
    refine lv_dup S.1 S.2.1 dX0_addClause_35 rfl ?_
    refine xg0 S hH dX0_addClause_36 ?_
    refine lv_iconst (v := 1) S.1 S.2.1 dX0_addClause_39 (by decide) ?_
    refine lv_iadd S.1 S.2.1 dX0_addClause_40 ?_
    refine lv_as (nI (n + 1)) ?_ ?_
    · rw [← nI_1 n, ← hu.1]
      rfl
    refine xp0 S hH dX0_addClause_41 (fun H locs hH => ?_)
    refine lv_aload_n S.1 S.2.1 dX0_addClause_44 rfl (lv_at hl 0 rfl) ?_
    refine xg0 S hH dX0_addClause_45 ?_
    refine gMu.iret S hr hlk hH ⟨by rw [ad_r, if_pos hn2]; rfl, ?_⟩ dX0_addClause_48
    rw [ad_n, ad_f, ad_f, if_pos hn2, if_pos hn2, if_pos hn2] at hw2 ⊢
    refine ⟨rfl, fun k hk => ?_, hw2⟩
    show upd (u 1) n (nI (ss_u x 16)) k = nI (if k = n then ss_u x 16 else cs k) ∧ upd (u 2) n (nI ω) k = nI (if k = n then ω else wt k)
    by_cases q : k = n
    · subst q; rw [upd_s, upd_s, if_pos rfl, if_pos rfl]; exact ⟨rfl, rfl⟩
    · rw [upd_n _ _ q, upd_n _ _ q, if_neg q, if_neg q]; exact hu.2.1 k (by omega)
  · have hn3 : ¬ n < 24 := fun z => c1 (nI_lt z (by omega))
    refine lv_iconst (v := (-1)) S.1 S.2.1 dX0_addClause_9 (by decide) ?_
    have hn2 : ¬ n < 24 := by omega
    refine gMu.iret S hr hlk hH ⟨by rw [ad_r, if_neg hn2], ?_⟩ dX0_addClause_10
    rw [ad_n, ad_f, ad_f, if_neg hn2, if_neg hn2, if_neg hn2]
    exact hu
set_option maxHeartbeats 8000000 in
theorem x_hard (l : Launch) (D : va_G) (ad : Nat → Nat) (ka : Nat → ClassId) (u : XS) (n : Nat) (cs wt : Nat → Nat) (hu : x_ok n cs wt u) (x : Int32) : gMu l yX0_hard cX0_hard 2 (some .int) ss_r1 D (xT ka) (xW ad ka) u [.ref (ad 0), .int x] (fun (r : Int32) (u1 : XS) => r = ad_r n ∧ x_ok (ad_n n) (ad_f n cs (ss_u x 16)) (ad_f n wt 0) u1) := by
  refine gMu.ofW RX0 rfl (by decide) (Nat.le_of_ble_eq_true rfl) ?_
  intro p e s m args below meth c A S hr hlk hH ls hl
  have hl : lv_has ls 2 [(0, .ref (ad 0)), (1, .int x)] := hl
  have hw := hu.2.2
  have hn := hw.1
  refine lv_aload_n S.1 S.2.1 dX0_hard_0 rfl (lv_at hl 0 rfl) ?_
  refine lv_iload_n S.1 S.2.1 dX0_hard_1 rfl (lv_at hl 1 rfl) ?_
  refine lv_iconst (v := nI 0) S.1 S.2.1 dX0_hard_2 (by decide) ?_
  refine gMu.call (As := [.int x, .int (nI 0)]) (rest := []) (x_add l D ad ka u n cs wt hu x 0 (by omega)) S hH (cwV 2 S.2.2.2.2 (lw_V q72 q74 qs0 q16 q75) rfl rfl rfl (by decide +kernel) ⟨Nat.le_of_ble_eq_true rfl, Nat.le_of_ble_eq_true rfl⟩) (x_recv hH) rfl hl.1 rfl (Nat.le_of_ble_eq_true rfl) dX0_hard_3 ⟨Nat.le_refl _, Nat.le_refl _⟩ (fun z u1 H locs hp hH => ?_)
  exact gMu.iret S hr hlk hH hp dX0_hard_6
set_option maxHeartbeats 8000000 in
theorem x_softb (l : Launch) (D : va_G) (ad : Nat → Nat) (ka : Nat → ClassId) (u : XS) (n : Nat) (cs wt : Nat → Nat) (hu : x_ok n cs wt u) (x y : Int32) (hy : y < 1 ∨ 50 < y) : gMu l yX0_soft cX0_soft 3 (some .int) ss_r1 D (xT ka) (xW ad ka) u [.ref (ad 0), .int x, .int y] (fun (r : Int32) (u1 : XS) => r = -1 ∧ x_ok n cs wt u1) := by
  refine gMu.ofW RX0 rfl (by decide) (Nat.le_of_ble_eq_true rfl) ?_
  intro p e s m args below meth c A S hr hlk hH ls hl
  have hl : lv_has ls 3 [(0, .ref (ad 0)), (1, .int x), (2, .int y)] := hl
  have hw := hu.2.2
  have hn := hw.1
  refine lv_iload_n S.1 S.2.1 dX0_soft_0 rfl (lv_at hl 2 rfl) ?_
  refine lv_iconst (v := 1) S.1 S.2.1 dX0_soft_1 (by decide) ?_
  refine lv_icmp_lt (tgt := 11) S.1 S.2.1 dX0_soft_2 (by decide) (fun c1 => ?_) (fun c1 => ?_)
  · refine lv_iconst (v := (-1)) S.1 S.2.1 dX0_soft_11 (by decide) ?_
    refine lv_goto (tgt := 21) S.1 S.2.1 dX0_soft_12 (by decide) ?_
    exact gMu.iret S hr hlk hH ⟨rfl, hu⟩ dX0_soft_21
  · refine lv_iload_n S.1 S.2.1 dX0_soft_5 rfl (lv_at hl 2 rfl) ?_
    refine lv_bipush (v := 50) S.1 S.2.1 dX0_soft_6 (by decide) ?_
    refine lv_icmp_le (tgt := 15) S.1 S.2.1 dX0_soft_8 (by decide) (fun c2 => ?_) (fun c2 => ?_)
    · exfalso
      rcases hy with q | q
      · exact c1 q
      · rw [fa_le] at c2; rw [fa_lt] at q; omega
    · refine lv_iconst (v := (-1)) S.1 S.2.1 dX0_soft_11 (by decide) ?_
      refine lv_goto (tgt := 21) S.1 S.2.1 dX0_soft_12 (by decide) ?_
      exact gMu.iret S hr hlk hH ⟨rfl, hu⟩ dX0_soft_21
set_option maxHeartbeats 8000000 in
theorem x_softa (l : Launch) (D : va_G) (ad : Nat → Nat) (ka : Nat → ClassId) (u : XS) (n : Nat) (cs wt : Nat → Nat) (hu : x_ok n cs wt u) (x : Int32) (ω : Nat) (h1 : 1 ≤ ω) (h5 : ω ≤ 50) : gMu l yX0_soft cX0_soft 3 (some .int) ss_r1 D (xT ka) (xW ad ka) u [.ref (ad 0), .int x, .int (nI ω)] (fun (r : Int32) (u1 : XS) => r = ad_r n ∧ x_ok (ad_n n) (ad_f n cs (ss_u x 16)) (ad_f n wt ω) u1) := by
  refine gMu.ofW RX0 rfl (by decide) (Nat.le_of_ble_eq_true rfl) ?_
  intro p e s m args below meth c A S hr hlk hH ls hl
  have hl : lv_has ls 3 [(0, .ref (ad 0)), (1, .int x), (2, .int (nI ω))] := hl
  have hw := hu.2.2
  have hn := hw.1
  refine lv_iload_n S.1 S.2.1 dX0_soft_0 rfl (lv_at hl 2 rfl) ?_
  refine lv_iconst (v := nI 1) S.1 S.2.1 dX0_soft_1 (by decide) ?_
  refine lv_icmp_lt (tgt := 11) S.1 S.2.1 dX0_soft_2 (by decide) (fun c1 => ?_) (fun c1 => ?_)
  · exact absurd ((nI_ltI (by omega) (by omega)).mp c1) (by omega)
  · refine lv_iload_n S.1 S.2.1 dX0_soft_5 rfl (lv_at hl 2 rfl) ?_
    refine lv_bipush (v := nI 50) S.1 S.2.1 dX0_soft_6 (by decide) ?_
    refine lv_icmp_le (tgt := 15) S.1 S.2.1 dX0_soft_8 (by decide) (fun c2 => ?_) (fun c2 => ?_)
    · refine lv_aload_n S.1 S.2.1 dX0_soft_15 rfl (lv_at hl 0 rfl) ?_
      refine lv_iload_n S.1 S.2.1 dX0_soft_16 rfl (lv_at hl 1 rfl) ?_
      refine lv_iload_n S.1 S.2.1 dX0_soft_17 rfl (lv_at hl 2 rfl) ?_
      refine gMu.call (As := [.int x, .int (nI ω)]) (rest := []) (x_add l D ad ka u n cs wt hu x ω h5) S hH (cwV 2 S.2.2.2.2 (lw_V q72 q74 qs0 q16 q75) rfl rfl rfl (by decide +kernel) ⟨Nat.le_of_ble_eq_true rfl, Nat.le_of_ble_eq_true rfl⟩) (x_recv hH) rfl hl.1 rfl (Nat.le_of_ble_eq_true rfl) dX0_soft_18 ⟨Nat.le_refl _, Nat.le_refl _⟩ (fun z u1 H locs hp hH => ?_)
      exact gMu.iret S hr hlk hH hp dX0_soft_21
    · exact absurd (nI_le h5 (by omega)) c2
set_option maxHeartbeats 8000000 in
theorem x_dropb (l : Launch) (D : va_G) (ad : Nat → Nat) (ka : Nat → ClassId) (u : XS) (n : Nat) (cs wt : Nat → Nat) (hu : x_ok n cs wt u) (x : Int32) (hx : x < 0 ∨ nI n ≤ x) : gMu l yX0_drop cX0_drop 3 (some .int) ss_r0 D (xT ka) (xW ad ka) u [.ref (ad 0), .int x] (fun (r : Int32) (u1 : XS) => r = -1 ∧ x_ok n cs wt u1) := by
  refine gMu.ofW RX0 rfl (by decide) (Nat.le_of_ble_eq_true rfl) ?_
  intro p e s m args below meth c A S hr hlk hH ls hl
  have hl : lv_has ls 3 [(0, .ref (ad 0)), (1, .int x)] := hl
  have hw := hu.2.2
  have hn := hw.1
  refine lv_iload_n S.1 S.2.1 dX0_drop_0 rfl (lv_at hl 1 rfl) ?_
  refine lv_if_lt (tgt := 12) S.1 S.2.1 dX0_drop_1 (by decide) (fun c1 => ?_) (fun c1 => ?_)
  · refine lv_iconst (v := (-1)) S.1 S.2.1 dX0_drop_12 (by decide) ?_
    exact gMu.iret S hr hlk hH ⟨rfl, hu⟩ dX0_drop_13
  · refine lv_iload_n S.1 S.2.1 dX0_drop_4 rfl (lv_at hl 1 rfl) ?_
    refine lv_aload_n S.1 S.2.1 dX0_drop_5 rfl (lv_at hl 0 rfl) ?_
    refine xg0 S hH dX0_drop_6 ?_
    refine lv_as (nI n) hu.1 ?_
    refine lv_icmp_lt (tgt := 14) S.1 S.2.1 dX0_drop_9 (by decide) (fun c2 => ?_) (fun c2 => ?_)
    · exfalso
      rcases hx with q | q
      · exact c1 q
      · rw [fa_lt] at c2; rw [fa_le] at q; omega
    · refine lv_iconst (v := (-1)) S.1 S.2.1 dX0_drop_12 (by decide) ?_
      exact gMu.iret S hr hlk hH ⟨rfl, hu⟩ dX0_drop_13
set_option maxHeartbeats 8000000 in
theorem x_dropa (l : Launch) (D : va_G) (ad : Nat → Nat) (ka : Nat → ClassId) (u : XS) (n : Nat) (cs wt : Nat → Nat) (hu : x_ok n cs wt u) (d : Nat) (hd : d < n) : gMu l yX0_drop cX0_drop 3 (some .int) ss_r0 D (xT ka) (xW ad ka) u [.ref (ad 0), .int (nI d)] (fun (r : Int32) (u1 : XS) => r = nI (n - 1) ∧ x_ok (n - 1) (rm_f d cs) (rm_f d wt) u1) := by
  refine gMu.ofW RX0 rfl (by decide) (Nat.le_of_ble_eq_true rfl) ?_
  intro p e s m args below meth c A S hr hlk hH ls hl
  have hl : lv_has ls 3 [(0, .ref (ad 0)), (1, .int (nI d))] := hl
  have hw := hu.2.2
  have hn := hw.1
  have loop : ∀ (q j : Nat) (u1 : XS) (H : Heap) (locs : List Loc) (ls : Array Slot), j + q = n - 1 → d ≤ j → u1 0 0 = nI (n - 1) → (∀ k, k < j → u1 1 k = nI (rm_f d cs k) ∧ u1 2 k = nI (rm_f d wt k)) → (∀ k, j ≤ k → k < n → u1 1 k = nI (cs k) ∧ u1 2 k = nI (wt k)) → gH D (xT ka) (xW ad ka u1) A s H locs → lv_has ls 3 [(0, .ref (ad 0)), (2, .int (nI j))] → W p l e ss_r0 s m args below meth c H locs 0 0 (MQ below (va_Qi (fun (r : Int32) (u1 : XS) => r = nI (n - 1) ∧ x_ok (n - 1) (rm_f d cs) (rm_f d wt) u1) (gB D (xT ka) (xW ad ka) A) A) args s 0 0 A) (F0 m 26 ls []) := by
    intro q
    induction q with
    | zero =>
      intro j u1 H locs ls hj hdj h0 hlo hhi hH hl
      refine lv_iload_n S.1 S.2.1 dX0_drop_26 rfl (lv_at hl 1 rfl) ?_
      refine lv_aload_n S.1 S.2.1 dX0_drop_27 rfl (lv_at hl 0 rfl) ?_
      refine xg0 S hH dX0_drop_28 ?_
      refine lv_as (nI (n - 1)) h0 ?_
      refine lv_icmp_ge (tgt := 68) S.1 S.2.1 dX0_drop_31 (by decide) (fun c1 => ?_) (fun c1 => ?_)
      · refine lv_aload_n S.1 S.2.1 dX0_drop_68 rfl (lv_at hl 0 rfl) ?_
        refine xg0 S hH dX0_drop_69 ?_
        exact gMu.iret S hr hlk hH ⟨h0, h0, fun k hk => hlo k (by omega), rm_w hw hd⟩ dX0_drop_72
      · exact absurd (nI_le (by omega) (by omega)) c1
    | succ q ih =>
      intro j u1 H locs ls hj hdj h0 hlo hhi hH hl
      refine lv_iload_n S.1 S.2.1 dX0_drop_26 rfl (lv_at hl 1 rfl) ?_
      refine lv_aload_n S.1 S.2.1 dX0_drop_27 rfl (lv_at hl 0 rfl) ?_
      refine xg0 S hH dX0_drop_28 ?_
      refine lv_as (nI (n - 1)) h0 ?_
      refine lv_icmp_ge (tgt := 68) S.1 S.2.1 dX0_drop_31 (by decide) (fun c1 => ?_) (fun c1 => ?_)
      · exact absurd ((nI_leI (by omega) (by omega)).mp c1) (by omega)
      · have hj1 := hhi (j + 1) (by omega) (by omega)
        refine lv_aload_n S.1 S.2.1 dX0_drop_34 rfl (lv_at hl 0 rfl) ?_
        refine xg1 S hH dX0_drop_35 ?_
        refine lv_iload_n S.1 S.2.1 dX0_drop_38 rfl (lv_at hl 1 rfl) ?_
        refine lv_aload_n S.1 S.2.1 dX0_drop_39 rfl (lv_at hl 0 rfl) ?_
        refine xg1 S hH dX0_drop_40 ?_
        refine lv_iload_n S.1 S.2.1 dX0_drop_43 rfl (lv_at hl 1 rfl) ?_
        refine lv_iconst (v := 1) S.1 S.2.1 dX0_drop_44 (by decide) ?_
        refine lv_iadd S.1 S.2.1 dX0_drop_45 ?_
        refine lv_as (nI (j + 1)) (nI_1 j) ?_
        refine xl1 S hH (j + 1) (by omega) dX0_drop_46 ?_
        refine lv_as (nI (cs (j + 1))) hj1.1 ?_
        refine xs1 S hH (j) (by omega) dX0_drop_47 (fun H locs hH => ?_)
        refine lv_aload_n S.1 S.2.1 dX0_drop_48 rfl (lv_at hl 0 rfl) ?_
        refine xg2 S hH dX0_drop_49 ?_
        refine lv_iload_n S.1 S.2.1 dX0_drop_52 rfl (lv_at hl 1 rfl) ?_
        refine lv_aload_n S.1 S.2.1 dX0_drop_53 rfl (lv_at hl 0 rfl) ?_
        refine xg2 S hH dX0_drop_54 ?_
        refine lv_iload_n S.1 S.2.1 dX0_drop_57 rfl (lv_at hl 1 rfl) ?_
        refine lv_iconst (v := 1) S.1 S.2.1 dX0_drop_58 (by decide) ?_
        refine lv_iadd S.1 S.2.1 dX0_drop_59 ?_
        refine lv_as (nI (j + 1)) (nI_1 j) ?_
        refine xl2 S hH (j + 1) (by omega) dX0_drop_60 ?_
        refine lv_as (nI (wt (j + 1))) hj1.2 ?_
        refine xs2 S hH (j) (by omega) dX0_drop_61 (fun H locs hH => ?_)
        refine lv_inc (k := 1) (j := j) (lv' := [(2, .int (nI (j + 1))), (0, .ref (ad 0))]) S dX0_drop_62 hl rfl (by decide) rfl (fun ls hl => ?_)
        refine lv_goto (tgt := 26) S.1 S.2.1 dX0_drop_65 (by decide) ?_
        refine ih (j + 1) (xup (xup u1 1 (upd (u1 1) j (nI (cs (j + 1))))) 2 (upd (u1 2) j (nI (wt (j + 1))))) H locs ls (by omega) (by omega) h0 (fun k hk => ?_) (fun k hk1 hk2 => ?_) hH (lv_sub hl [1, 0] rfl)
        · show upd (u1 1) j _ k = _ ∧ upd (u1 2) j _ k = _
          by_cases q : k = j
          · subst q; rw [upd_s, upd_s, rm_f, rm_f, if_neg (by omega), if_neg (by omega)]; exact ⟨rfl, rfl⟩
          · rw [upd_n _ _ q, upd_n _ _ q]; exact hlo k (by omega)
        · show upd (u1 1) j _ k = _ ∧ upd (u1 2) j _ k = _
          rw [upd_n _ _ (show k ≠ j by omega), upd_n _ _ (show k ≠ j by omega)]; exact hhi k (by omega) hk2
  refine lv_iload_n S.1 S.2.1 dX0_drop_0 rfl (lv_at hl 1 rfl) ?_
  refine lv_if_lt (tgt := 12) S.1 S.2.1 dX0_drop_1 (by decide) (fun c1 => ?_) (fun c1 => ?_)
  · exact absurd c1 (nI_pos (by omega))
  · refine lv_iload_n S.1 S.2.1 dX0_drop_4 rfl (lv_at hl 1 rfl) ?_
    refine lv_aload_n S.1 S.2.1 dX0_drop_5 rfl (lv_at hl 0 rfl) ?_
    refine xg0 S hH dX0_drop_6 ?_
    refine lv_as (nI n) hu.1 ?_
    refine lv_icmp_lt (tgt := 14) S.1 S.2.1 dX0_drop_9 (by decide) (fun c2 => ?_) (fun c2 => ?_)
    · refine lv_aload_n S.1 S.2.1 dX0_drop_14 rfl (lv_at hl 0 rfl) ?_
      refine lv_dup S.1 S.2.1 dX0_drop_15 rfl ?_
      refine xg0 S hH dX0_drop_16 ?_
      refine lv_iconst (v := 1) S.1 S.2.1 dX0_drop_19 (by decide) ?_
      refine lv_isub S.1 S.2.1 dX0_drop_20 ?_
      refine lv_as (nI (n - 1)) ?_ ?_
      · rw [hu.1]
        exact pk_sub (a := n) (b := 1) (by omega)
      refine xp0 S hH dX0_drop_21 (fun H locs hH => ?_)
      refine lv_iload_n S.1 S.2.1 dX0_drop_24 rfl (lv_at hl 1 rfl) ?_
      refine lv_istore_n (lv' := [(2, .int (nI d)), (0, .ref (ad 0)), (1, .int (nI d))]) S.1 S.2.1 dX0_drop_25 rfl hl (by decide) rfl (fun ls hl => ?_)
      refine loop (n - 1 - d) d (xup u 0 (fun _ => nI (n - 1))) H locs ls (by omega) (Nat.le_refl _) rfl (fun k hk => ?_) (fun k _ hk => hu.2.1 k hk) hH (lv_sub hl [1, 0] rfl)
      rw [rm_f, rm_f, if_pos hk, if_pos hk]
      exact hu.2.1 k (by omega)
    · exact absurd (nI_lt hd (by omega)) c2
end
section
set_option maxRecDepth 100000
def m_ok (n : Nat) (cs wt : Nat → Nat) (u : XS) : Prop := u 0 0 = nI n ∧ (∀ k, k < n → u 1 k = nI (cs k) ∧ u 2 k = nI (wt k)) ∧ ss_w n cs wt
set_option maxHeartbeats 8000000 in
theorem m_add (l : Launch) (D : va_G) (ad : Nat → Nat) (ka : Nat → ClassId) (u : XS) (n : Nat) (cs wt : Nat → Nat) (hu : m_ok n cs wt u) (x : Int32) (ω : Nat) (ho : ω ≤ 50) : gMu l yX1_add cX1_add 3 (some .int) ss_r0 D (mT ka) (mW ad ka) u [.ref (ad 0), .int x, .int (nI ω)] (fun (r : Int32) (u1 : XS) => r = ad_r n ∧ m_ok (ad_n n) (ad_f n cs (ss_u x 16)) (ad_f n wt ω) u1) := by
  refine gMu.ofW RX1 rfl (by decide) (Nat.le_of_ble_eq_true rfl) ?_
  intro p e s m args below meth c A S hr hlk hH ls hl
  have hl : lv_has ls 3 [(0, .ref (ad 0)), (1, .int x), (2, .int (nI ω))] := hl
  have hw := hu.2.2
  have hn := hw.1
  have hc : ss_u x 16 < 65536 := Nat.mod_lt _ (by decide)
  refine lv_aload_n S.1 S.2.1 dX1_add_0 rfl (lv_at hl 0 rfl) ?_
  refine mg0 S hH dX1_add_1 ?_
  refine lv_bipush (v := nI 24) S.1 S.2.1 dX1_add_4 (by decide) ?_
  have hw2 := ad_w hw hc ho
  refine W.eq (g2 := F0 m 6 ls [.int (nI 24), .int (nI n)]) (by rw [hu.1]) ?_
  refine lv_icmp_ne (tgt := 11) S.1 S.2.1 dX1_add_6 (by decide) (fun c1 => ?_) (fun c1 => ?_)
  · have hn2 : n < 24 := by
      rcases Nat.lt_or_ge n 24 with z | z
      · exact z
      · exact absurd (by rw [show n = 24 by omega]) c1
    refine lv_aload_n S.1 S.2.1 dX1_add_11 rfl (lv_at hl 0 rfl) ?_
    refine mg1 S hH dX1_add_12 ?_
    refine lv_aload_n S.1 S.2.1 dX1_add_15 rfl (lv_at hl 0 rfl) ?_
    refine mg0 S hH dX1_add_16 ?_
    refine lv_as (nI n) hu.1 ?_
    refine lv_iload_n S.1 S.2.1 dX1_add_19 rfl (lv_at hl 1 rfl) ?_
    refine lv_ldc S.1 S.2.1 S.2.2.2.1 (S.2.2.2.2 _ q181) dX1_add_20 ?_
    refine lv_iand S.1 S.2.1 dX1_add_22 ?_
    refine lv_as (nI (ss_u x 16)) (pk_and x 16 (by decide)) ?_
    refine ms1 S hH (n) (hn2) dX1_add_23 (fun H locs hH => ?_)
    refine lv_aload_n S.1 S.2.1 dX1_add_24 rfl (lv_at hl 0 rfl) ?_
    refine mg2 S hH dX1_add_25 ?_
    refine lv_aload_n S.1 S.2.1 dX1_add_28 rfl (lv_at hl 0 rfl) ?_
    refine mg0 S hH dX1_add_29 ?_
    refine lv_as (nI n) hu.1 ?_
    refine lv_iload_n S.1 S.2.1 dX1_add_32 rfl (lv_at hl 2 rfl) ?_
    refine ms2 S hH (n) (hn2) dX1_add_33 (fun H locs hH => ?_)
    refine lv_aload_n S.1 S.2.1 dX1_add_34 rfl (lv_at hl 0 rfl) ?_
    refine lv_dup S.1 S.2.1 dX1_add_35 rfl ?_
    refine mg0 S hH dX1_add_36 ?_
    refine lv_iconst (v := 1) S.1 S.2.1 dX1_add_39 (by decide) ?_
    refine lv_iadd S.1 S.2.1 dX1_add_40 ?_
    refine lv_as (nI (n + 1)) ?_ ?_
    · rw [← nI_1 n, ← hu.1]
      rfl
    refine mp0 S hH dX1_add_41 (fun H locs hH => ?_)
    refine lv_aload_n S.1 S.2.1 dX1_add_44 rfl (lv_at hl 0 rfl) ?_
    refine mg0 S hH dX1_add_45 ?_
    refine gMu.iret S hr hlk hH ⟨by rw [ad_r, if_pos hn2]; rfl, ?_⟩ dX1_add_48
    rw [ad_n, ad_f, ad_f, if_pos hn2, if_pos hn2, if_pos hn2] at hw2 ⊢
    refine ⟨rfl, fun k hk => ?_, hw2⟩
    show upd (u 1) n (nI (ss_u x 16)) k = nI (if k = n then ss_u x 16 else cs k) ∧ upd (u 2) n (nI ω) k = nI (if k = n then ω else wt k)
    by_cases q : k = n
    · subst q; rw [upd_s, upd_s, if_pos rfl, if_pos rfl]; exact ⟨rfl, rfl⟩
    · rw [upd_n _ _ q, upd_n _ _ q, if_neg q, if_neg q]; exact hu.2.1 k (by omega)
  · have hn3 : n = 24 := (nI_eq (by omega) (by omega)).mp c1
    refine lv_iconst (v := (-1)) S.1 S.2.1 dX1_add_9 (by decide) ?_
    have hn2 : ¬ n < 24 := by omega
    refine gMu.iret S hr hlk hH ⟨by rw [ad_r, if_neg hn2], ?_⟩ dX1_add_10
    rw [ad_n, ad_f, ad_f, if_neg hn2, if_neg hn2, if_neg hn2]
    exact hu
set_option maxHeartbeats 8000000 in
theorem m_hard (l : Launch) (D : va_G) (ad : Nat → Nat) (ka : Nat → ClassId) (u : XS) (n : Nat) (cs wt : Nat → Nat) (hu : m_ok n cs wt u) (x : Int32) : gMu l yX1_hard cX1_hard 2 (some .int) ss_r1 D (mT ka) (mW ad ka) u [.ref (ad 0), .int x] (fun (r : Int32) (u1 : XS) => r = ad_r n ∧ m_ok (ad_n n) (ad_f n cs (ss_u x 16)) (ad_f n wt 0) u1) := by
  refine gMu.ofW RX1 rfl (by decide) (Nat.le_of_ble_eq_true rfl) ?_
  intro p e s m args below meth c A S hr hlk hH ls hl
  have hl : lv_has ls 2 [(0, .ref (ad 0)), (1, .int x)] := hl
  have hw := hu.2.2
  have hn := hw.1
  refine lv_aload_n S.1 S.2.1 dX1_hard_0 rfl (lv_at hl 0 rfl) ?_
  refine lv_iload_n S.1 S.2.1 dX1_hard_1 rfl (lv_at hl 1 rfl) ?_
  refine lv_iconst (v := nI 0) S.1 S.2.1 dX1_hard_2 (by decide) ?_
  refine gMu.call (As := [.int x, .int (nI 0)]) (rest := []) (m_add l D ad ka u n cs wt hu x 0 (by omega)) S hH (cwV 2 S.2.2.2.2 (lw_V q177 q179 qs13 q17 q180) rfl rfl rfl (by decide +kernel) ⟨Nat.le_of_ble_eq_true rfl, Nat.le_of_ble_eq_true rfl⟩) (m_recv hH) rfl hl.1 rfl (Nat.le_of_ble_eq_true rfl) dX1_hard_3 ⟨Nat.le_refl _, Nat.le_refl _⟩ (fun z u1 H locs hp hH => ?_)
  exact gMu.iret S hr hlk hH hp dX1_hard_6
set_option maxHeartbeats 8000000 in
theorem m_softb (l : Launch) (D : va_G) (ad : Nat → Nat) (ka : Nat → ClassId) (u : XS) (n : Nat) (cs wt : Nat → Nat) (hu : m_ok n cs wt u) (x y : Int32) (hy : y < 1 ∨ 50 < y) : gMu l yX1_soft cX1_soft 3 (some .int) ss_r1 D (mT ka) (mW ad ka) u [.ref (ad 0), .int x, .int y] (fun (r : Int32) (u1 : XS) => r = -1 ∧ m_ok n cs wt u1) := by
  refine gMu.ofW RX1 rfl (by decide) (Nat.le_of_ble_eq_true rfl) ?_
  intro p e s m args below meth c A S hr hlk hH ls hl
  have hl : lv_has ls 3 [(0, .ref (ad 0)), (1, .int x), (2, .int y)] := hl
  have hw := hu.2.2
  have hn := hw.1
  refine lv_iload_n S.1 S.2.1 dX1_soft_0 rfl (lv_at hl 2 rfl) ?_
  refine lv_iconst (v := 1) S.1 S.2.1 dX1_soft_1 (by decide) ?_
  refine lv_icmp_lt (tgt := 11) S.1 S.2.1 dX1_soft_2 (by decide) (fun c1 => ?_) (fun c1 => ?_)
  · refine lv_iconst (v := (-1)) S.1 S.2.1 dX1_soft_11 (by decide) ?_
    refine lv_goto (tgt := 21) S.1 S.2.1 dX1_soft_12 (by decide) ?_
    exact gMu.iret S hr hlk hH ⟨rfl, hu⟩ dX1_soft_21
  · refine lv_iload_n S.1 S.2.1 dX1_soft_5 rfl (lv_at hl 2 rfl) ?_
    refine lv_bipush (v := 50) S.1 S.2.1 dX1_soft_6 (by decide) ?_
    refine lv_icmp_le (tgt := 15) S.1 S.2.1 dX1_soft_8 (by decide) (fun c2 => ?_) (fun c2 => ?_)
    · exfalso
      rcases hy with q | q
      · exact c1 q
      · rw [fa_le] at c2; rw [fa_lt] at q; omega
    · refine lv_iconst (v := (-1)) S.1 S.2.1 dX1_soft_11 (by decide) ?_
      refine lv_goto (tgt := 21) S.1 S.2.1 dX1_soft_12 (by decide) ?_
      exact gMu.iret S hr hlk hH ⟨rfl, hu⟩ dX1_soft_21
set_option maxHeartbeats 8000000 in
theorem m_softa (l : Launch) (D : va_G) (ad : Nat → Nat) (ka : Nat → ClassId) (u : XS) (n : Nat) (cs wt : Nat → Nat) (hu : m_ok n cs wt u) (x : Int32) (ω : Nat) (h1 : 1 ≤ ω) (h5 : ω ≤ 50) : gMu l yX1_soft cX1_soft 3 (some .int) ss_r1 D (mT ka) (mW ad ka) u [.ref (ad 0), .int x, .int (nI ω)] (fun (r : Int32) (u1 : XS) => r = ad_r n ∧ m_ok (ad_n n) (ad_f n cs (ss_u x 16)) (ad_f n wt ω) u1) := by
  refine gMu.ofW RX1 rfl (by decide) (Nat.le_of_ble_eq_true rfl) ?_
  intro p e s m args below meth c A S hr hlk hH ls hl
  have hl : lv_has ls 3 [(0, .ref (ad 0)), (1, .int x), (2, .int (nI ω))] := hl
  have hw := hu.2.2
  have hn := hw.1
  refine lv_iload_n S.1 S.2.1 dX1_soft_0 rfl (lv_at hl 2 rfl) ?_
  refine lv_iconst (v := nI 1) S.1 S.2.1 dX1_soft_1 (by decide) ?_
  refine lv_icmp_lt (tgt := 11) S.1 S.2.1 dX1_soft_2 (by decide) (fun c1 => ?_) (fun c1 => ?_)
  · exact absurd ((nI_ltI (by omega) (by omega)).mp c1) (by omega)
  · refine lv_iload_n S.1 S.2.1 dX1_soft_5 rfl (lv_at hl 2 rfl) ?_
    refine lv_bipush (v := nI 50) S.1 S.2.1 dX1_soft_6 (by decide) ?_
    refine lv_icmp_le (tgt := 15) S.1 S.2.1 dX1_soft_8 (by decide) (fun c2 => ?_) (fun c2 => ?_)
    · refine lv_aload_n S.1 S.2.1 dX1_soft_15 rfl (lv_at hl 0 rfl) ?_
      refine lv_iload_n S.1 S.2.1 dX1_soft_16 rfl (lv_at hl 1 rfl) ?_
      refine lv_iload_n S.1 S.2.1 dX1_soft_17 rfl (lv_at hl 2 rfl) ?_
      refine gMu.call (As := [.int x, .int (nI ω)]) (rest := []) (m_add l D ad ka u n cs wt hu x ω h5) S hH (cwV 2 S.2.2.2.2 (lw_V q177 q179 qs13 q17 q180) rfl rfl rfl (by decide +kernel) ⟨Nat.le_of_ble_eq_true rfl, Nat.le_of_ble_eq_true rfl⟩) (m_recv hH) rfl hl.1 rfl (Nat.le_of_ble_eq_true rfl) dX1_soft_18 ⟨Nat.le_refl _, Nat.le_refl _⟩ (fun z u1 H locs hp hH => ?_)
      exact gMu.iret S hr hlk hH hp dX1_soft_21
    · exact absurd (nI_le h5 (by omega)) c2
set_option maxHeartbeats 8000000 in
theorem m_dropb (l : Launch) (D : va_G) (ad : Nat → Nat) (ka : Nat → ClassId) (u : XS) (n : Nat) (cs wt : Nat → Nat) (hu : m_ok n cs wt u) (x : Int32) (hx : x < 0 ∨ nI n ≤ x) : gMu l yX1_drop cX1_drop 3 (some .int) ss_r0 D (mT ka) (mW ad ka) u [.ref (ad 0), .int x] (fun (r : Int32) (u1 : XS) => r = -1 ∧ m_ok n cs wt u1) := by
  refine gMu.ofW RX1 rfl (by decide) (Nat.le_of_ble_eq_true rfl) ?_
  intro p e s m args below meth c A S hr hlk hH ls hl
  have hl : lv_has ls 3 [(0, .ref (ad 0)), (1, .int x)] := hl
  have hw := hu.2.2
  have hn := hw.1
  refine lv_iload_n S.1 S.2.1 dX1_drop_0 rfl (lv_at hl 1 rfl) ?_
  refine lv_if_lt (tgt := 12) S.1 S.2.1 dX1_drop_1 (by decide) (fun c1 => ?_) (fun c1 => ?_)
  · refine lv_iconst (v := (-1)) S.1 S.2.1 dX1_drop_12 (by decide) ?_
    exact gMu.iret S hr hlk hH ⟨rfl, hu⟩ dX1_drop_13
  · refine lv_iload_n S.1 S.2.1 dX1_drop_4 rfl (lv_at hl 1 rfl) ?_
    refine lv_aload_n S.1 S.2.1 dX1_drop_5 rfl (lv_at hl 0 rfl) ?_
    refine mg0 S hH dX1_drop_6 ?_
    refine lv_as (nI n) hu.1 ?_
    refine lv_icmp_lt (tgt := 14) S.1 S.2.1 dX1_drop_9 (by decide) (fun c2 => ?_) (fun c2 => ?_)
    · exfalso
      rcases hx with q | q
      · exact c1 q
      · rw [fa_lt] at c2; rw [fa_le] at q; omega
    · refine lv_iconst (v := (-1)) S.1 S.2.1 dX1_drop_12 (by decide) ?_
      exact gMu.iret S hr hlk hH ⟨rfl, hu⟩ dX1_drop_13
set_option maxHeartbeats 8000000 in
theorem m_dropa (l : Launch) (D : va_G) (ad : Nat → Nat) (ka : Nat → ClassId) (u : XS) (n : Nat) (cs wt : Nat → Nat) (hu : m_ok n cs wt u) (d : Nat) (hd : d < n) : gMu l yX1_drop cX1_drop 3 (some .int) ss_r0 D (mT ka) (mW ad ka) u [.ref (ad 0), .int (nI d)] (fun (r : Int32) (u1 : XS) => r = nI (n - 1) ∧ m_ok (n - 1) (rm_f d cs) (rm_f d wt) u1) := by
  refine gMu.ofW RX1 rfl (by decide) (Nat.le_of_ble_eq_true rfl) ?_
  intro p e s m args below meth c A S hr hlk hH ls hl
  have hl : lv_has ls 3 [(0, .ref (ad 0)), (1, .int (nI d))] := hl
  have hw := hu.2.2
  have hn := hw.1
  have loop : ∀ (q j : Nat) (u1 : XS) (H : Heap) (locs : List Loc) (ls : Array Slot), j + q = n - 1 → d ≤ j → u1 0 0 = nI (n - 1) → (∀ k, k < j → u1 1 k = nI (rm_f d cs k) ∧ u1 2 k = nI (rm_f d wt k)) → (∀ k, j ≤ k → k < n → u1 1 k = nI (cs k) ∧ u1 2 k = nI (wt k)) → gH D (mT ka) (mW ad ka u1) A s H locs → lv_has ls 3 [(0, .ref (ad 0)), (2, .int (nI j))] → W p l e ss_r0 s m args below meth c H locs 0 0 (MQ below (va_Qi (fun (r : Int32) (u1 : XS) => r = nI (n - 1) ∧ m_ok (n - 1) (rm_f d cs) (rm_f d wt) u1) (gB D (mT ka) (mW ad ka) A) A) args s 0 0 A) (F0 m 26 ls []) := by
    intro q
    induction q with
    | zero =>
      intro j u1 H locs ls hj hdj h0 hlo hhi hH hl
      refine lv_iload_n S.1 S.2.1 dX1_drop_26 rfl (lv_at hl 1 rfl) ?_
      refine lv_aload_n S.1 S.2.1 dX1_drop_27 rfl (lv_at hl 0 rfl) ?_
      refine mg0 S hH dX1_drop_28 ?_
      refine lv_as (nI (n - 1)) h0 ?_
      refine lv_icmp_ge (tgt := 68) S.1 S.2.1 dX1_drop_31 (by decide) (fun c1 => ?_) (fun c1 => ?_)
      · refine lv_aload_n S.1 S.2.1 dX1_drop_68 rfl (lv_at hl 0 rfl) ?_
        refine mg0 S hH dX1_drop_69 ?_
        exact gMu.iret S hr hlk hH ⟨h0, h0, fun k hk => hlo k (by omega), rm_w hw hd⟩ dX1_drop_72
      · exact absurd (nI_le (by omega) (by omega)) c1
    | succ q ih =>
      intro j u1 H locs ls hj hdj h0 hlo hhi hH hl
      refine lv_iload_n S.1 S.2.1 dX1_drop_26 rfl (lv_at hl 1 rfl) ?_
      refine lv_aload_n S.1 S.2.1 dX1_drop_27 rfl (lv_at hl 0 rfl) ?_
      refine mg0 S hH dX1_drop_28 ?_
      refine lv_as (nI (n - 1)) h0 ?_
      refine lv_icmp_ge (tgt := 68) S.1 S.2.1 dX1_drop_31 (by decide) (fun c1 => ?_) (fun c1 => ?_)
      · exact absurd ((nI_leI (by omega) (by omega)).mp c1) (by omega)
      · have hj1 := hhi (j + 1) (by omega) (by omega)
        refine lv_aload_n S.1 S.2.1 dX1_drop_34 rfl (lv_at hl 0 rfl) ?_
        refine mg1 S hH dX1_drop_35 ?_
        refine lv_iload_n S.1 S.2.1 dX1_drop_38 rfl (lv_at hl 1 rfl) ?_
        refine lv_aload_n S.1 S.2.1 dX1_drop_39 rfl (lv_at hl 0 rfl) ?_
        refine mg1 S hH dX1_drop_40 ?_
        refine lv_iload_n S.1 S.2.1 dX1_drop_43 rfl (lv_at hl 1 rfl) ?_
        refine lv_iconst (v := 1) S.1 S.2.1 dX1_drop_44 (by decide) ?_
        refine lv_iadd S.1 S.2.1 dX1_drop_45 ?_
        refine lv_as (nI (j + 1)) (nI_1 j) ?_
        refine ml1 S hH (j + 1) (by omega) dX1_drop_46 ?_
        refine lv_as (nI (cs (j + 1))) hj1.1 ?_
        refine ms1 S hH (j) (by omega) dX1_drop_47 (fun H locs hH => ?_)
        refine lv_aload_n S.1 S.2.1 dX1_drop_48 rfl (lv_at hl 0 rfl) ?_
        refine mg2 S hH dX1_drop_49 ?_
        refine lv_iload_n S.1 S.2.1 dX1_drop_52 rfl (lv_at hl 1 rfl) ?_
        refine lv_aload_n S.1 S.2.1 dX1_drop_53 rfl (lv_at hl 0 rfl) ?_
        refine mg2 S hH dX1_drop_54 ?_
        refine lv_iload_n S.1 S.2.1 dX1_drop_57 rfl (lv_at hl 1 rfl) ?_
        refine lv_iconst (v := 1) S.1 S.2.1 dX1_drop_58 (by decide) ?_
        refine lv_iadd S.1 S.2.1 dX1_drop_59 ?_
        refine lv_as (nI (j + 1)) (nI_1 j) ?_
        refine ml2 S hH (j + 1) (by omega) dX1_drop_60 ?_
        refine lv_as (nI (wt (j + 1))) hj1.2 ?_
        refine ms2 S hH (j) (by omega) dX1_drop_61 (fun H locs hH => ?_)
        refine lv_inc (k := 1) (j := j) (lv' := [(2, .int (nI (j + 1))), (0, .ref (ad 0))]) S dX1_drop_62 hl rfl (by decide) rfl (fun ls hl => ?_)
        refine lv_goto (tgt := 26) S.1 S.2.1 dX1_drop_65 (by decide) ?_
        refine ih (j + 1) (xup (xup u1 1 (upd (u1 1) j (nI (cs (j + 1))))) 2 (upd (u1 2) j (nI (wt (j + 1))))) H locs ls (by omega) (by omega) h0 (fun k hk => ?_) (fun k hk1 hk2 => ?_) hH (lv_sub hl [1, 0] rfl)
        · show upd (u1 1) j _ k = _ ∧ upd (u1 2) j _ k = _
          by_cases q : k = j
          · subst q; rw [upd_s, upd_s, rm_f, rm_f, if_neg (by omega), if_neg (by omega)]; exact ⟨rfl, rfl⟩
          · rw [upd_n _ _ q, upd_n _ _ q]; exact hlo k (by omega)
        · show upd (u1 1) j _ k = _ ∧ upd (u1 2) j _ k = _
          rw [upd_n _ _ (show k ≠ j by omega), upd_n _ _ (show k ≠ j by omega)]; exact hhi k (by omega) hk2
  refine lv_iload_n S.1 S.2.1 dX1_drop_0 rfl (lv_at hl 1 rfl) ?_
  refine lv_if_lt (tgt := 12) S.1 S.2.1 dX1_drop_1 (by decide) (fun c1 => ?_) (fun c1 => ?_)
  · exact absurd c1 (nI_pos (by omega))
  · refine lv_iload_n S.1 S.2.1 dX1_drop_4 rfl (lv_at hl 1 rfl) ?_
    refine lv_aload_n S.1 S.2.1 dX1_drop_5 rfl (lv_at hl 0 rfl) ?_
    refine mg0 S hH dX1_drop_6 ?_
    refine lv_as (nI n) hu.1 ?_
    refine lv_icmp_lt (tgt := 14) S.1 S.2.1 dX1_drop_9 (by decide) (fun c2 => ?_) (fun c2 => ?_)
    · refine lv_aload_n S.1 S.2.1 dX1_drop_14 rfl (lv_at hl 0 rfl) ?_
      refine lv_dup S.1 S.2.1 dX1_drop_15 rfl ?_
      refine mg0 S hH dX1_drop_16 ?_
      refine lv_iconst (v := 1) S.1 S.2.1 dX1_drop_19 (by decide) ?_
      refine lv_isub S.1 S.2.1 dX1_drop_20 ?_
      refine lv_as (nI (n - 1)) ?_ ?_
      · rw [hu.1]
        exact pk_sub (a := n) (b := 1) (by omega)
      refine mp0 S hH dX1_drop_21 (fun H locs hH => ?_)
      refine lv_iload_n S.1 S.2.1 dX1_drop_24 rfl (lv_at hl 1 rfl) ?_
      refine lv_istore_n (lv' := [(2, .int (nI d)), (0, .ref (ad 0)), (1, .int (nI d))]) S.1 S.2.1 dX1_drop_25 rfl hl (by decide) rfl (fun ls hl => ?_)
      refine loop (n - 1 - d) d (xup u 0 (fun _ => nI (n - 1))) H locs ls (by omega) (Nat.le_refl _) rfl (fun k hk => ?_) (fun k _ hk => hu.2.1 k hk) hH (lv_sub hl [1, 0] rfl)
      rw [rm_f, rm_f, if_pos hk, if_pos hk]
      exact hu.2.1 k (by omega)
    · exact absurd (nI_lt hd (by omega)) c2
end
section
set_option maxRecDepth 100000
/-! SoftSolverModel: what is asked -/
abbrev ss_r5 : Room := { frames := 5, cells := 0, slots := 0, locals := 160 }
def ss_lo1 (n : Nat) (cs wt : Nat → Nat) (a : Nat) : Int32 := if ss_al cs wt a n = true then nI (ss_ls cs wt a n) else -1
def ss_less (x y : Int32) : Int32 := if x < 0 ∨ (¬ y < 0 ∧ y < x) then y else x
theorem ss_min_0 {n : Nat} {cs wt : Nat → Nat} {G : Nat → Prop} : ss_min n cs wt 0 G (-1) := Or.inl ⟨rfl, fun a h => absurd h.1 (Nat.not_lt_zero _)⟩
theorem ss_min_no {n : Nat} {cs wt : Nat → Nat} {N : Nat} {G : Nat → Prop} {b : Int32} (h : ss_min n cs wt N G b) (hN : ¬ (G N ∧ ss_al cs wt N n = true)) : ss_min n cs wt (N + 1) G b := by
  have key : ∀ a, ss_ok n cs wt (N + 1) G a → ss_ok n cs wt N G a := by
    intro a ha
    refine ⟨?_, ha.2⟩
    rcases Nat.lt_or_ge a N with q | q
    · exact q
    · have e : a = N := by have := ha.1; omega
      subst e
      exact absurd ha.2 hN
  rcases h with ⟨h1, h2⟩ | ⟨a, ha, h1, h2⟩
  · exact Or.inl ⟨h1, fun a ha => h2 a (key a ha)⟩
  · exact Or.inr ⟨a, ⟨by have := ha.1; omega, ha.2⟩, h1, fun c hc => h2 c (key c hc)⟩
theorem ss_min_yes {n : Nat} {cs wt : Nat → Nat} {N : Nat} {G : Nat → Prop} {b : Int32} (hw : ss_w n cs wt) (h : ss_min n cs wt N G b) (hG : G N) : ss_min n cs wt (N + 1) G (ss_less b (ss_lo1 n cs wt N)) := by
  by_cases hal : ss_al cs wt N n = true
  · have hL := ss_ls_le hw N
    have e1 : ss_lo1 n cs wt N = nI (ss_ls cs wt N n) := by unfold ss_lo1; rw [if_pos hal]
    rw [e1]
    have hp : ¬ nI (ss_ls cs wt N n) < 0 := nI_pos (by omega)
    have last : ∀ a, ss_ok n cs wt (N + 1) G a → ss_ok n cs wt N G a ∨ a = N := by
      intro a ha
      rcases Nat.lt_or_ge a N with q | q
      · exact Or.inl ⟨q, ha.2⟩
      · exact Or.inr (by have := ha.1; omega)
    rcases h with ⟨h1, h2⟩ | ⟨a, ha, h1, h2⟩
    · unfold ss_less
      rw [if_pos (Or.inl (by rw [h1]; decide))]
      refine Or.inr ⟨N, ⟨by omega, hG, hal⟩, rfl, fun c hc => ?_⟩
      rcases last c hc with q | q
      · exact absurd q (h2 c)
      · subst q; exact Nat.le_refl _
    · have hLa := ss_ls_le hw a
      have hb : ¬ b < 0 := by rw [h1]; exact nI_pos (by omega)
      unfold ss_less
      by_cases hlt : ss_ls cs wt N n < ss_ls cs wt a n
      · rw [if_pos (Or.inr ⟨hp, by rw [h1]; exact nI_lt hlt (by omega)⟩)]
        refine Or.inr ⟨N, ⟨by omega, hG, hal⟩, rfl, fun c hc => ?_⟩
        rcases last c hc with q | q
        · have := h2 c q; omega
        · subst q; exact Nat.le_refl _
      · rw [if_neg]
        · refine Or.inr ⟨a, ⟨by have := ha.1; omega, ha.2⟩, h1, fun c hc => ?_⟩
          rcases last c hc with q | q
          · exact h2 c q
          · subst q; omega
        · rintro (q | ⟨-, q⟩)
          · exact hb q
          · rw [h1] at q
            exact hlt ((nI_ltI (by omega) (by omega)).mp q)
  · have e1 : ss_lo1 n cs wt N = -1 := by unfold ss_lo1; rw [if_neg hal]
    have e2 : ss_less b (-1) = b := by
      unfold ss_less
      rcases h with ⟨h1, -⟩ | ⟨a, -, h1, -⟩
      · rw [h1]; decide
      · have hLa := ss_ls_le hw a
        rw [if_neg]
        rintro (q | ⟨q, -⟩)
        · rw [h1] at q; exact nI_pos (by omega) q
        · exact q (by decide)
    rw [e1, e2]
    exact ss_min_no h (fun q => hal q.2)
set_option maxHeartbeats 4000000 in
theorem m_so (l : Launch) (x a : Nat) (hx : x < 16) : gSt l yX1_so cX1_so 2 (some .boolean) ss_r0 [.int (nI x), .int (nI a)] (fun r => r = 0 ∧ ¬ ss_lit x a ∨ r = 1 ∧ ss_lit x a) := by
  refine gSt.ofW RX1 rfl (by decide) (Nat.le_of_ble_eq_true rfl) ?_
  intro p e s m args below meth c S hr hlk ls hl
  have hl : lv_has ls 2 [(0, .int (nI x)), (1, .int (nI a))] := hl
  refine lv_iload_n S.1 S.2.1 dX1_so_0 rfl (lv_at hl 1 rfl) ?_
  refine lv_iload_n S.1 S.2.1 dX1_so_1 rfl (lv_at hl 0 rfl) ?_
  refine lv_iconst (v := nI 2) S.1 S.2.1 dX1_so_2 (by decide) ?_
  refine lv_idiv S.1 S.2.1 dX1_so_3 (by decide) ?_
  refine lv_as (nI (x / 2)) (pk_div (by omega) (by omega) (by omega)) ?_
  refine lv_ishr S.1 S.2.1 dX1_so_4 ?_
  refine lv_iconst (v := 1) S.1 S.2.1 dX1_so_5 (by decide) ?_
  refine lv_iand S.1 S.2.1 dX1_so_6 ?_
  refine lv_as (if a.testBit (x / 2) = true then 1 else 0) (by rw [ss_sbit (nI a) (x / 2) (by omega), bt_nI a (by omega)]) ?_
  refine lv_iconst (v := 1) S.1 S.2.1 dX1_so_7 (by decide) ?_
  refine lv_iload_n S.1 S.2.1 dX1_so_8 rfl (lv_at hl 0 rfl) ?_
  refine lv_iconst (v := nI 2) S.1 S.2.1 dX1_so_9 (by decide) ?_
  refine lv_irem S.1 S.2.1 dX1_so_10 (by decide) ?_
  refine lv_as (nI (x % 2)) (pk_rem (by omega) (by omega) (by omega)) ?_
  refine lv_isub S.1 S.2.1 dX1_so_11 ?_
  have key : (if a.testBit (x / 2) = true then (1 : Int32) else 0) = 1 - nI (x % 2) ↔ ss_lit x a := by
    unfold ss_lit
    rcases Nat.mod_two_eq_zero_or_one x with q | q
    · rw [q]
      by_cases t : a.testBit (x / 2) = true
      · rw [if_pos t, t]; decide
      · rw [if_neg t]
        rw [Bool.not_eq_true] at t
        rw [t]; decide
    · rw [q]
      by_cases t : a.testBit (x / 2) = true
      · rw [if_pos t, t]; decide
      · rw [if_neg t]
        rw [Bool.not_eq_true] at t
        rw [t]; decide
  refine lv_icmp_ne (tgt := 19) S.1 S.2.1 dX1_so_12 (by decide) (fun c1 => ?_) (fun c1 => ?_)
  · refine lv_iconst (v := 0) S.1 S.2.1 dX1_so_19 (by decide) ?_
    exact gRo.zret S hr hlk (Or.inl rfl) (Or.inl ⟨rfl, fun q => c1 (key.mpr q)⟩) dX1_so_20
  · refine lv_iconst (v := 1) S.1 S.2.1 dX1_so_15 (by decide) ?_
    refine lv_goto (tgt := 20) S.1 S.2.1 dX1_so_16 (by decide) ?_
    exact gRo.zret S hr hlk (Or.inr rfl) (Or.inr ⟨rfl, key.mp c1⟩) dX1_so_20
set_option maxHeartbeats 4000000 in
theorem m_holds (l : Launch) (c0 a : Nat) : gSt l yX1_holds cX1_holds 3 (some .boolean) ss_r1 [.int (nI c0), .int (nI a)] (fun r => r = if ss_sat c0 a 16 = true then 1 else 0) := by
  refine gSt.ofW RX1 rfl (by decide) (Nat.le_of_ble_eq_true rfl) ?_
  intro p e s m args below meth c S hr hlk ls hl
  have hl : lv_has ls 3 [(0, .int (nI c0)), (1, .int (nI a))] := hl
  have loop : ∀ (q j : Nat) (ls : Array Slot), j + q = 16 → (∀ i, i < j → c0.testBit i = true → ¬ ss_lit i a) → lv_has ls 3 [(0, .int (nI c0)), (1, .int (nI a)), (2, .int (nI j))] → W p l e ss_r1 s m args below meth c s.heap [] 0 0 (MQ below (qRo (fun r => r = if ss_sat c0 a 16 = true then 1 else 0)) args s 0 0 (fun _ => False)) (F0 m 2 ls []) := by
    intro q
    induction q with
    | zero =>
      intro j ls hj hx hl
      refine lv_iload_n S.1 S.2.1 dX1_holds_2 rfl (lv_at hl 2 rfl) ?_
      refine lv_bipush (v := nI 16) S.1 S.2.1 dX1_holds_3 (by decide) ?_
      refine lv_icmp_ge (tgt := 33) S.1 S.2.1 dX1_holds_5 (by decide) (fun c1 => ?_) (fun c1 => ?_)
      · refine lv_iconst (v := 0) S.1 S.2.1 dX1_holds_33 (by decide) ?_
        refine gRo.zret S hr hlk (Or.inl rfl) ?_ dX1_holds_34
        rw [if_neg]
        intro z
        obtain ⟨i, h1, h2, h3⟩ := (ss_sat_iff c0 a 16).mp z
        exact hx i (by omega) h2 h3
      · exact absurd (nI_le (by omega) (by omega)) c1
    | succ q ih =>
      intro j ls hj hx hl
      refine lv_iload_n S.1 S.2.1 dX1_holds_2 rfl (lv_at hl 2 rfl) ?_
      refine lv_bipush (v := nI 16) S.1 S.2.1 dX1_holds_3 (by decide) ?_
      refine lv_icmp_ge (tgt := 33) S.1 S.2.1 dX1_holds_5 (by decide) (fun c1 => ?_) (fun c1 => ?_)
      · exact absurd ((nI_leI (by omega) (by omega)).mp c1) (by omega)
      · have K : (c0.testBit j = true → ¬ ss_lit j a) → W p l e ss_r1 s m args below meth c s.heap [] 0 0 (MQ below (qRo (fun r => r = if ss_sat c0 a 16 = true then 1 else 0)) args s 0 0 (fun _ => False)) (F0 m 27 ls []) := by
          intro hno
          refine lv_inc (k := 2) (j := j) (lv' := [(2, .int (nI (j + 1))), (0, .int (nI c0)), (1, .int (nI a))]) S dX1_holds_27 hl rfl (by decide) rfl (fun ls hl => ?_)
          refine lv_goto (tgt := 2) S.1 S.2.1 dX1_holds_30 (by decide) ?_
          refine ih (j + 1) ls (by omega) (fun i hi h => ?_) (lv_sub hl [1, 2, 0] rfl)
          rcases Nat.lt_or_ge i j with z | z
          · exact hx i z h
          · have e : i = j := by omega
            subst e; exact hno h
        refine lv_iload_n S.1 S.2.1 dX1_holds_8 rfl (lv_at hl 0 rfl) ?_
        refine lv_iload_n S.1 S.2.1 dX1_holds_9 rfl (lv_at hl 2 rfl) ?_
        refine lv_ishr S.1 S.2.1 dX1_holds_10 ?_
        refine lv_iconst (v := 1) S.1 S.2.1 dX1_holds_11 (by decide) ?_
        refine lv_iand S.1 S.2.1 dX1_holds_12 ?_
        refine lv_as (if c0.testBit j = true then 1 else 0) (by rw [ss_sbit (nI c0) j (by omega), bt_nI c0 (by omega)]) ?_
        refine lv_iconst (v := 1) S.1 S.2.1 dX1_holds_13 (by decide) ?_
        refine lv_icmp_ne (tgt := 27) S.1 S.2.1 dX1_holds_14 (by decide) (fun c2 => ?_) (fun c2 => ?_)
        · exact K (fun z => absurd (by rw [if_pos z]) c2)
        · refine lv_iload_n S.1 S.2.1 dX1_holds_17 rfl (lv_at hl 2 rfl) ?_
          refine lv_iload_n S.1 S.2.1 dX1_holds_18 rfl (lv_at hl 1 rfl) ?_
          refine gSt.call (As := [.int (nI j), .int (nI a)]) (rest := []) (m_so l j a (by omega)) S (va_cwS 2 S.2.2.2.2 (lw_S q205 q206 q17 q207) rfl rfl rfl (by decide +kernel) ⟨Nat.le_of_ble_eq_true rfl, Nat.le_of_ble_eq_true rfl⟩) rfl hl.1 rfl (Nat.le_of_ble_eq_true rfl) dX1_holds_19 ⟨Nat.le_refl _, Nat.le_refl _⟩ (fun z hz => ?_)
          refine lv_if_eq (tgt := 27) S.1 S.2.1 dX1_holds_22 (by decide) (fun c3 => ?_) (fun c3 => ?_)
          · exact K (fun _ => by rcases hz with ⟨-, h⟩ | ⟨h, -⟩; exact h; rw [h] at c3; exact absurd c3 (by decide))
          · refine lv_iconst (v := 1) S.1 S.2.1 dX1_holds_25 (by decide) ?_
            refine gRo.zret S hr hlk (Or.inr rfl) ?_ dX1_holds_26
            have hb : c0.testBit j = true := by
              by_cases z : c0.testBit j = true
              · exact z
              · rw [if_neg z] at c2; exact absurd c2 (by decide)
            have hl2 : ss_lit j a := by
              rcases hz with ⟨h, -⟩ | ⟨-, h⟩
              · exact absurd h c3
              · exact h
            rw [if_pos ((ss_sat_iff c0 a 16).mpr ⟨j, by omega, hb, hl2⟩)]
  refine lv_iconst (v := nI 0) S.1 S.2.1 dX1_holds_0 (by decide) ?_
  refine lv_istore_n (lv' := [(2, .int (nI 0)), (0, .int (nI c0)), (1, .int (nI a))]) S.1 S.2.1 dX1_holds_1 rfl hl (by decide) rfl (fun ls hl => ?_)
  exact loop 16 0 ls rfl (fun i h => absurd h (Nat.not_lt_zero _)) (lv_sub hl [1, 2, 0] rfl)
set_option maxHeartbeats 4000000 in
theorem m_less (l : Launch) (x y : Int32) : gSt l yX1_lesser cX1_lesser 2 (some .int) ss_r0 [.int x, .int y] (fun r => r = ss_less x y) := by
  refine gSt.ofW RX1 rfl (by decide) (Nat.le_of_ble_eq_true rfl) ?_
  intro p e s m args below meth c S hr hlk ls hl
  have hl : lv_has ls 2 [(0, .int x), (1, .int y)] := hl
  refine lv_iload_n S.1 S.2.1 dX1_lesser_0 rfl (lv_at hl 0 rfl) ?_
  refine lv_if_lt (tgt := 13) S.1 S.2.1 dX1_lesser_1 (by decide) (fun c1 => ?_) (fun c1 => ?_)
  · refine lv_iload_n S.1 S.2.1 dX1_lesser_13 rfl (lv_at hl 1 rfl) ?_
    refine lv_goto (tgt := 18) S.1 S.2.1 dX1_lesser_14 (by decide) ?_
    exact gRo.iret S hr hlk (by rw [ss_less, if_pos (Or.inl c1)]) dX1_lesser_18
  · refine lv_iload_n S.1 S.2.1 dX1_lesser_4 rfl (lv_at hl 1 rfl) ?_
    refine lv_if_lt (tgt := 17) S.1 S.2.1 dX1_lesser_5 (by decide) (fun c2 => ?_) (fun c2 => ?_)
    · refine lv_iload_n S.1 S.2.1 dX1_lesser_17 rfl (lv_at hl 0 rfl) ?_
      exact gRo.iret S hr hlk (by rw [ss_less, if_neg (fun q => q.elim c1 (fun z => z.1 c2))]) dX1_lesser_18
    · refine lv_iload_n S.1 S.2.1 dX1_lesser_8 rfl (lv_at hl 1 rfl) ?_
      refine lv_iload_n S.1 S.2.1 dX1_lesser_9 rfl (lv_at hl 0 rfl) ?_
      refine lv_icmp_ge (tgt := 17) S.1 S.2.1 dX1_lesser_10 (by decide) (fun c3 => ?_) (fun c3 => ?_)
      · refine lv_iload_n S.1 S.2.1 dX1_lesser_17 rfl (lv_at hl 0 rfl) ?_
        exact gRo.iret S hr hlk (by rw [ss_less, if_neg (fun q => q.elim c1 (fun z => by have z2 := z.2; rw [fa_lt] at z2; rw [fa_le] at c3; omega))]) dX1_lesser_18
      · refine lv_iload_n S.1 S.2.1 dX1_lesser_13 rfl (lv_at hl 1 rfl) ?_
        refine lv_goto (tgt := 18) S.1 S.2.1 dX1_lesser_14 (by decide) ?_
        exact gRo.iret S hr hlk (by rw [ss_less, if_pos (Or.inr ⟨c2, fa_of_nle c3⟩)]) dX1_lesser_18
set_option maxHeartbeats 8000000 in
theorem m_lof (l : Launch) (D : va_G) (ad : Nat → Nat) (ka : Nat → ClassId) (u : XS) (n : Nat) (cs wt : Nat → Nat) (hu : m_ok n cs wt u) (a : Nat) : gRo l yX1_lossOf cX1_lossOf 4 (some .int) ss_r2 D (mT ka) (mW ad ka u) [.ref (ad 0), .int (nI a)] (fun r => r = ss_lo1 n cs wt a) := by
  refine gRo.ofW RX1 rfl (by decide) (Nat.le_of_ble_eq_true rfl) ?_
  intro p e s m args below meth c S hr hlk hH ls hl
  have hl : lv_has ls 4 [(0, .ref (ad 0)), (1, .int (nI a))] := hl
  have hw := hu.2.2
  have hn := hw.1
  have loop : ∀ (q j : Nat) (ls : Array Slot), j + q = n → ss_al cs wt a j = true → lv_has ls 4 [(0, .ref (ad 0)), (1, .int (nI a)), (2, .int (nI (ss_ls cs wt a j))), (3, .int (nI j))] → W p l e ss_r2 s m args below meth c s.heap [] 0 0 (MQ below (qRo (fun r => r = ss_lo1 n cs wt a)) args s 0 0 (fun _ => False)) (F0 m 4 ls []) := by
    intro q
    induction q with
    | zero =>
      intro j ls hj hal hl
      refine lv_iload_n S.1 S.2.1 dX1_lossOf_4 rfl (lv_at hl 3 rfl) ?_
      refine lv_aload_n S.1 S.2.1 dX1_lossOf_5 rfl (lv_at hl 0 rfl) ?_
      refine mg0 S hH dX1_lossOf_6 ?_
      refine lv_as (nI n) hu.1 ?_
      refine lv_icmp_ge (tgt := 51) S.1 S.2.1 dX1_lossOf_9 (by decide) (fun c1 => ?_) (fun c1 => ?_)
      · refine lv_iload_n S.1 S.2.1 dX1_lossOf_51 rfl (lv_at hl 2 rfl) ?_
        have ej : j = n := by omega
        subst ej
        exact gRo.iret S hr hlk (by rw [ss_lo1, if_pos hal]) dX1_lossOf_52
      · exact absurd (nI_le (by omega) (by omega)) c1
    | succ q ih =>
      intro j ls hj hal hl
      refine lv_iload_n S.1 S.2.1 dX1_lossOf_4 rfl (lv_at hl 3 rfl) ?_
      refine lv_aload_n S.1 S.2.1 dX1_lossOf_5 rfl (lv_at hl 0 rfl) ?_
      refine mg0 S hH dX1_lossOf_6 ?_
      refine lv_as (nI n) hu.1 ?_
      refine lv_icmp_ge (tgt := 51) S.1 S.2.1 dX1_lossOf_9 (by decide) (fun c1 => ?_) (fun c1 => ?_)
      · exact absurd ((nI_leI (by omega) (by omega)).mp c1) (by omega)
      · have hjn : j < n := by omega
        have hwj := (hw.2 j hjn).2
        refine lv_aload_n S.1 S.2.1 dX1_lossOf_12 rfl (lv_at hl 0 rfl) ?_
        refine mg1 S hH dX1_lossOf_13 ?_
        refine lv_iload_n S.1 S.2.1 dX1_lossOf_16 rfl (lv_at hl 3 rfl) ?_
        refine ml1 S hH (j) (by omega) dX1_lossOf_17 ?_
        refine lv_as (nI (cs j)) (hu.2.1 j hjn).1 ?_
        refine lv_iload_n S.1 S.2.1 dX1_lossOf_18 rfl (lv_at hl 1 rfl) ?_
        refine gSt.call (As := [.int (nI (cs j)), .int (nI a)]) (rest := []) (m_holds l (cs j) a) S (va_cwS 2 S.2.2.2.2 (lw_S q202 q203 q17 q204) rfl rfl rfl (by decide +kernel) ⟨Nat.le_of_ble_eq_true rfl, Nat.le_of_ble_eq_true rfl⟩) rfl hl.1 rfl (Nat.le_of_ble_eq_true rfl) dX1_lossOf_19 ⟨Nat.le_refl _, Nat.le_refl _⟩ (fun z hz => ?_)
        refine lv_if_ne (tgt := 45) S.1 S.2.1 dX1_lossOf_22 (by decide) (fun c2 => ?_) (fun c2 => ?_)
        · have hs : ss_sat (cs j) a 16 = true := by
            by_cases q : ss_sat (cs j) a 16 = true
            · exact q
            · rw [if_neg q] at hz; exact absurd hz c2
          have e1 : ss_ls cs wt a (j + 1) = ss_ls cs wt a j := by
            show ss_ls cs wt a j + (if ss_sat (cs j) a 16 = true then 0 else wt j) = _
            rw [if_pos hs]
            rfl
          refine lv_inc (k := 3) (j := j) (lv' := [(3, .int (nI (j + 1))), (0, .ref (ad 0)), (1, .int (nI a)), (2, .int (nI (ss_ls cs wt a j)))]) S dX1_lossOf_45 hl rfl (by decide) rfl (fun ls hl => ?_)
          refine lv_goto (tgt := 4) S.1 S.2.1 dX1_lossOf_48 (by decide) ?_
          rw [← e1] at hl
          refine ih (j + 1) ls (by omega) ?_ (lv_sub hl [1, 2, 3, 0] rfl)
          rw [ss_al, hal, hs]
          simp
        · have hs : ¬ ss_sat (cs j) a 16 = true := fun q => by rw [if_pos q] at hz; rw [hz] at c2; exact absurd c2 (by decide)
          refine lv_aload_n S.1 S.2.1 dX1_lossOf_25 rfl (lv_at hl 0 rfl) ?_
          refine mg2 S hH dX1_lossOf_26 ?_
          refine lv_iload_n S.1 S.2.1 dX1_lossOf_29 rfl (lv_at hl 3 rfl) ?_
          refine ml2 S hH (j) (by omega) dX1_lossOf_30 ?_
          refine lv_as (nI (wt j)) (hu.2.1 j hjn).2 ?_
          refine lv_if_ne (tgt := 36) S.1 S.2.1 dX1_lossOf_31 (by decide) (fun c3 => ?_) (fun c3 => ?_)
          · refine lv_iload_n S.1 S.2.1 dX1_lossOf_36 rfl (lv_at hl 2 rfl) ?_
            refine lv_aload_n S.1 S.2.1 dX1_lossOf_37 rfl (lv_at hl 0 rfl) ?_
            refine mg2 S hH dX1_lossOf_38 ?_
            refine lv_iload_n S.1 S.2.1 dX1_lossOf_41 rfl (lv_at hl 3 rfl) ?_
            refine ml2 S hH (j) (by omega) dX1_lossOf_42 ?_
            refine lv_as (nI (wt j)) (hu.2.1 j hjn).2 ?_
            refine lv_iadd S.1 S.2.1 dX1_lossOf_43 ?_
            refine lv_as (nI (ss_ls cs wt a (j + 1))) ?_ ?_
            · rw [nI_add]
              show _ = nI (ss_ls cs wt a j + (if ss_sat (cs j) a 16 = true then 0 else wt j))
              rw [if_neg hs]
            refine lv_istore_n (lv' := [(2, .int (nI (ss_ls cs wt a (j + 1)))), (0, .ref (ad 0)), (1, .int (nI a)), (3, .int (nI j))]) S.1 S.2.1 dX1_lossOf_44 rfl hl (by decide) rfl (fun ls hl => ?_)
            refine lv_inc (k := 3) (j := j) (lv' := [(3, .int (nI (j + 1))), (2, .int (nI (ss_ls cs wt a (j + 1)))), (0, .ref (ad 0)), (1, .int (nI a))]) S dX1_lossOf_45 hl rfl (by decide) rfl (fun ls hl => ?_)
            refine lv_goto (tgt := 4) S.1 S.2.1 dX1_lossOf_48 (by decide) ?_
            refine ih (j + 1) ls (by omega) ?_ (lv_sub hl [2, 3, 1, 0] rfl)
            have hw0 : wt j ≠ 0 := fun q => c3 (by rw [q]; rfl)
            rw [ss_al, hal, decide_eq_true hw0]
            rfl
          · refine lv_iconst (v := (-1)) S.1 S.2.1 dX1_lossOf_34 (by decide) ?_
            have hw0 : wt j = 0 := (nI_eq (b := 0) (by omega) (by omega)).mp c3
            have hna : ¬ ss_al cs wt a n = true := fun q => hs ((ss_al_iff cs wt a n).mp q j hjn hw0)
            exact gRo.iret S hr hlk (by rw [ss_lo1, if_neg hna]) dX1_lossOf_35
  refine lv_iconst (v := nI 0) S.1 S.2.1 dX1_lossOf_0 (by decide) ?_
  refine lv_istore_n (lv' := [(2, .int (nI (ss_ls cs wt a 0))), (0, .ref (ad 0)), (1, .int (nI a))]) S.1 S.2.1 dX1_lossOf_1 rfl hl (by decide) rfl (fun ls hl => ?_)
  refine lv_iconst (v := nI 0) S.1 S.2.1 dX1_lossOf_2 (by decide) ?_
  refine lv_istore_n (lv' := [(3, .int (nI 0)), (2, .int (nI (ss_ls cs wt a 0))), (0, .ref (ad 0)), (1, .int (nI a))]) S.1 S.2.1 dX1_lossOf_3 rfl hl (by decide) rfl (fun ls hl => ?_)
  exact loop n 0 ls (by omega) rfl (lv_sub hl [2, 3, 1, 0] rfl)
set_option maxHeartbeats 8000000 in
theorem m_loss (l : Launch) (D : va_G) (ad : Nat → Nat) (ka : Nat → ClassId) (u : XS) (n : Nat) (cs wt : Nat → Nat) (hu : m_ok n cs wt u)  : gRo l yX1_loss cX1_loss 4 (some .int) ss_r3 D (mT ka) (mW ad ka u) [.ref (ad 0)] (fun r => ss_min n cs wt 256 (fun _ => True) r) := by
  refine gRo.ofW RX1 rfl (by decide) (Nat.le_of_ble_eq_true rfl) ?_
  intro p e s m args below meth c S hr hlk hH ls hl
  have hl : lv_has ls 4 [(0, .ref (ad 0))] := hl
  have hw := hu.2.2
  have hn := hw.1
  have loop : ∀ (q j : Nat) (b : Int32) (ls : Array Slot), j + q = 256 → ss_min n cs wt j (fun _ => True) b → lv_has ls 4 [(0, .ref (ad 0)), (1, .int b), (2, .int (nI j))] → W p l e ss_r3 s m args below meth c s.heap [] 0 0 (MQ below (qRo (fun r => ss_min n cs wt 256 (fun _ => True) r)) args s 0 0 (fun _ => False)) (F0 m 4 ls []) := by
    intro q
    induction q with
    | zero =>
      intro j b ls hj hm hl
      refine lv_iload_n S.1 S.2.1 dX1_loss_4 rfl (lv_at hl 2 rfl) ?_
      refine lv_sipush (v := nI 256) S.1 S.2.1 dX1_loss_5 (by decide) ?_
      refine lv_icmp_ge (tgt := 29) S.1 S.2.1 dX1_loss_8 (by decide) (fun c1 => ?_) (fun c1 => ?_)
      · refine lv_iload_n S.1 S.2.1 dX1_loss_29 rfl (lv_at hl 1 rfl) ?_
        have ej : j = 256 := by omega
        subst ej
        exact gRo.iret S hr hlk hm dX1_loss_30
      · exact absurd (nI_le (by omega) (by omega)) c1
    | succ q ih =>
      intro j b ls hj hm hl
      refine lv_iload_n S.1 S.2.1 dX1_loss_4 rfl (lv_at hl 2 rfl) ?_
      refine lv_sipush (v := nI 256) S.1 S.2.1 dX1_loss_5 (by decide) ?_
      refine lv_icmp_ge (tgt := 29) S.1 S.2.1 dX1_loss_8 (by decide) (fun c1 => ?_) (fun c1 => ?_)
      · exact absurd ((nI_leI (by omega) (by omega)).mp c1) (by omega)
      · refine lv_aload_n S.1 S.2.1 dX1_loss_11 rfl (lv_at hl 0 rfl) ?_
        refine lv_iload_n S.1 S.2.1 dX1_loss_12 rfl (lv_at hl 2 rfl) ?_
        refine gRo.call (As := [.int (nI j)]) (rest := []) (m_lof l D ad ka u n cs wt hu j) S hH (cwV 1 S.2.2.2.2 (lw_V q198 q200 qs14 q17 q201) rfl rfl rfl (by decide +kernel) ⟨Nat.le_of_ble_eq_true rfl, Nat.le_of_ble_eq_true rfl⟩) (m_recv hH) rfl hl.1 rfl (Nat.le_of_ble_eq_true rfl) dX1_loss_13 ⟨Nat.le_refl _, Nat.le_refl _⟩ (fun z hz => ?_)
        refine lv_istore_n (lv' := [(3, .int (z)), (0, .ref (ad 0)), (1, .int b), (2, .int (nI j))]) S.1 S.2.1 dX1_loss_16 rfl hl (by decide) rfl (fun ls hl => ?_)
        refine lv_iload_n S.1 S.2.1 dX1_loss_17 rfl (lv_at hl 2 rfl) ?_
        refine lv_iload_n S.1 S.2.1 dX1_loss_18 rfl (lv_at hl 0 rfl) ?_
        refine gSt.call (As := [.int b, .int z]) (rest := []) (m_less l b z) S (va_cwS 2 S.2.2.2.2 (lw_S q208 q209 q17 q210) rfl rfl rfl (by decide +kernel) ⟨Nat.le_of_ble_eq_true rfl, Nat.le_of_ble_eq_true rfl⟩) rfl hl.1 rfl (Nat.le_of_ble_eq_true rfl) dX1_loss_19 ⟨Nat.le_refl _, Nat.le_refl _⟩ (fun b2 hb2 => ?_)
        refine lv_istore_n (lv' := [(1, .int (b2)), (3, .int (z)), (0, .ref (ad 0)), (2, .int (nI j))]) S.1 S.2.1 dX1_loss_22 rfl hl (by decide) rfl (fun ls hl => ?_)
        refine lv_inc (k := 3) (j := j) (lv' := [(2, .int (nI (j + 1))), (1, .int (b2)), (3, .int (z)), (0, .ref (ad 0))]) S dX1_loss_23 hl rfl (by decide) rfl (fun ls hl => ?_)
        refine lv_goto (tgt := 4) S.1 S.2.1 dX1_loss_26 (by decide) ?_
        refine ih (j + 1) b2 ls (by omega) ?_ (lv_sub hl [3, 1, 0] rfl)
        rw [hb2, hz]
        exact ss_min_yes hw hm trivial
  refine lv_iconst (v := (-1)) S.1 S.2.1 dX1_loss_0 (by decide) ?_
  refine lv_istore_n (lv' := [(1, .int (-1)), (0, .ref (ad 0))]) S.1 S.2.1 dX1_loss_1 rfl hl (by decide) rfl (fun ls hl => ?_)
  refine lv_iconst (v := nI 0) S.1 S.2.1 dX1_loss_2 (by decide) ?_
  refine lv_istore_n (lv' := [(2, .int (nI 0)), (1, .int (-1)), (0, .ref (ad 0))]) S.1 S.2.1 dX1_loss_3 rfl hl (by decide) rfl (fun ls hl => ?_)
  exact loop 256 0 (-1) ls rfl ss_min_0 (lv_sub hl [2, 1, 0] rfl)
set_option maxHeartbeats 8000000 in
theorem m_possible (l : Launch) (D : va_G) (ad : Nat → Nat) (ka : Nat → ClassId) (u : XS) (n : Nat) (cs wt : Nat → Nat) (hu : m_ok n cs wt u)  : gRo l yX1_possible cX1_possible 1 (some .int) ss_r4 D (mT ka) (mW ad ka u) [.ref (ad 0)] (fun r => ∃ r0, ss_min n cs wt 256 (fun _ => True) r0 ∧ r = if r0 < 0 then 0 else 1) := by
  refine gRo.ofW RX1 rfl (by decide) (Nat.le_of_ble_eq_true rfl) ?_
  intro p e s m args below meth c S hr hlk hH ls hl
  have hl : lv_has ls 1 [(0, .ref (ad 0))] := hl
  have hw := hu.2.2
  have hn := hw.1
  refine lv_aload_n S.1 S.2.1 dX1_possible_0 rfl (lv_at hl 0 rfl) ?_
  refine gRo.call (As := []) (rest := []) (m_loss l D ad ka u n cs wt hu) S hH (cwV 0 S.2.2.2.2 (lw_V q194 q195 q196 q17 q197) rfl rfl rfl (by decide +kernel) ⟨Nat.le_of_ble_eq_true rfl, Nat.le_of_ble_eq_true rfl⟩) (m_recv hH) rfl hl.1 rfl (Nat.le_of_ble_eq_true rfl) dX1_possible_1 ⟨Nat.le_refl _, Nat.le_refl _⟩ (fun z hz => ?_)
  refine lv_if_lt (tgt := 11) S.1 S.2.1 dX1_possible_4 (by decide) (fun c1 => ?_) (fun c1 => ?_)
  · refine lv_iconst (v := 0) S.1 S.2.1 dX1_possible_11 (by decide) ?_
    exact gRo.iret S hr hlk ⟨z, hz, by rw [if_pos c1]⟩ dX1_possible_12
  · refine lv_iconst (v := 1) S.1 S.2.1 dX1_possible_7 (by decide) ?_
    refine lv_goto (tgt := 12) S.1 S.2.1 dX1_possible_8 (by decide) ?_
    exact gRo.iret S hr hlk ⟨z, hz, by rw [if_neg c1]⟩ dX1_possible_12
set_option maxHeartbeats 8000000 in
theorem m_best (l : Launch) (D : va_G) (ad : Nat → Nat) (ka : Nat → ClassId) (u : XS) (n : Nat) (cs wt : Nat → Nat) (hu : m_ok n cs wt u)  : gRo l yX1_best cX1_best 3 (some .int) ss_r4 D (mT ka) (mW ad ka u) [.ref (ad 0)] (fun r => ss_best n cs wt 256 (fun _ => True) r) := by
  refine gRo.ofW RX1 rfl (by decide) (Nat.le_of_ble_eq_true rfl) ?_
  intro p e s m args below meth c S hr hlk hH ls hl
  have hl : lv_has ls 3 [(0, .ref (ad 0))] := hl
  have hw := hu.2.2
  have hn := hw.1
  refine lv_aload_n S.1 S.2.1 dX1_best_0 rfl (lv_at hl 0 rfl) ?_
  refine gRo.call (As := []) (rest := []) (m_loss l D ad ka u n cs wt hu) S hH (cwV 0 S.2.2.2.2 (lw_V q194 q195 q196 q17 q197) rfl rfl rfl (by decide +kernel) ⟨Nat.le_of_ble_eq_true rfl, Nat.le_of_ble_eq_true rfl⟩) (m_recv hH) rfl hl.1 rfl (Nat.le_of_ble_eq_true rfl) dX1_best_1 ⟨Nat.le_refl _, Nat.le_refl _⟩ (fun z hz => ?_)
  rcases hz with ⟨rfl, hno⟩ | ⟨a0, ha0, rfl, hle⟩
  · refine lv_istore_n (lv' := [(1, .int (-1)), (0, .ref (ad 0))]) S.1 S.2.1 dX1_best_4 rfl hl (by decide) rfl (fun ls hl => ?_)
    refine lv_iconst (v := nI 0) S.1 S.2.1 dX1_best_5 (by decide) ?_
    refine lv_istore_n (lv' := [(2, .int (nI 0)), (1, .int (-1)), (0, .ref (ad 0))]) S.1 S.2.1 dX1_best_6 rfl hl (by decide) rfl (fun ls hl => ?_)
    refine lv_iload_n S.1 S.2.1 dX1_best_7 rfl (lv_at hl 0 rfl) ?_
    refine lv_sipush (v := nI 256) S.1 S.2.1 dX1_best_8 (by decide) ?_
    refine lv_icmp_ge (tgt := 35) S.1 S.2.1 dX1_best_11 (by decide) (fun c1 => ?_) (fun c1 => ?_)
    · exact absurd c1 (by decide)
    · refine lv_iload_n S.1 S.2.1 dX1_best_14 rfl (lv_at hl 1 rfl) ?_
      refine lv_if_lt (tgt := 35) S.1 S.2.1 dX1_best_15 (by decide) (fun c2 => ?_) (fun c2 => ?_)
      · refine lv_iconst (v := (-1)) S.1 S.2.1 dX1_best_35 (by decide) ?_
        exact gRo.iret S hr hlk (Or.inl ⟨rfl, hno⟩) dX1_best_36
      · exact absurd (by decide) c2
  · have hla := ss_ls_le hw a0
    have loop : ∀ (q j : Nat) (ls : Array Slot), j + q = 256 → (∀ b, b < j → ss_al cs wt b n = true → ss_ls cs wt b n ≠ ss_ls cs wt a0 n) → lv_has ls 3 [(0, .ref (ad 0)), (1, .int (nI (ss_ls cs wt a0 n))), (2, .int (nI j))] → W p l e ss_r4 s m args below meth c s.heap [] 0 0 (MQ below (qRo (fun r => ss_best n cs wt 256 (fun _ => True) r)) args s 0 0 (fun _ => False)) (F0 m 7 ls []) := by
      intro q
      induction q with
      | zero =>
        intro j ls hj hno hl
        exact absurd rfl (hno a0 (by have := ha0.1; omega) ha0.2.2)
      | succ q ih =>
        intro j ls hj hno hl
        refine lv_iload_n S.1 S.2.1 dX1_best_7 rfl (lv_at hl 2 rfl) ?_
        refine lv_sipush (v := nI 256) S.1 S.2.1 dX1_best_8 (by decide) ?_
        refine lv_icmp_ge (tgt := 35) S.1 S.2.1 dX1_best_11 (by decide) (fun c1 => ?_) (fun c1 => ?_)
        · exact absurd ((nI_leI (by omega) (by omega)).mp c1) (by omega)
        · refine lv_iload_n S.1 S.2.1 dX1_best_14 rfl (lv_at hl 1 rfl) ?_
          refine lv_if_lt (tgt := 35) S.1 S.2.1 dX1_best_15 (by decide) (fun c2 => ?_) (fun c2 => ?_)
          · exact absurd c2 (nI_pos (by omega))
          · refine lv_aload_n S.1 S.2.1 dX1_best_18 rfl (lv_at hl 0 rfl) ?_
            refine lv_iload_n S.1 S.2.1 dX1_best_19 rfl (lv_at hl 2 rfl) ?_
            refine gRo.call (As := [.int (nI j)]) (rest := []) (m_lof l D ad ka u n cs wt hu j) S hH (cwV 1 S.2.2.2.2 (lw_V q198 q200 qs14 q17 q201) rfl rfl rfl (by decide +kernel) ⟨Nat.le_of_ble_eq_true rfl, Nat.le_of_ble_eq_true rfl⟩) (m_recv hH) rfl hl.1 rfl (Nat.le_of_ble_eq_true rfl) dX1_best_20 ⟨Nat.le_refl _, Nat.le_refl _⟩ (fun z hz => ?_)
            have hlj := ss_ls_le hw j
            refine lv_iload_n S.1 S.2.1 dX1_best_23 rfl (lv_at hl 1 rfl) ?_
            refine lv_icmp_ne (tgt := 29) S.1 S.2.1 dX1_best_24 (by decide) (fun c3 => ?_) (fun c3 => ?_)
            · refine lv_inc (k := 2) (j := j) (lv' := [(2, .int (nI (j + 1))), (0, .ref (ad 0)), (1, .int (nI (ss_ls cs wt a0 n)))]) S dX1_best_29 hl rfl (by decide) rfl (fun ls hl => ?_)
              refine lv_goto (tgt := 7) S.1 S.2.1 dX1_best_32 (by decide) ?_
              refine ih (j + 1) ls (by omega) (fun b hb h1 h2 => ?_) (lv_sub hl [1, 2, 0] rfl)
              rcases Nat.lt_or_ge b j with q | q
              · exact hno b q h1 h2
              · have e : b = j := by omega
                subst e
                exact c3 (by rw [hz, ss_lo1, if_pos h1, h2])
            · refine lv_iload_n S.1 S.2.1 dX1_best_27 rfl (lv_at hl 2 rfl) ?_
              have hal : ss_al cs wt j n = true := by
                by_cases q : ss_al cs wt j n = true
                · exact q
                · rw [hz, ss_lo1, if_neg q] at c3
                  exact absurd c3 (fun z1 => nI_pos (n := ss_ls cs wt a0 n) (by omega) (by rw [← z1]; decide))
              have heq : ss_ls cs wt j n = ss_ls cs wt a0 n := by
                rw [hz, ss_lo1, if_pos hal] at c3
                exact (nI_eq (by omega) (by omega)).mp c3
              refine gRo.iret S hr hlk (Or.inr ⟨j, ⟨by omega, trivial, hal⟩, rfl, fun b hb => ?_⟩) dX1_best_28
              have h1 := hle b hb
              rcases Nat.lt_or_ge b j with q | q
              · have := hno b q hb.2.2
                omega
              · omega
    refine lv_istore_n (lv' := [(1, .int (nI (ss_ls cs wt a0 n))), (0, .ref (ad 0))]) S.1 S.2.1 dX1_best_4 rfl hl (by decide) rfl (fun ls hl => ?_)
    refine lv_iconst (v := nI 0) S.1 S.2.1 dX1_best_5 (by decide) ?_
    refine lv_istore_n (lv' := [(2, .int (nI 0)), (1, .int (nI (ss_ls cs wt a0 n))), (0, .ref (ad 0))]) S.1 S.2.1 dX1_best_6 rfl hl (by decide) rfl (fun ls hl => ?_)
    exact loop 256 0 ls rfl (fun b h => absurd h (Nat.not_lt_zero _)) (lv_sub hl [2, 1, 0] rfl)
set_option maxHeartbeats 8000000 in
theorem m_with (l : Launch) (D : va_G) (ad : Nat → Nat) (ka : Nat → ClassId) (u : XS) (n : Nat) (cs wt : Nat → Nat) (hu : m_ok n cs wt u) (x : Int32) : gRo l yX1_lossWith cX1_lossWith 5 (some .int) ss_r3 D (mT ka) (mW ad ka u) [.ref (ad 0), .int x] (fun r => ss_min n cs wt 256 (ss_lit (ss_u x 4)) r) := by
  refine gRo.ofW RX1 rfl (by decide) (Nat.le_of_ble_eq_true rfl) ?_
  intro p e s m args below meth c S hr hlk hH ls hl
  have hl : lv_has ls 5 [(0, .ref (ad 0)), (1, .int x)] := hl
  have hw := hu.2.2
  have hn := hw.1
  have loop : ∀ (q j : Nat) (b : Int32) (ls : Array Slot), j + q = 256 → ss_min n cs wt j (ss_lit (ss_u x 4)) b → lv_has ls 5 [(0, .ref (ad 0)), (1, .int x), (2, .int b), (3, .int (nI j))] → W p l e ss_r3 s m args below meth c s.heap [] 0 0 (MQ below (qRo (fun r => ss_min n cs wt 256 (ss_lit (ss_u x 4)) r)) args s 0 0 (fun _ => False)) (F0 m 4 ls []) := by
    intro q
    induction q with
    | zero =>
      intro j b ls hj hm hl
      refine lv_iload_n S.1 S.2.1 dX1_lossWith_4 rfl (lv_at hl 3 rfl) ?_
      refine lv_sipush (v := nI 256) S.1 S.2.1 dX1_lossWith_5 (by decide) ?_
      refine lv_icmp_ge (tgt := 42) S.1 S.2.1 dX1_lossWith_8 (by decide) (fun c1 => ?_) (fun c1 => ?_)
      · refine lv_iload_n S.1 S.2.1 dX1_lossWith_42 rfl (lv_at hl 2 rfl) ?_
        have ej : j = 256 := by omega
        subst ej
        exact gRo.iret S hr hlk hm dX1_lossWith_43
      · exact absurd (nI_le (by omega) (by omega)) c1
    | succ q ih =>
      intro j b ls hj hm hl
      refine lv_iload_n S.1 S.2.1 dX1_lossWith_4 rfl (lv_at hl 3 rfl) ?_
      refine lv_sipush (v := nI 256) S.1 S.2.1 dX1_lossWith_5 (by decide) ?_
      refine lv_icmp_ge (tgt := 42) S.1 S.2.1 dX1_lossWith_8 (by decide) (fun c1 => ?_) (fun c1 => ?_)
      · exact absurd ((nI_leI (by omega) (by omega)).mp c1) (by omega)
      · refine lv_aload_n S.1 S.2.1 dX1_lossWith_11 rfl (lv_at hl 0 rfl) ?_
        refine lv_iload_n S.1 S.2.1 dX1_lossWith_12 rfl (lv_at hl 3 rfl) ?_
        refine gRo.call (As := [.int (nI j)]) (rest := []) (m_lof l D ad ka u n cs wt hu j) S hH (cwV 1 S.2.2.2.2 (lw_V q198 q200 qs14 q17 q201) rfl rfl rfl (by decide +kernel) ⟨Nat.le_of_ble_eq_true rfl, Nat.le_of_ble_eq_true rfl⟩) (m_recv hH) rfl hl.1 rfl (Nat.le_of_ble_eq_true rfl) dX1_lossWith_13 ⟨Nat.le_refl _, Nat.le_refl _⟩ (fun z hz => ?_)
        refine lv_istore (lv' := [(4, .int (z)), (0, .ref (ad 0)), (1, .int x), (2, .int b), (3, .int (nI j))]) S.1 S.2.1 dX1_lossWith_16 hl (by decide) rfl (fun ls hl => ?_)
        refine lv_iload_n S.1 S.2.1 dX1_lossWith_18 rfl (lv_at hl 2 rfl) ?_
        refine lv_bipush (v := 15) S.1 S.2.1 dX1_lossWith_19 (by decide) ?_
        refine lv_iand S.1 S.2.1 dX1_lossWith_21 ?_
        refine lv_as (nI (ss_u x 4)) (pk_and x 4 (by decide)) ?_
        refine lv_iload_n S.1 S.2.1 dX1_lossWith_22 rfl (lv_at hl 4 rfl) ?_
        refine gSt.call (As := [.int (nI (ss_u x 4)), .int (nI j)]) (rest := []) (m_so l (ss_u x 4) j (Nat.mod_lt _ (by decide))) S (va_cwS 2 S.2.2.2.2 (lw_S q205 q206 q17 q207) rfl rfl rfl (by decide +kernel) ⟨Nat.le_of_ble_eq_true rfl, Nat.le_of_ble_eq_true rfl⟩) rfl hl.1 rfl (Nat.le_of_ble_eq_true rfl) dX1_lossWith_23 ⟨Nat.le_refl _, Nat.le_refl _⟩ (fun t ht => ?_)
        have key : t = 0 ∧ ¬ (ss_lit (ss_u x 4)) j ∨ t = 1 ∧ (ss_lit (ss_u x 4)) j := by
          exact ht
        have K1 : (ss_lit (ss_u x 4)) j → W p l e ss_r3 s m args below meth c s.heap [] 0 0 (MQ below (qRo (fun r => ss_min n cs wt 256 (ss_lit (ss_u x 4)) r)) args s 0 0 (fun _ => False)) (F0 m 29 ls []) := by
          intro hG
          refine lv_iload_n S.1 S.2.1 dX1_lossWith_29 rfl (lv_at hl 3 rfl) ?_
          refine lv_iload S.1 S.2.1 dX1_lossWith_30 (lv_at hl 0 rfl) ?_
          refine gSt.call (As := [.int b, .int z]) (rest := []) (m_less l b z) S (va_cwS 2 S.2.2.2.2 (lw_S q208 q209 q17 q210) rfl rfl rfl (by decide +kernel) ⟨Nat.le_of_ble_eq_true rfl, Nat.le_of_ble_eq_true rfl⟩) rfl hl.1 rfl (Nat.le_of_ble_eq_true rfl) dX1_lossWith_32 ⟨Nat.le_refl _, Nat.le_refl _⟩ (fun b2 hb2 => ?_)
          refine lv_istore_n (lv' := [(2, .int (b2)), (4, .int (z)), (0, .ref (ad 0)), (1, .int x), (3, .int (nI j))]) S.1 S.2.1 dX1_lossWith_35 rfl hl (by decide) rfl (fun ls hl => ?_)
          refine lv_inc (k := 4) (j := j) (lv' := [(3, .int (nI (j + 1))), (2, .int (b2)), (4, .int (z)), (0, .ref (ad 0)), (1, .int x)]) S dX1_lossWith_36 hl rfl (by decide) rfl (fun ls hl => ?_)
          refine lv_goto (tgt := 4) S.1 S.2.1 dX1_lossWith_39 (by decide) ?_
          refine ih (j + 1) b2 ls (by omega) ?_ (lv_sub hl [3, 4, 1, 0] rfl)
          rw [hb2, hz]
          exact ss_min_yes hw hm hG
        have K0 : ¬ (ss_lit (ss_u x 4)) j → W p l e ss_r3 s m args below meth c s.heap [] 0 0 (MQ below (qRo (fun r => ss_min n cs wt 256 (ss_lit (ss_u x 4)) r)) args s 0 0 (fun _ => False)) (F0 m 36 ls []) := by
          intro hG
          refine lv_inc (k := 4) (j := j) (lv' := [(3, .int (nI (j + 1))), (4, .int (z)), (0, .ref (ad 0)), (1, .int x), (2, .int b)]) S dX1_lossWith_36 hl rfl (by decide) rfl (fun ls hl => ?_)
          refine lv_goto (tgt := 4) S.1 S.2.1 dX1_lossWith_39 (by decide) ?_
          exact ih (j + 1) b ls (by omega) (ss_min_no hm (fun q => hG q.1)) (lv_sub hl [2, 3, 4, 0] rfl)
        refine lv_if_eq (tgt := 36) S.1 S.2.1 dX1_lossWith_26 (by decide) (fun c2 => ?_) (fun c2 => ?_)
        · rcases key with ⟨-, h⟩ | ⟨h, -⟩
          · exact K0 h
          · rw [h] at c2; exact absurd c2 (by decide)
        · rcases key with ⟨h, -⟩ | ⟨-, h⟩
          · exact absurd h c2
          · exact K1 h
  refine lv_iconst (v := (-1)) S.1 S.2.1 dX1_lossWith_0 (by decide) ?_
  refine lv_istore_n (lv' := [(2, .int (-1)), (0, .ref (ad 0)), (1, .int x)]) S.1 S.2.1 dX1_lossWith_1 rfl hl (by decide) rfl (fun ls hl => ?_)
  refine lv_iconst (v := nI 0) S.1 S.2.1 dX1_lossWith_2 (by decide) ?_
  refine lv_istore_n (lv' := [(3, .int (nI 0)), (2, .int (-1)), (0, .ref (ad 0)), (1, .int x)]) S.1 S.2.1 dX1_lossWith_3 rfl hl (by decide) rfl (fun ls hl => ?_)
  exact loop 256 0 (-1) ls rfl ss_min_0 (lv_sub hl [2, 3, 1, 0] rfl)
set_option maxHeartbeats 8000000 in
theorem m_against (l : Launch) (D : va_G) (ad : Nat → Nat) (ka : Nat → ClassId) (u : XS) (n : Nat) (cs wt : Nat → Nat) (hu : m_ok n cs wt u) (x : Int32) : gRo l yX1_lossAgainst cX1_lossAgainst 5 (some .int) ss_r3 D (mT ka) (mW ad ka u) [.ref (ad 0), .int x] (fun r => ss_min n cs wt 256 (fun a => ss_sat (ss_u x 16) a 16 = false) r) := by
  refine gRo.ofW RX1 rfl (by decide) (Nat.le_of_ble_eq_true rfl) ?_
  intro p e s m args below meth c S hr hlk hH ls hl
  have hl : lv_has ls 5 [(0, .ref (ad 0)), (1, .int x)] := hl
  have hw := hu.2.2
  have hn := hw.1
  have loop : ∀ (q j : Nat) (b : Int32) (ls : Array Slot), j + q = 256 → ss_min n cs wt j (fun a => ss_sat (ss_u x 16) a 16 = false) b → lv_has ls 5 [(0, .ref (ad 0)), (1, .int x), (2, .int b), (3, .int (nI j))] → W p l e ss_r3 s m args below meth c s.heap [] 0 0 (MQ below (qRo (fun r => ss_min n cs wt 256 (fun a => ss_sat (ss_u x 16) a 16 = false) r)) args s 0 0 (fun _ => False)) (F0 m 4 ls []) := by
    intro q
    induction q with
    | zero =>
      intro j b ls hj hm hl
      refine lv_iload_n S.1 S.2.1 dX1_lossAgainst_4 rfl (lv_at hl 3 rfl) ?_
      refine lv_sipush (v := nI 256) S.1 S.2.1 dX1_lossAgainst_5 (by decide) ?_
      refine lv_icmp_ge (tgt := 42) S.1 S.2.1 dX1_lossAgainst_8 (by decide) (fun c1 => ?_) (fun c1 => ?_)
      · refine lv_iload_n S.1 S.2.1 dX1_lossAgainst_42 rfl (lv_at hl 2 rfl) ?_
        have ej : j = 256 := by omega
        subst ej
        exact gRo.iret S hr hlk hm dX1_lossAgainst_43
      · exact absurd (nI_le (by omega) (by omega)) c1
    | succ q ih =>
      intro j b ls hj hm hl
      refine lv_iload_n S.1 S.2.1 dX1_lossAgainst_4 rfl (lv_at hl 3 rfl) ?_
      refine lv_sipush (v := nI 256) S.1 S.2.1 dX1_lossAgainst_5 (by decide) ?_
      refine lv_icmp_ge (tgt := 42) S.1 S.2.1 dX1_lossAgainst_8 (by decide) (fun c1 => ?_) (fun c1 => ?_)
      · exact absurd ((nI_leI (by omega) (by omega)).mp c1) (by omega)
      · refine lv_aload_n S.1 S.2.1 dX1_lossAgainst_11 rfl (lv_at hl 0 rfl) ?_
        refine lv_iload_n S.1 S.2.1 dX1_lossAgainst_12 rfl (lv_at hl 3 rfl) ?_
        refine gRo.call (As := [.int (nI j)]) (rest := []) (m_lof l D ad ka u n cs wt hu j) S hH (cwV 1 S.2.2.2.2 (lw_V q198 q200 qs14 q17 q201) rfl rfl rfl (by decide +kernel) ⟨Nat.le_of_ble_eq_true rfl, Nat.le_of_ble_eq_true rfl⟩) (m_recv hH) rfl hl.1 rfl (Nat.le_of_ble_eq_true rfl) dX1_lossAgainst_13 ⟨Nat.le_refl _, Nat.le_refl _⟩ (fun z hz => ?_)
        refine lv_istore (lv' := [(4, .int (z)), (0, .ref (ad 0)), (1, .int x), (2, .int b), (3, .int (nI j))]) S.1 S.2.1 dX1_lossAgainst_16 hl (by decide) rfl (fun ls hl => ?_)
        refine lv_iload_n S.1 S.2.1 dX1_lossAgainst_18 rfl (lv_at hl 2 rfl) ?_
        refine lv_ldc S.1 S.2.1 S.2.2.2.1 (S.2.2.2.2 _ q181) dX1_lossAgainst_19 ?_
        refine lv_iand S.1 S.2.1 dX1_lossAgainst_21 ?_
        refine lv_as (nI (ss_u x 16)) (pk_and x 16 (by decide)) ?_
        refine lv_iload_n S.1 S.2.1 dX1_lossAgainst_22 rfl (lv_at hl 4 rfl) ?_
        refine gSt.call (As := [.int (nI (ss_u x 16)), .int (nI j)]) (rest := []) (m_holds l (ss_u x 16) j) S (va_cwS 2 S.2.2.2.2 (lw_S q202 q203 q17 q204) rfl rfl rfl (by decide +kernel) ⟨Nat.le_of_ble_eq_true rfl, Nat.le_of_ble_eq_true rfl⟩) rfl hl.1 rfl (Nat.le_of_ble_eq_true rfl) dX1_lossAgainst_23 ⟨Nat.le_refl _, Nat.le_refl _⟩ (fun t ht => ?_)
        have K1 : (fun a => ss_sat (ss_u x 16) a 16 = false) j → W p l e ss_r3 s m args below meth c s.heap [] 0 0 (MQ below (qRo (fun r => ss_min n cs wt 256 (fun a => ss_sat (ss_u x 16) a 16 = false) r)) args s 0 0 (fun _ => False)) (F0 m 29 ls []) := by
          intro hG
          refine lv_iload_n S.1 S.2.1 dX1_lossAgainst_29 rfl (lv_at hl 3 rfl) ?_
          refine lv_iload S.1 S.2.1 dX1_lossAgainst_30 (lv_at hl 0 rfl) ?_
          refine gSt.call (As := [.int b, .int z]) (rest := []) (m_less l b z) S (va_cwS 2 S.2.2.2.2 (lw_S q208 q209 q17 q210) rfl rfl rfl (by decide +kernel) ⟨Nat.le_of_ble_eq_true rfl, Nat.le_of_ble_eq_true rfl⟩) rfl hl.1 rfl (Nat.le_of_ble_eq_true rfl) dX1_lossAgainst_32 ⟨Nat.le_refl _, Nat.le_refl _⟩ (fun b2 hb2 => ?_)
          refine lv_istore_n (lv' := [(2, .int (b2)), (4, .int (z)), (0, .ref (ad 0)), (1, .int x), (3, .int (nI j))]) S.1 S.2.1 dX1_lossAgainst_35 rfl hl (by decide) rfl (fun ls hl => ?_)
          refine lv_inc (k := 4) (j := j) (lv' := [(3, .int (nI (j + 1))), (2, .int (b2)), (4, .int (z)), (0, .ref (ad 0)), (1, .int x)]) S dX1_lossAgainst_36 hl rfl (by decide) rfl (fun ls hl => ?_)
          refine lv_goto (tgt := 4) S.1 S.2.1 dX1_lossAgainst_39 (by decide) ?_
          refine ih (j + 1) b2 ls (by omega) ?_ (lv_sub hl [3, 4, 1, 0] rfl)
          rw [hb2, hz]
          exact ss_min_yes hw hm hG
        have K0 : ¬ (fun a => ss_sat (ss_u x 16) a 16 = false) j → W p l e ss_r3 s m args below meth c s.heap [] 0 0 (MQ below (qRo (fun r => ss_min n cs wt 256 (fun a => ss_sat (ss_u x 16) a 16 = false) r)) args s 0 0 (fun _ => False)) (F0 m 36 ls []) := by
          intro hG
          refine lv_inc (k := 4) (j := j) (lv' := [(3, .int (nI (j + 1))), (4, .int (z)), (0, .ref (ad 0)), (1, .int x), (2, .int b)]) S dX1_lossAgainst_36 hl rfl (by decide) rfl (fun ls hl => ?_)
          refine lv_goto (tgt := 4) S.1 S.2.1 dX1_lossAgainst_39 (by decide) ?_
          exact ih (j + 1) b ls (by omega) (ss_min_no hm (fun q => hG q.1)) (lv_sub hl [2, 3, 4, 0] rfl)
        refine lv_if_ne (tgt := 36) S.1 S.2.1 dX1_lossAgainst_26 (by decide) (fun c2 => ?_) (fun c2 => ?_)
        · by_cases h : ss_sat (ss_u x 16) j 16 = true
          · exact K0 (fun z => by have z2 : ss_sat (ss_u x 16) j 16 = false := z; rw [h] at z2; cases z2)
          · exact absurd (by rw [ht, if_neg h]) c2
        · by_cases h : ss_sat (ss_u x 16) j 16 = true
          · rw [ht, if_pos h] at c2; exact absurd c2 (by decide)
          · exact K1 (by simpa using h)
  refine lv_iconst (v := (-1)) S.1 S.2.1 dX1_lossAgainst_0 (by decide) ?_
  refine lv_istore_n (lv' := [(2, .int (-1)), (0, .ref (ad 0)), (1, .int x)]) S.1 S.2.1 dX1_lossAgainst_1 rfl hl (by decide) rfl (fun ls hl => ?_)
  refine lv_iconst (v := nI 0) S.1 S.2.1 dX1_lossAgainst_2 (by decide) ?_
  refine lv_istore_n (lv' := [(3, .int (nI 0)), (2, .int (-1)), (0, .ref (ad 0)), (1, .int x)]) S.1 S.2.1 dX1_lossAgainst_3 rfl hl (by decide) rfl (fun ls hl => ?_)
  exact loop 256 0 (-1) ls rfl ss_min_0 (lv_sub hl [2, 3, 1, 0] rfl)
set_option maxHeartbeats 8000000 in
theorem m_kept (l : Launch) (D : va_G) (ad : Nat → Nat) (ka : Nat → ClassId) (u : XS) (n : Nat) (cs wt : Nat → Nat) (hu : m_ok n cs wt u)  : gRo l yX1_kept cX1_kept 4 (some .int) ss_r5 D (mT ka) (mW ad ka u) [.ref (ad 0)] (fun r => ∃ b, ss_best n cs wt 256 (fun _ => True) b ∧ r = ss_kp n cs wt b) := by
  refine gRo.ofW RX1 rfl (by decide) (Nat.le_of_ble_eq_true rfl) ?_
  intro p e s m args below meth c S hr hlk hH ls hl
  have hl : lv_has ls 4 [(0, .ref (ad 0))] := hl
  have hw := hu.2.2
  have hn := hw.1
  refine lv_aload_n S.1 S.2.1 dX1_kept_0 rfl (lv_at hl 0 rfl) ?_
  refine gRo.call (As := []) (rest := []) (m_best l D ad ka u n cs wt hu) S hH (cwV 0 S.2.2.2.2 (lw_V q228 q213 q214 q17 q215) rfl rfl rfl (by decide +kernel) ⟨Nat.le_of_ble_eq_true rfl, Nat.le_of_ble_eq_true rfl⟩) (m_recv hH) rfl hl.1 rfl (Nat.le_of_ble_eq_true rfl) dX1_kept_1 ⟨Nat.le_refl _, Nat.le_refl _⟩ (fun z hz => ?_)
  refine lv_istore_n (lv' := [(1, .int (z)), (0, .ref (ad 0))]) S.1 S.2.1 dX1_kept_4 rfl hl (by decide) rfl (fun ls hl => ?_)
  refine lv_iload_n S.1 S.2.1 dX1_kept_5 rfl (lv_at hl 0 rfl) ?_
  refine lv_if_ge (tgt := 11) S.1 S.2.1 dX1_kept_6 (by decide) (fun c1 => ?_) (fun c1 => ?_)
  · have hB : ∃ B, B < 256 ∧ z = nI B := by
      rcases hz with ⟨h, -⟩ | ⟨B, hB, h, -⟩
      · rw [h] at c1; exact absurd c1 (by decide)
      · exact ⟨B, hB.1, h⟩
    obtain ⟨B, hB, rfl⟩ := hB
    have loop : ∀ (q j t : Nat) (ls : Array Slot), j + q = n → t = fb_ct (fun k => decide (0 < wt k) && ss_sat (cs k) B 16) j → lv_has ls 4 [(0, .ref (ad 0)), (1, .int (nI B)), (2, .int (nI t)), (3, .int (nI j))] → W p l e ss_r5 s m args below meth c s.heap [] 0 0 (MQ below (qRo (fun r => ∃ b, ss_best n cs wt 256 (fun _ => True) b ∧ r = ss_kp n cs wt b)) args s 0 0 (fun _ => False)) (F0 m 15 ls []) := by
      intro q
      induction q with
      | zero =>
        intro j t ls hj ht hl
        refine lv_iload_n S.1 S.2.1 dX1_kept_15 rfl (lv_at hl 3 rfl) ?_
        refine lv_aload_n S.1 S.2.1 dX1_kept_16 rfl (lv_at hl 0 rfl) ?_
        refine mg0 S hH dX1_kept_17 ?_
        refine lv_as (nI n) hu.1 ?_
        refine lv_icmp_ge (tgt := 54) S.1 S.2.1 dX1_kept_20 (by decide) (fun c2 => ?_) (fun c2 => ?_)
        · refine lv_iload_n S.1 S.2.1 dX1_kept_54 rfl (lv_at hl 2 rfl) ?_
          refine gRo.iret S hr hlk ⟨_, hz, ?_⟩ dX1_kept_55
          rw [ss_kp, if_neg (nI_pos (by omega)), nI_clamp (by omega), ht, show j = n by omega]
        · exact absurd (nI_le (by omega) (by omega)) c2
      | succ q ih =>
        intro j t ls hj ht hl
        refine lv_iload_n S.1 S.2.1 dX1_kept_15 rfl (lv_at hl 3 rfl) ?_
        refine lv_aload_n S.1 S.2.1 dX1_kept_16 rfl (lv_at hl 0 rfl) ?_
        refine mg0 S hH dX1_kept_17 ?_
        refine lv_as (nI n) hu.1 ?_
        refine lv_icmp_ge (tgt := 54) S.1 S.2.1 dX1_kept_20 (by decide) (fun c2 => ?_) (fun c2 => ?_)
        · exact absurd ((nI_leI (by omega) (by omega)).mp c2) (by omega)
        · have hjn : j < n := by omega
          have hwj := (hw.2 j hjn).2
          have K : ∀ (y : Nat) (ls : Array Slot), y = t + (if (decide (0 < wt j) && ss_sat (cs j) B 16) = true then 1 else 0) → lv_has ls 4 [(0, .ref (ad 0)), (1, .int (nI B)), (2, .int (nI y)), (3, .int (nI j))] → W p l e ss_r5 s m args below meth c s.heap [] 0 0 (MQ below (qRo (fun r => ∃ b, ss_best n cs wt 256 (fun _ => True) b ∧ r = ss_kp n cs wt b)) args s 0 0 (fun _ => False)) (F0 m 48 ls []) := by
            intro y ls hy hl
            refine lv_inc (k := 3) (j := j) (lv' := [(3, .int (nI (j + 1))), (0, .ref (ad 0)), (1, .int (nI B)), (2, .int (nI y))]) S dX1_kept_48 hl rfl (by decide) rfl (fun ls hl => ?_)
            refine lv_goto (tgt := 15) S.1 S.2.1 dX1_kept_51 (by decide) ?_
            exact ih (j + 1) y ls (by omega) (by rw [hy, ht]; rfl) (lv_sub hl [1, 2, 3, 0] rfl)
          refine lv_aload_n S.1 S.2.1 dX1_kept_23 rfl (lv_at hl 0 rfl) ?_
          refine mg2 S hH dX1_kept_24 ?_
          refine lv_iload_n S.1 S.2.1 dX1_kept_27 rfl (lv_at hl 3 rfl) ?_
          refine ml2 S hH (j) (by omega) dX1_kept_28 ?_
          refine lv_as (nI (wt j)) (hu.2.1 j hjn).2 ?_
          refine lv_if_le (tgt := 48) S.1 S.2.1 dX1_kept_29 (by decide) (fun c3 => ?_) (fun c3 => ?_)
          · have h0 : wt j ≤ 0 := (nI_leI (b := 0) (by omega) (by omega)).mp c3
            refine K t ls ?_ hl
            rw [if_neg]
            · rfl
            · rw [decide_eq_false (by omega)]
              simp
          · have h0 : ¬ wt j ≤ 0 := fun z => c3 (nI_le (b := 0) z (by decide))
            refine lv_aload_n S.1 S.2.1 dX1_kept_32 rfl (lv_at hl 0 rfl) ?_
            refine mg1 S hH dX1_kept_33 ?_
            refine lv_iload_n S.1 S.2.1 dX1_kept_36 rfl (lv_at hl 3 rfl) ?_
            refine ml1 S hH (j) (by omega) dX1_kept_37 ?_
            refine lv_as (nI (cs j)) (hu.2.1 j hjn).1 ?_
            refine lv_iload_n S.1 S.2.1 dX1_kept_38 rfl (lv_at hl 1 rfl) ?_
            refine gSt.call (As := [.int (nI (cs j)), .int (nI B)]) (rest := []) (m_holds l (cs j) B) S (va_cwS 2 S.2.2.2.2 (lw_S q202 q203 q17 q204) rfl rfl rfl (by decide +kernel) ⟨Nat.le_of_ble_eq_true rfl, Nat.le_of_ble_eq_true rfl⟩) rfl hl.1 rfl (Nat.le_of_ble_eq_true rfl) dX1_kept_39 ⟨Nat.le_refl _, Nat.le_refl _⟩ (fun v hv => ?_)
            refine lv_if_eq (tgt := 48) S.1 S.2.1 dX1_kept_42 (by decide) (fun c4 => ?_) (fun c4 => ?_)
            · refine K t ls ?_ hl
              rw [if_neg]
              · rfl
              · intro z1
                rw [Bool.and_eq_true] at z1
                rw [hv, if_pos z1.2] at c4
                exact absurd c4 (by decide)
            · refine lv_inc (k := 2) (j := t) (lv' := [(2, .int (nI (t + 1))), (0, .ref (ad 0)), (1, .int (nI B)), (3, .int (nI j))]) S dX1_kept_45 hl rfl (by decide) rfl (fun ls hl => ?_)
              refine K (t + 1) ls ?_ (lv_sub hl [1, 2, 0, 3] rfl)
              rw [if_pos]
              rw [Bool.and_eq_true, decide_eq_true_eq]
              refine ⟨by omega, ?_⟩
              by_cases z1 : ss_sat (cs j) B 16 = true
              · exact z1
              · rw [hv, if_neg z1] at c4; exact absurd rfl c4
    refine lv_iconst (v := nI 0) S.1 S.2.1 dX1_kept_11 (by decide) ?_
    refine lv_istore_n (lv' := [(2, .int (nI 0)), (1, .int (nI B)), (0, .ref (ad 0))]) S.1 S.2.1 dX1_kept_12 rfl hl (by decide) rfl (fun ls hl => ?_)
    refine lv_iconst (v := nI 0) S.1 S.2.1 dX1_kept_13 (by decide) ?_
    refine lv_istore_n (lv' := [(3, .int (nI 0)), (2, .int (nI 0)), (1, .int (nI B)), (0, .ref (ad 0))]) S.1 S.2.1 dX1_kept_14 rfl hl (by decide) rfl (fun ls hl => ?_)
    exact loop n 0 0 ls (by omega) rfl (lv_sub hl [3, 2, 1, 0] rfl)
  · refine lv_iconst (v := (-1)) S.1 S.2.1 dX1_kept_9 (by decide) ?_
    have c2 := fa_of_nle c1
    exact gRo.iret S hr hlk ⟨_, hz, by rw [ss_kp, if_pos c2]⟩ dX1_kept_10
end
section
set_option maxRecDepth 100000
/-! the constructors: what is made, and where -/
abbrev x_w0 (h0 : Nat) : va_W := [(h0, .inr (0, [.int 0, .null, .null, .null, .null, .int 0, .int 0, .null, .null, .int 0, .null, .null, .null]))]
abbrev x_rI : Room := { frames := 1, cells := 9, slots := 136, locals := 32 }
/-- what stands behind the constructor: the object, with its arrays, somewhere -/
def x_I (D : va_G) (h0 : Nat) (A : Nat → Prop) (z : (Nat → Nat) × (Nat → ClassId) × XS) (t : State) : Prop := z.1 0 = h0 ∧ va_P D vwCl (xW z.1 z.2.1 z.2.2) t.heap ∧ va_K D vwCl (xT z.2.1) t ∧ va_D A (xW z.1 z.2.1 z.2.2)
set_option maxHeartbeats 8000000 in
theorem x_init (l : Launch) (D : va_G) (h0 sz : Nat) : Met l yX0_init (ws_ yX0_init cX0_init 1 none) x_rI (gPc D [] (x_w0 h0) [.ref h0] sz) (va_Qv (fun z : (Nat → Nat) × (Nat → ClassId) × XS => x_ok 0 (fun _ => 0) (fun _ => 0) z.2.2) (x_I D h0 (va_A (x_w0 h0) sz)) (va_A (x_w0 h0) sz)) 9 136 (va_A (x_w0 h0) sz) := by
  refine Met.ofW (cc := cX0_init) (maxL := 1) (ret := none) (by decide) rfl ?_
  intro p e s m args below meth c s₁ B hml hv
  obtain ⟨rfl, hsz, hP, hK, hD0⟩ := hv
  have hx := B.exec
  have hb := B.bytes
  have hr := B.returns
  have hts := atoms_spec (ws := ws_ yX0_init cX0_init 1 none) B.pre
  have hts : ∀ w ∈ lw_all, w.before _ s = true := fun w h => hts w (List.mem_cons_of_mem _ h)
  have hown : s.vm.findClass RX0 = some m.cls := findClass_of_methodNamed B.named
  have hlocks := B.notSynchronized
  have hin : meth.name = "<init>" := (name_of_methodNamed B.named B.method).1
  subst hsz
  have hD := hD0.self (sz := s.heap.size)
  generalize hAe : va_A (x_w0 h0) s.heap.size = A at hD ⊢
  have hA : ∀ q : Nat, s.heap.size ≤ q → A q := fun q h => by rw [← hAe]; exact Or.inr h
  have hS : va_S A s.heap s.heap [] := va_S.rf
  have hl := lv_entry ([.ref h0]) (n := 1) (Nat.le_of_ble_eq_true rfl)
  rw [lg_entry_eq]
  generalize (lg_sl ([.ref h0]) ++ List.replicate (1 - (lg_sl ([.ref h0])).length) Slot.unset).toArray = ls at hl ⊢
  have hl : lv_has ls 1 [(0, .ref h0)] := hl
  refine lv_aload_n hx hb dX0_init_0 rfl (lv_at hl 0 rfl) ?_
  refine W.objInit hx hb hown (hts _ q23) (hts _ q24) (hts _ q25) rfl (by rw [hml]; exact hl.1) rfl dX0_init_1 (Nat.le_of_ble_eq_true rfl) (Nat.le_of_ble_eq_true rfl) ?_
  refine W.eq (g2 := F0 m 4 ls []) rfl ?_
  refine lv_aload_n hx hb dX0_init_4 rfl (lv_at hl 0 rfl) ?_
  refine lv_bipush (v := 24) hx hb dX0_init_5 (by decide) ?_
  refine va_newa (atype := .int) (ty := .int) (N' := 24) (a0 := (24, .inl (fun _ => (0 : Int32)))) hx hb (hts _ q66) rfl hK hP hD hS hA (fun _ => rfl) (by decide) (by decide) (by decide) (Nat.le_of_ble_eq_true rfl) (Nat.le_of_ble_eq_true rfl) dX0_init_7 (fun q1 k1 H hK hP hD hS => ?_)
  have hP : va_P D vwCl [(h0, .inr (0, [.int 0, .null, .null, .null, .null, .int 0, .int 0, .null, .null, .int 0, .null, .null, .null])), (q1, .inl (k1, 24, .inl (fun _ => (0 : Int32))))] H := hP
  have hD : va_D A [(h0, .inr (0, [.int 0, .null, .null, .null, .null, .int 0, .int 0, .null, .null, .int 0, .null, .null, .null])), (q1, .inl (k1, 24, .inl (fun _ => (0 : Int32))))] := hD
  have hK : va_K D vwCl [(k1, .int)] s := hK
  refine va_putF (D := D) (ci := 0) (v := .ref q1) (ty := .array .int) (C := RX0) (T := TX0) (N := 13) hx hb hts in_X0 tyX0 tyX0_ok nmX0 hown hK hP hD hS 0 rfl rfl 1 (by decide) (hts _ q27) (fun _ h9 => h9) rfl hin rfl (by decide +kernel) rfl rfl (Nat.le_of_ble_eq_true rfl) dX0_init_9 (fun H locs hP hD hS => ?_)
  have hP : va_P D vwCl [(h0, .inr (0, [.int 0, .ref q1, .null, .null, .null, .int 0, .int 0, .null, .null, .int 0, .null, .null, .null])), (q1, .inl (k1, 24, .inl (fun _ => (0 : Int32))))] H := hP
  have hD : va_D A [(h0, .inr (0, [.int 0, .ref q1, .null, .null, .null, .int 0, .int 0, .null, .null, .int 0, .null, .null, .null])), (q1, .inl (k1, 24, .inl (fun _ => (0 : Int32))))] := hD
  refine lv_aload_n hx hb dX0_init_12 rfl (lv_at hl 0 rfl) ?_
  refine lv_bipush (v := 24) hx hb dX0_init_13 (by decide) ?_
  refine va_newa (atype := .int) (ty := .int) (N' := 24) (a0 := (24, .inl (fun _ => (0 : Int32)))) hx hb (hts _ q66) rfl hK hP hD hS hA (fun _ => rfl) (by decide) (by decide) (by decide) (Nat.le_of_ble_eq_true rfl) (Nat.le_of_ble_eq_true rfl) dX0_init_15 (fun q2 k2 H hK hP hD hS => ?_)
  have hP : va_P D vwCl [(h0, .inr (0, [.int 0, .ref q1, .null, .null, .null, .int 0, .int 0, .null, .null, .int 0, .null, .null, .null])), (q1, .inl (k1, 24, .inl (fun _ => (0 : Int32)))), (q2, .inl (k2, 24, .inl (fun _ => (0 : Int32))))] H := hP
  have hD : va_D A [(h0, .inr (0, [.int 0, .ref q1, .null, .null, .null, .int 0, .int 0, .null, .null, .int 0, .null, .null, .null])), (q1, .inl (k1, 24, .inl (fun _ => (0 : Int32)))), (q2, .inl (k2, 24, .inl (fun _ => (0 : Int32))))] := hD
  have hK : va_K D vwCl [(k1, .int), (k2, .int)] s := hK
  refine va_putF (D := D) (ci := 0) (v := .ref q2) (ty := .array .int) (C := RX0) (T := TX0) (N := 13) hx hb hts in_X0 tyX0 tyX0_ok nmX0 hown hK hP hD hS 0 rfl rfl 2 (by decide) (hts _ q28) (fun _ h9 => h9) rfl hin rfl (by decide +kernel) rfl rfl (Nat.le_of_ble_eq_true rfl) dX0_init_17 (fun H locs hP hD hS => ?_)
  have hP : va_P D vwCl [(h0, .inr (0, [.int 0, .ref q1, .ref q2, .null, .null, .int 0, .int 0, .null, .null, .int 0, .null, .null, .null])), (q1, .inl (k1, 24, .inl (fun _ => (0 : Int32)))), (q2, .inl (k2, 24, .inl (fun _ => (0 : Int32))))] H := hP
  have hD : va_D A [(h0, .inr (0, [.int 0, .ref q1, .ref q2, .null, .null, .int 0, .int 0, .null, .null, .int 0, .null, .null, .null])), (q1, .inl (k1, 24, .inl (fun _ => (0 : Int32)))), (q2, .inl (k2, 24, .inl (fun _ => (0 : Int32))))] := hD
  refine lv_aload_n hx hb dX0_init_20 rfl (lv_at hl 0 rfl) ?_
  refine lv_bipush (v := 8) hx hb dX0_init_21 (by decide) ?_
  refine va_newa (atype := .int) (ty := .int) (N' := 8) (a0 := (8, .inl (fun _ => (0 : Int32)))) hx hb (hts _ q66) rfl hK hP hD hS hA (fun _ => rfl) (by decide) (by decide) (by decide) (Nat.le_of_ble_eq_true rfl) (Nat.le_of_ble_eq_true rfl) dX0_init_23 (fun q3 k3 H hK hP hD hS => ?_)
  have hP : va_P D vwCl [(h0, .inr (0, [.int 0, .ref q1, .ref q2, .null, .null, .int 0, .int 0, .null, .null, .int 0, .null, .null, .null])), (q1, .inl (k1, 24, .inl (fun _ => (0 : Int32)))), (q2, .inl (k2, 24, .inl (fun _ => (0 : Int32)))), (q3, .inl (k3, 8, .inl (fun _ => (0 : Int32))))] H := hP
  have hD : va_D A [(h0, .inr (0, [.int 0, .ref q1, .ref q2, .null, .null, .int 0, .int 0, .null, .null, .int 0, .null, .null, .null])), (q1, .inl (k1, 24, .inl (fun _ => (0 : Int32)))), (q2, .inl (k2, 24, .inl (fun _ => (0 : Int32)))), (q3, .inl (k3, 8, .inl (fun _ => (0 : Int32))))] := hD
  have hK : va_K D vwCl [(k1, .int), (k2, .int), (k3, .int)] s := hK
  refine va_putF (D := D) (ci := 0) (v := .ref q3) (ty := .array .int) (C := RX0) (T := TX0) (N := 13) hx hb hts in_X0 tyX0 tyX0_ok nmX0 hown hK hP hD hS 0 rfl rfl 3 (by decide) (hts _ q29) (fun _ h9 => h9) rfl hin rfl (by decide +kernel) rfl rfl (Nat.le_of_ble_eq_true rfl) dX0_init_25 (fun H locs hP hD hS => ?_)
  have hP : va_P D vwCl [(h0, .inr (0, [.int 0, .ref q1, .ref q2, .ref q3, .null, .int 0, .int 0, .null, .null, .int 0, .null, .null, .null])), (q1, .inl (k1, 24, .inl (fun _ => (0 : Int32)))), (q2, .inl (k2, 24, .inl (fun _ => (0 : Int32)))), (q3, .inl (k3, 8, .inl (fun _ => (0 : Int32))))] H := hP
  have hD : va_D A [(h0, .inr (0, [.int 0, .ref q1, .ref q2, .ref q3, .null, .int 0, .int 0, .null, .null, .int 0, .null, .null, .null])), (q1, .inl (k1, 24, .inl (fun _ => (0 : Int32)))), (q2, .inl (k2, 24, .inl (fun _ => (0 : Int32)))), (q3, .inl (k3, 8, .inl (fun _ => (0 : Int32))))] := hD
  refine lv_aload_n hx hb dX0_init_28 rfl (lv_at hl 0 rfl) ?_
  refine lv_bipush (v := 8) hx hb dX0_init_29 (by decide) ?_
  refine va_newa (atype := .int) (ty := .int) (N' := 8) (a0 := (8, .inl (fun _ => (0 : Int32)))) hx hb (hts _ q66) rfl hK hP hD hS hA (fun _ => rfl) (by decide) (by decide) (by decide) (Nat.le_of_ble_eq_true rfl) (Nat.le_of_ble_eq_true rfl) dX0_init_31 (fun q4 k4 H hK hP hD hS => ?_)
  have hP : va_P D vwCl [(h0, .inr (0, [.int 0, .ref q1, .ref q2, .ref q3, .null, .int 0, .int 0, .null, .null, .int 0, .null, .null, .null])), (q1, .inl (k1, 24, .inl (fun _ => (0 : Int32)))), (q2, .inl (k2, 24, .inl (fun _ => (0 : Int32)))), (q3, .inl (k3, 8, .inl (fun _ => (0 : Int32)))), (q4, .inl (k4, 8, .inl (fun _ => (0 : Int32))))] H := hP
  have hD : va_D A [(h0, .inr (0, [.int 0, .ref q1, .ref q2, .ref q3, .null, .int 0, .int 0, .null, .null, .int 0, .null, .null, .null])), (q1, .inl (k1, 24, .inl (fun _ => (0 : Int32)))), (q2, .inl (k2, 24, .inl (fun _ => (0 : Int32)))), (q3, .inl (k3, 8, .inl (fun _ => (0 : Int32)))), (q4, .inl (k4, 8, .inl (fun _ => (0 : Int32))))] := hD
  have hK : va_K D vwCl [(k1, .int), (k2, .int), (k3, .int), (k4, .int)] s := hK
  refine va_putF (D := D) (ci := 0) (v := .ref q4) (ty := .array .int) (C := RX0) (T := TX0) (N := 13) hx hb hts in_X0 tyX0 tyX0_ok nmX0 hown hK hP hD hS 0 rfl rfl 4 (by decide) (hts _ q30) (fun _ h9 => h9) rfl hin rfl (by decide +kernel) rfl rfl (Nat.le_of_ble_eq_true rfl) dX0_init_33 (fun H locs hP hD hS => ?_)
  have hP : va_P D vwCl [(h0, .inr (0, [.int 0, .ref q1, .ref q2, .ref q3, .ref q4, .int 0, .int 0, .null, .null, .int 0, .null, .null, .null])), (q1, .inl (k1, 24, .inl (fun _ => (0 : Int32)))), (q2, .inl (k2, 24, .inl (fun _ => (0 : Int32)))), (q3, .inl (k3, 8, .inl (fun _ => (0 : Int32)))), (q4, .inl (k4, 8, .inl (fun _ => (0 : Int32))))] H := hP
  have hD : va_D A [(h0, .inr (0, [.int 0, .ref q1, .ref q2, .ref q3, .ref q4, .int 0, .int 0, .null, .null, .int 0, .null, .null, .null])), (q1, .inl (k1, 24, .inl (fun _ => (0 : Int32)))), (q2, .inl (k2, 24, .inl (fun _ => (0 : Int32)))), (q3, .inl (k3, 8, .inl (fun _ => (0 : Int32)))), (q4, .inl (k4, 8, .inl (fun _ => (0 : Int32))))] := hD
  refine lv_aload_n hx hb dX0_init_36 rfl (lv_at hl 0 rfl) ?_
  refine lv_bipush (v := 8) hx hb dX0_init_37 (by decide) ?_
  refine va_newa (atype := .int) (ty := .int) (N' := 8) (a0 := (8, .inl (fun _ => (0 : Int32)))) hx hb (hts _ q66) rfl hK hP hD hS hA (fun _ => rfl) (by decide) (by decide) (by decide) (Nat.le_of_ble_eq_true rfl) (Nat.le_of_ble_eq_true rfl) dX0_init_39 (fun q7 k7 H hK hP hD hS => ?_)
  have hP : va_P D vwCl [(h0, .inr (0, [.int 0, .ref q1, .ref q2, .ref q3, .ref q4, .int 0, .int 0, .null, .null, .int 0, .null, .null, .null])), (q1, .inl (k1, 24, .inl (fun _ => (0 : Int32)))), (q2, .inl (k2, 24, .inl (fun _ => (0 : Int32)))), (q3, .inl (k3, 8, .inl (fun _ => (0 : Int32)))), (q4, .inl (k4, 8, .inl (fun _ => (0 : Int32)))), (q7, .inl (k7, 8, .inl (fun _ => (0 : Int32))))] H := hP
  have hD : va_D A [(h0, .inr (0, [.int 0, .ref q1, .ref q2, .ref q3, .ref q4, .int 0, .int 0, .null, .null, .int 0, .null, .null, .null])), (q1, .inl (k1, 24, .inl (fun _ => (0 : Int32)))), (q2, .inl (k2, 24, .inl (fun _ => (0 : Int32)))), (q3, .inl (k3, 8, .inl (fun _ => (0 : Int32)))), (q4, .inl (k4, 8, .inl (fun _ => (0 : Int32)))), (q7, .inl (k7, 8, .inl (fun _ => (0 : Int32))))] := hD
  have hK : va_K D vwCl [(k1, .int), (k2, .int), (k3, .int), (k4, .int), (k7, .int)] s := hK
  refine va_putF (D := D) (ci := 0) (v := .ref q7) (ty := .array .int) (C := RX0) (T := TX0) (N := 13) hx hb hts in_X0 tyX0 tyX0_ok nmX0 hown hK hP hD hS 0 rfl rfl 7 (by decide) (hts _ q33) (fun _ h9 => h9) rfl hin rfl (by decide +kernel) rfl rfl (Nat.le_of_ble_eq_true rfl) dX0_init_41 (fun H locs hP hD hS => ?_)
  have hP : va_P D vwCl [(h0, .inr (0, [.int 0, .ref q1, .ref q2, .ref q3, .ref q4, .int 0, .int 0, .ref q7, .null, .int 0, .null, .null, .null])), (q1, .inl (k1, 24, .inl (fun _ => (0 : Int32)))), (q2, .inl (k2, 24, .inl (fun _ => (0 : Int32)))), (q3, .inl (k3, 8, .inl (fun _ => (0 : Int32)))), (q4, .inl (k4, 8, .inl (fun _ => (0 : Int32)))), (q7, .inl (k7, 8, .inl (fun _ => (0 : Int32))))] H := hP
  have hD : va_D A [(h0, .inr (0, [.int 0, .ref q1, .ref q2, .ref q3, .ref q4, .int 0, .int 0, .ref q7, .null, .int 0, .null, .null, .null])), (q1, .inl (k1, 24, .inl (fun _ => (0 : Int32)))), (q2, .inl (k2, 24, .inl (fun _ => (0 : Int32)))), (q3, .inl (k3, 8, .inl (fun _ => (0 : Int32)))), (q4, .inl (k4, 8, .inl (fun _ => (0 : Int32)))), (q7, .inl (k7, 8, .inl (fun _ => (0 : Int32))))] := hD
  refine lv_aload_n hx hb dX0_init_44 rfl (lv_at hl 0 rfl) ?_
  refine lv_bipush (v := 8) hx hb dX0_init_45 (by decide) ?_
  refine va_newa (atype := .int) (ty := .int) (N' := 8) (a0 := (8, .inl (fun _ => (0 : Int32)))) hx hb (hts _ q66) rfl hK hP hD hS hA (fun _ => rfl) (by decide) (by decide) (by decide) (Nat.le_of_ble_eq_true rfl) (Nat.le_of_ble_eq_true rfl) dX0_init_47 (fun q8 k8 H hK hP hD hS => ?_)
  have hP : va_P D vwCl [(h0, .inr (0, [.int 0, .ref q1, .ref q2, .ref q3, .ref q4, .int 0, .int 0, .ref q7, .null, .int 0, .null, .null, .null])), (q1, .inl (k1, 24, .inl (fun _ => (0 : Int32)))), (q2, .inl (k2, 24, .inl (fun _ => (0 : Int32)))), (q3, .inl (k3, 8, .inl (fun _ => (0 : Int32)))), (q4, .inl (k4, 8, .inl (fun _ => (0 : Int32)))), (q7, .inl (k7, 8, .inl (fun _ => (0 : Int32)))), (q8, .inl (k8, 8, .inl (fun _ => (0 : Int32))))] H := hP
  have hD : va_D A [(h0, .inr (0, [.int 0, .ref q1, .ref q2, .ref q3, .ref q4, .int 0, .int 0, .ref q7, .null, .int 0, .null, .null, .null])), (q1, .inl (k1, 24, .inl (fun _ => (0 : Int32)))), (q2, .inl (k2, 24, .inl (fun _ => (0 : Int32)))), (q3, .inl (k3, 8, .inl (fun _ => (0 : Int32)))), (q4, .inl (k4, 8, .inl (fun _ => (0 : Int32)))), (q7, .inl (k7, 8, .inl (fun _ => (0 : Int32)))), (q8, .inl (k8, 8, .inl (fun _ => (0 : Int32))))] := hD
  have hK : va_K D vwCl [(k1, .int), (k2, .int), (k3, .int), (k4, .int), (k7, .int), (k8, .int)] s := hK
  refine va_putF (D := D) (ci := 0) (v := .ref q8) (ty := .array .int) (C := RX0) (T := TX0) (N := 13) hx hb hts in_X0 tyX0 tyX0_ok nmX0 hown hK hP hD hS 0 rfl rfl 8 (by decide) (hts _ q34) (fun _ h9 => h9) rfl hin rfl (by decide +kernel) rfl rfl (Nat.le_of_ble_eq_true rfl) dX0_init_49 (fun H locs hP hD hS => ?_)
  have hP : va_P D vwCl [(h0, .inr (0, [.int 0, .ref q1, .ref q2, .ref q3, .ref q4, .int 0, .int 0, .ref q7, .ref q8, .int 0, .null, .null, .null])), (q1, .inl (k1, 24, .inl (fun _ => (0 : Int32)))), (q2, .inl (k2, 24, .inl (fun _ => (0 : Int32)))), (q3, .inl (k3, 8, .inl (fun _ => (0 : Int32)))), (q4, .inl (k4, 8, .inl (fun _ => (0 : Int32)))), (q7, .inl (k7, 8, .inl (fun _ => (0 : Int32)))), (q8, .inl (k8, 8, .inl (fun _ => (0 : Int32))))] H := hP
  have hD : va_D A [(h0, .inr (0, [.int 0, .ref q1, .ref q2, .ref q3, .ref q4, .int 0, .int 0, .ref q7, .ref q8, .int 0, .null, .null, .null])), (q1, .inl (k1, 24, .inl (fun _ => (0 : Int32)))), (q2, .inl (k2, 24, .inl (fun _ => (0 : Int32)))), (q3, .inl (k3, 8, .inl (fun _ => (0 : Int32)))), (q4, .inl (k4, 8, .inl (fun _ => (0 : Int32)))), (q7, .inl (k7, 8, .inl (fun _ => (0 : Int32)))), (q8, .inl (k8, 8, .inl (fun _ => (0 : Int32))))] := hD
  refine lv_aload_n hx hb dX0_init_52 rfl (lv_at hl 0 rfl) ?_
  refine lv_bipush (v := 8) hx hb dX0_init_53 (by decide) ?_
  refine va_newa (atype := .int) (ty := .int) (N' := 8) (a0 := (8, .inl (fun _ => (0 : Int32)))) hx hb (hts _ q66) rfl hK hP hD hS hA (fun _ => rfl) (by decide) (by decide) (by decide) (Nat.le_of_ble_eq_true rfl) (Nat.le_of_ble_eq_true rfl) dX0_init_55 (fun q10 k10 H hK hP hD hS => ?_)
  have hP : va_P D vwCl [(h0, .inr (0, [.int 0, .ref q1, .ref q2, .ref q3, .ref q4, .int 0, .int 0, .ref q7, .ref q8, .int 0, .null, .null, .null])), (q1, .inl (k1, 24, .inl (fun _ => (0 : Int32)))), (q2, .inl (k2, 24, .inl (fun _ => (0 : Int32)))), (q3, .inl (k3, 8, .inl (fun _ => (0 : Int32)))), (q4, .inl (k4, 8, .inl (fun _ => (0 : Int32)))), (q7, .inl (k7, 8, .inl (fun _ => (0 : Int32)))), (q8, .inl (k8, 8, .inl (fun _ => (0 : Int32)))), (q10, .inl (k10, 8, .inl (fun _ => (0 : Int32))))] H := hP
  have hD : va_D A [(h0, .inr (0, [.int 0, .ref q1, .ref q2, .ref q3, .ref q4, .int 0, .int 0, .ref q7, .ref q8, .int 0, .null, .null, .null])), (q1, .inl (k1, 24, .inl (fun _ => (0 : Int32)))), (q2, .inl (k2, 24, .inl (fun _ => (0 : Int32)))), (q3, .inl (k3, 8, .inl (fun _ => (0 : Int32)))), (q4, .inl (k4, 8, .inl (fun _ => (0 : Int32)))), (q7, .inl (k7, 8, .inl (fun _ => (0 : Int32)))), (q8, .inl (k8, 8, .inl (fun _ => (0 : Int32)))), (q10, .inl (k10, 8, .inl (fun _ => (0 : Int32))))] := hD
  have hK : va_K D vwCl [(k1, .int), (k2, .int), (k3, .int), (k4, .int), (k7, .int), (k8, .int), (k10, .int)] s := hK
  refine va_putF (D := D) (ci := 0) (v := .ref q10) (ty := .array .int) (C := RX0) (T := TX0) (N := 13) hx hb hts in_X0 tyX0 tyX0_ok nmX0 hown hK hP hD hS 0 rfl rfl 10 (by decide) (hts _ q36) (fun _ h9 => h9) rfl hin rfl (by decide +kernel) rfl rfl (Nat.le_of_ble_eq_true rfl) dX0_init_57 (fun H locs hP hD hS => ?_)
  have hP : va_P D vwCl [(h0, .inr (0, [.int 0, .ref q1, .ref q2, .ref q3, .ref q4, .int 0, .int 0, .ref q7, .ref q8, .int 0, .ref q10, .null, .null])), (q1, .inl (k1, 24, .inl (fun _ => (0 : Int32)))), (q2, .inl (k2, 24, .inl (fun _ => (0 : Int32)))), (q3, .inl (k3, 8, .inl (fun _ => (0 : Int32)))), (q4, .inl (k4, 8, .inl (fun _ => (0 : Int32)))), (q7, .inl (k7, 8, .inl (fun _ => (0 : Int32)))), (q8, .inl (k8, 8, .inl (fun _ => (0 : Int32)))), (q10, .inl (k10, 8, .inl (fun _ => (0 : Int32))))] H := hP
  have hD : va_D A [(h0, .inr (0, [.int 0, .ref q1, .ref q2, .ref q3, .ref q4, .int 0, .int 0, .ref q7, .ref q8, .int 0, .ref q10, .null, .null])), (q1, .inl (k1, 24, .inl (fun _ => (0 : Int32)))), (q2, .inl (k2, 24, .inl (fun _ => (0 : Int32)))), (q3, .inl (k3, 8, .inl (fun _ => (0 : Int32)))), (q4, .inl (k4, 8, .inl (fun _ => (0 : Int32)))), (q7, .inl (k7, 8, .inl (fun _ => (0 : Int32)))), (q8, .inl (k8, 8, .inl (fun _ => (0 : Int32)))), (q10, .inl (k10, 8, .inl (fun _ => (0 : Int32))))] := hD
  refine lv_aload_n hx hb dX0_init_60 rfl (lv_at hl 0 rfl) ?_
  refine lv_bipush (v := 24) hx hb dX0_init_61 (by decide) ?_
  refine va_newa (atype := .int) (ty := .int) (N' := 24) (a0 := (24, .inl (fun _ => (0 : Int32)))) hx hb (hts _ q66) rfl hK hP hD hS hA (fun _ => rfl) (by decide) (by decide) (by decide) (Nat.le_of_ble_eq_true rfl) (Nat.le_of_ble_eq_true rfl) dX0_init_63 (fun q11 k11 H hK hP hD hS => ?_)
  have hP : va_P D vwCl [(h0, .inr (0, [.int 0, .ref q1, .ref q2, .ref q3, .ref q4, .int 0, .int 0, .ref q7, .ref q8, .int 0, .ref q10, .null, .null])), (q1, .inl (k1, 24, .inl (fun _ => (0 : Int32)))), (q2, .inl (k2, 24, .inl (fun _ => (0 : Int32)))), (q3, .inl (k3, 8, .inl (fun _ => (0 : Int32)))), (q4, .inl (k4, 8, .inl (fun _ => (0 : Int32)))), (q7, .inl (k7, 8, .inl (fun _ => (0 : Int32)))), (q8, .inl (k8, 8, .inl (fun _ => (0 : Int32)))), (q10, .inl (k10, 8, .inl (fun _ => (0 : Int32)))), (q11, .inl (k11, 24, .inl (fun _ => (0 : Int32))))] H := hP
  have hD : va_D A [(h0, .inr (0, [.int 0, .ref q1, .ref q2, .ref q3, .ref q4, .int 0, .int 0, .ref q7, .ref q8, .int 0, .ref q10, .null, .null])), (q1, .inl (k1, 24, .inl (fun _ => (0 : Int32)))), (q2, .inl (k2, 24, .inl (fun _ => (0 : Int32)))), (q3, .inl (k3, 8, .inl (fun _ => (0 : Int32)))), (q4, .inl (k4, 8, .inl (fun _ => (0 : Int32)))), (q7, .inl (k7, 8, .inl (fun _ => (0 : Int32)))), (q8, .inl (k8, 8, .inl (fun _ => (0 : Int32)))), (q10, .inl (k10, 8, .inl (fun _ => (0 : Int32)))), (q11, .inl (k11, 24, .inl (fun _ => (0 : Int32))))] := hD
  have hK : va_K D vwCl [(k1, .int), (k2, .int), (k3, .int), (k4, .int), (k7, .int), (k8, .int), (k10, .int), (k11, .int)] s := hK
  refine va_putF (D := D) (ci := 0) (v := .ref q11) (ty := .array .int) (C := RX0) (T := TX0) (N := 13) hx hb hts in_X0 tyX0 tyX0_ok nmX0 hown hK hP hD hS 0 rfl rfl 11 (by decide) (hts _ q37) (fun _ h9 => h9) rfl hin rfl (by decide +kernel) rfl rfl (Nat.le_of_ble_eq_true rfl) dX0_init_65 (fun H locs hP hD hS => ?_)
  have hP : va_P D vwCl [(h0, .inr (0, [.int 0, .ref q1, .ref q2, .ref q3, .ref q4, .int 0, .int 0, .ref q7, .ref q8, .int 0, .ref q10, .ref q11, .null])), (q1, .inl (k1, 24, .inl (fun _ => (0 : Int32)))), (q2, .inl (k2, 24, .inl (fun _ => (0 : Int32)))), (q3, .inl (k3, 8, .inl (fun _ => (0 : Int32)))), (q4, .inl (k4, 8, .inl (fun _ => (0 : Int32)))), (q7, .inl (k7, 8, .inl (fun _ => (0 : Int32)))), (q8, .inl (k8, 8, .inl (fun _ => (0 : Int32)))), (q10, .inl (k10, 8, .inl (fun _ => (0 : Int32)))), (q11, .inl (k11, 24, .inl (fun _ => (0 : Int32))))] H := hP
  have hD : va_D A [(h0, .inr (0, [.int 0, .ref q1, .ref q2, .ref q3, .ref q4, .int 0, .int 0, .ref q7, .ref q8, .int 0, .ref q10, .ref q11, .null])), (q1, .inl (k1, 24, .inl (fun _ => (0 : Int32)))), (q2, .inl (k2, 24, .inl (fun _ => (0 : Int32)))), (q3, .inl (k3, 8, .inl (fun _ => (0 : Int32)))), (q4, .inl (k4, 8, .inl (fun _ => (0 : Int32)))), (q7, .inl (k7, 8, .inl (fun _ => (0 : Int32)))), (q8, .inl (k8, 8, .inl (fun _ => (0 : Int32)))), (q10, .inl (k10, 8, .inl (fun _ => (0 : Int32)))), (q11, .inl (k11, 24, .inl (fun _ => (0 : Int32))))] := hD
  refine lv_aload_n hx hb dX0_init_68 rfl (lv_at hl 0 rfl) ?_
  refine lv_bipush (v := 24) hx hb dX0_init_69 (by decide) ?_
  refine va_newa (atype := .boolean) (ty := .boolean) (N' := 24) (a0 := (24, .inl (fun _ => (0 : Int32)))) hx hb (hts _ q67) rfl hK hP hD hS hA (fun _ => rfl) (by decide) (by decide) (by decide) (Nat.le_of_ble_eq_true rfl) (Nat.le_of_ble_eq_true rfl) dX0_init_71 (fun q12 k12 H hK hP hD hS => ?_)
  have hP : va_P D vwCl [(h0, .inr (0, [.int 0, .ref q1, .ref q2, .ref q3, .ref q4, .int 0, .int 0, .ref q7, .ref q8, .int 0, .ref q10, .ref q11, .null])), (q1, .inl (k1, 24, .inl (fun _ => (0 : Int32)))), (q2, .inl (k2, 24, .inl (fun _ => (0 : Int32)))), (q3, .inl (k3, 8, .inl (fun _ => (0 : Int32)))), (q4, .inl (k4, 8, .inl (fun _ => (0 : Int32)))), (q7, .inl (k7, 8, .inl (fun _ => (0 : Int32)))), (q8, .inl (k8, 8, .inl (fun _ => (0 : Int32)))), (q10, .inl (k10, 8, .inl (fun _ => (0 : Int32)))), (q11, .inl (k11, 24, .inl (fun _ => (0 : Int32)))), (q12, .inl (k12, 24, .inl (fun _ => (0 : Int32))))] H := hP
  have hD : va_D A [(h0, .inr (0, [.int 0, .ref q1, .ref q2, .ref q3, .ref q4, .int 0, .int 0, .ref q7, .ref q8, .int 0, .ref q10, .ref q11, .null])), (q1, .inl (k1, 24, .inl (fun _ => (0 : Int32)))), (q2, .inl (k2, 24, .inl (fun _ => (0 : Int32)))), (q3, .inl (k3, 8, .inl (fun _ => (0 : Int32)))), (q4, .inl (k4, 8, .inl (fun _ => (0 : Int32)))), (q7, .inl (k7, 8, .inl (fun _ => (0 : Int32)))), (q8, .inl (k8, 8, .inl (fun _ => (0 : Int32)))), (q10, .inl (k10, 8, .inl (fun _ => (0 : Int32)))), (q11, .inl (k11, 24, .inl (fun _ => (0 : Int32)))), (q12, .inl (k12, 24, .inl (fun _ => (0 : Int32))))] := hD
  have hK : va_K D vwCl [(k1, .int), (k2, .int), (k3, .int), (k4, .int), (k7, .int), (k8, .int), (k10, .int), (k11, .int), (k12, .boolean)] s := hK
  refine va_putF (D := D) (ci := 0) (v := .ref q12) (ty := .array .boolean) (C := RX0) (T := TX0) (N := 13) hx hb hts in_X0 tyX0 tyX0_ok nmX0 hown hK hP hD hS 0 rfl rfl 12 (by decide) (hts _ q38) (fun _ h9 => h9) rfl hin rfl (by decide +kernel) rfl rfl (Nat.le_of_ble_eq_true rfl) dX0_init_73 (fun H locs hP hD hS => ?_)
  have hP : va_P D vwCl [(h0, .inr (0, [.int 0, .ref q1, .ref q2, .ref q3, .ref q4, .int 0, .int 0, .ref q7, .ref q8, .int 0, .ref q10, .ref q11, .ref q12])), (q1, .inl (k1, 24, .inl (fun _ => (0 : Int32)))), (q2, .inl (k2, 24, .inl (fun _ => (0 : Int32)))), (q3, .inl (k3, 8, .inl (fun _ => (0 : Int32)))), (q4, .inl (k4, 8, .inl (fun _ => (0 : Int32)))), (q7, .inl (k7, 8, .inl (fun _ => (0 : Int32)))), (q8, .inl (k8, 8, .inl (fun _ => (0 : Int32)))), (q10, .inl (k10, 8, .inl (fun _ => (0 : Int32)))), (q11, .inl (k11, 24, .inl (fun _ => (0 : Int32)))), (q12, .inl (k12, 24, .inl (fun _ => (0 : Int32))))] H := hP
  have hD : va_D A [(h0, .inr (0, [.int 0, .ref q1, .ref q2, .ref q3, .ref q4, .int 0, .int 0, .ref q7, .ref q8, .int 0, .ref q10, .ref q11, .ref q12])), (q1, .inl (k1, 24, .inl (fun _ => (0 : Int32)))), (q2, .inl (k2, 24, .inl (fun _ => (0 : Int32)))), (q3, .inl (k3, 8, .inl (fun _ => (0 : Int32)))), (q4, .inl (k4, 8, .inl (fun _ => (0 : Int32)))), (q7, .inl (k7, 8, .inl (fun _ => (0 : Int32)))), (q8, .inl (k8, 8, .inl (fun _ => (0 : Int32)))), (q10, .inl (k10, 8, .inl (fun _ => (0 : Int32)))), (q11, .inl (k11, 24, .inl (fun _ => (0 : Int32)))), (q12, .inl (k12, 24, .inl (fun _ => (0 : Int32))))] := hD
  refine W.widen (k := 9) (n := 136) (Nat.le_of_ble_eq_true rfl) (Nat.le_of_ble_eq_true rfl) ?_
  obtain ⟨ad, ead⟩ : ∃ f : Nat → Nat, f = (fun j => match j with | 1 => q1 | 2 => q2 | 3 => q3 | 4 => q4 | 7 => q7 | 8 => q8 | 10 => q10 | 11 => q11 | 12 => q12 | _ => h0) := ⟨_, rfl⟩
  obtain ⟨ka, eka⟩ : ∃ f : Nat → ClassId, f = (fun j => match j with | 1 => k1 | 2 => k2 | 3 => k3 | 4 => k4 | 7 => k7 | 8 => k8 | 10 => k10 | 11 => k11 | 12 => k12 | _ => k1) := ⟨_, rfl⟩
  have hP9 : va_P D vwCl (xW ad ka (fun _ _ => 0)) H := by rw [ead, eka]; exact hP
  have hD9 : va_D A (xW ad ka (fun _ _ => 0)) := by rw [ead, eka]; exact hD
  have hK9 : va_K D vwCl (xT ka) s := by rw [eka]; exact hK
  have h09 : ad 0 = h0 := congrFun ead 0
  exact W.vret hx hb hr (fun t ht hW => ⟨⟨(ad, ka, fun _ _ => 0), rfl, ⟨nI_0.symm, fun k h => absurd h (Nat.not_lt_zero _), by decide, fun k h => absurd h (Nat.not_lt_zero _)⟩, h09, by rw [ht]; exact hP9, va_K.moved hW.alike hK9, hD9⟩, hS.F ht⟩) hS.2.2 dX0_init_76
abbrev m_w0 (h0 : Nat) : va_W := [(h0, .inr (1, [.int 0, .null, .null]))]
abbrev m_rI : Room := { frames := 1, cells := 2, slots := 48, locals := 32 }
/-- what stands behind the constructor: the object, with its arrays, somewhere -/
def m_I (D : va_G) (h0 : Nat) (A : Nat → Prop) (z : (Nat → Nat) × (Nat → ClassId) × XS) (t : State) : Prop := z.1 0 = h0 ∧ va_P D vwCl (mW z.1 z.2.1 z.2.2) t.heap ∧ va_K D vwCl (mT z.2.1) t ∧ va_D A (mW z.1 z.2.1 z.2.2)
set_option maxHeartbeats 8000000 in
theorem m_init (l : Launch) (D : va_G) (h0 sz : Nat) : Met l yX1_init (ws_ yX1_init cX1_init 1 none) m_rI (gPc D [] (m_w0 h0) [.ref h0] sz) (va_Qv (fun z : (Nat → Nat) × (Nat → ClassId) × XS => m_ok 0 (fun _ => 0) (fun _ => 0) z.2.2) (m_I D h0 (va_A (m_w0 h0) sz)) (va_A (m_w0 h0) sz)) 2 48 (va_A (m_w0 h0) sz) := by
  refine Met.ofW (cc := cX1_init) (maxL := 1) (ret := none) (by decide) rfl ?_
  intro p e s m args below meth c s₁ B hml hv
  obtain ⟨rfl, hsz, hP, hK, hD0⟩ := hv
  have hx := B.exec
  have hb := B.bytes
  have hr := B.returns
  have hts := atoms_spec (ws := ws_ yX1_init cX1_init 1 none) B.pre
  have hts : ∀ w ∈ lw_all, w.before _ s = true := fun w h => hts w (List.mem_cons_of_mem _ h)
  have hown : s.vm.findClass RX1 = some m.cls := findClass_of_methodNamed B.named
  have hlocks := B.notSynchronized
  have hin : meth.name = "<init>" := (name_of_methodNamed B.named B.method).1
  subst hsz
  have hD := hD0.self (sz := s.heap.size)
  generalize hAe : va_A (m_w0 h0) s.heap.size = A at hD ⊢
  have hA : ∀ q : Nat, s.heap.size ≤ q → A q := fun q h => by rw [← hAe]; exact Or.inr h
  have hS : va_S A s.heap s.heap [] := va_S.rf
  have hl := lv_entry ([.ref h0]) (n := 1) (Nat.le_of_ble_eq_true rfl)
  rw [lg_entry_eq]
  generalize (lg_sl ([.ref h0]) ++ List.replicate (1 - (lg_sl ([.ref h0])).length) Slot.unset).toArray = ls at hl ⊢
  have hl : lv_has ls 1 [(0, .ref h0)] := hl
  refine lv_aload_n hx hb dX1_init_0 rfl (lv_at hl 0 rfl) ?_
  refine W.objInit hx hb hown (hts _ q162) (hts _ q24) (hts _ q25) rfl (by rw [hml]; exact hl.1) rfl dX1_init_1 (Nat.le_of_ble_eq_true rfl) (Nat.le_of_ble_eq_true rfl) ?_
  refine W.eq (g2 := F0 m 4 ls []) rfl ?_
  refine lv_aload_n hx hb dX1_init_4 rfl (lv_at hl 0 rfl) ?_
  refine lv_bipush (v := 24) hx hb dX1_init_5 (by decide) ?_
  refine va_newa (atype := .int) (ty := .int) (N' := 24) (a0 := (24, .inl (fun _ => (0 : Int32)))) hx hb (hts _ q66) rfl hK hP hD hS hA (fun _ => rfl) (by decide) (by decide) (by decide) (Nat.le_of_ble_eq_true rfl) (Nat.le_of_ble_eq_true rfl) dX1_init_7 (fun q1 k1 H hK hP hD hS => ?_)
  have hP : va_P D vwCl [(h0, .inr (1, [.int 0, .null, .null])), (q1, .inl (k1, 24, .inl (fun _ => (0 : Int32))))] H := hP
  have hD : va_D A [(h0, .inr (1, [.int 0, .null, .null])), (q1, .inl (k1, 24, .inl (fun _ => (0 : Int32))))] := hD
  have hK : va_K D vwCl [(k1, .int)] s := hK
  refine va_putF (D := D) (ci := 1) (v := .ref q1) (ty := .array .int) (C := RX1) (T := TX1) (N := 3) hx hb hts in_X1 tyX1 tyX1_ok nmX1 hown hK hP hD hS 0 rfl rfl 1 (by decide) (hts _ q164) (fun _ h9 => h9) rfl hin rfl (by decide +kernel) rfl rfl (Nat.le_of_ble_eq_true rfl) dX1_init_9 (fun H locs hP hD hS => ?_)
  have hP : va_P D vwCl [(h0, .inr (1, [.int 0, .ref q1, .null])), (q1, .inl (k1, 24, .inl (fun _ => (0 : Int32))))] H := hP
  have hD : va_D A [(h0, .inr (1, [.int 0, .ref q1, .null])), (q1, .inl (k1, 24, .inl (fun _ => (0 : Int32))))] := hD
  refine lv_aload_n hx hb dX1_init_12 rfl (lv_at hl 0 rfl) ?_
  refine lv_bipush (v := 24) hx hb dX1_init_13 (by decide) ?_
  refine va_newa (atype := .int) (ty := .int) (N' := 24) (a0 := (24, .inl (fun _ => (0 : Int32)))) hx hb (hts _ q66) rfl hK hP hD hS hA (fun _ => rfl) (by decide) (by decide) (by decide) (Nat.le_of_ble_eq_true rfl) (Nat.le_of_ble_eq_true rfl) dX1_init_15 (fun q2 k2 H hK hP hD hS => ?_)
  have hP : va_P D vwCl [(h0, .inr (1, [.int 0, .ref q1, .null])), (q1, .inl (k1, 24, .inl (fun _ => (0 : Int32)))), (q2, .inl (k2, 24, .inl (fun _ => (0 : Int32))))] H := hP
  have hD : va_D A [(h0, .inr (1, [.int 0, .ref q1, .null])), (q1, .inl (k1, 24, .inl (fun _ => (0 : Int32)))), (q2, .inl (k2, 24, .inl (fun _ => (0 : Int32))))] := hD
  have hK : va_K D vwCl [(k1, .int), (k2, .int)] s := hK
  refine va_putF (D := D) (ci := 1) (v := .ref q2) (ty := .array .int) (C := RX1) (T := TX1) (N := 3) hx hb hts in_X1 tyX1 tyX1_ok nmX1 hown hK hP hD hS 0 rfl rfl 2 (by decide) (hts _ q165) (fun _ h9 => h9) rfl hin rfl (by decide +kernel) rfl rfl (Nat.le_of_ble_eq_true rfl) dX1_init_17 (fun H locs hP hD hS => ?_)
  have hP : va_P D vwCl [(h0, .inr (1, [.int 0, .ref q1, .ref q2])), (q1, .inl (k1, 24, .inl (fun _ => (0 : Int32)))), (q2, .inl (k2, 24, .inl (fun _ => (0 : Int32))))] H := hP
  have hD : va_D A [(h0, .inr (1, [.int 0, .ref q1, .ref q2])), (q1, .inl (k1, 24, .inl (fun _ => (0 : Int32)))), (q2, .inl (k2, 24, .inl (fun _ => (0 : Int32))))] := hD
  refine W.widen (k := 2) (n := 48) (Nat.le_of_ble_eq_true rfl) (Nat.le_of_ble_eq_true rfl) ?_
  obtain ⟨ad, ead⟩ : ∃ f : Nat → Nat, f = (fun j => match j with | 1 => q1 | 2 => q2 | _ => h0) := ⟨_, rfl⟩
  obtain ⟨ka, eka⟩ : ∃ f : Nat → ClassId, f = (fun j => match j with | 1 => k1 | 2 => k2 | _ => k1) := ⟨_, rfl⟩
  have hP9 : va_P D vwCl (mW ad ka (fun _ _ => 0)) H := by rw [ead, eka]; exact hP
  have hD9 : va_D A (mW ad ka (fun _ _ => 0)) := by rw [ead, eka]; exact hD
  have hK9 : va_K D vwCl (mT ka) s := by rw [eka]; exact hK
  have h09 : ad 0 = h0 := congrFun ead 0
  exact W.vret hx hb hr (fun t ht hW => ⟨⟨(ad, ka, fun _ _ => 0), rfl, ⟨nI_0.symm, fun k h => absurd h (Nat.not_lt_zero _), by decide, fun k h => absurd h (Nat.not_lt_zero _)⟩, h09, by rw [ht]; exact hP9, va_K.moved hW.alike hK9, hD9⟩, hS.F ht⟩) hS.2.2 dX1_init_20
end
section
set_option maxRecDepth 100000
/-! THE CLAIM OUT OF ONE WALK OF THE LAW'S BODY. Your part is whole_start (and what it stands on); all else here is the same for every law, but numbers. -/
def R_law : String := "SoftSolverLaw"
def lw_P (b : Addr) (xs : List Int32) (args : Array Value) (s : State) : Prop := args = #[.ref b] ∧ s.IntsAt b xs ∧ xs.length ≤ 192 ∧ (Jvm.Cond.and given_1 narrow_1).before args s = true
def lw_Q (_ : Array Value) (s : State) (o : Outcome) (t : State) : Prop := o = .returned (some (.int 1)) ∧ Framed s o t [] 600000 7290000
def lw_Z (below : List Frame) (a : Array Value) (s : State) : State → Prop := fun t => ∃ o, t.status = .running ∧ Ended t below o ∧ lw_Q a s o t
/-- the law's own end, with 1 on the stack, nothing written that was there before, its room as the claim has it -/
theorem lw_ret {p : Program} {l : Launch} {e : Env} {s : State} {m : MethodId} {below : List Frame} {meth : Method} {c : Code} {b : Nat} (hx : p.tables.exec = Jvm.exec) (hb : c.code = code) (hr : meth.sig.returnType = ret) (hlocks : meth.locks = false) {pc : Nat} {H : Heap} {ls : Array Slot} (hdg : decode code pc = .ok (.ireturn, 1)) : W p l e room_1 s m #[Value.ref b] below meth c H [] 600000 7290000 (lw_Z below #[Value.ref b] s) (F0 m pc ls [.int 1]) := by
  intro T hT X
  obtain ⟨fs, hret, hrun, hended, hW, hframe⟩ := X.leave (v := some (.int 1)) (hlocks := hlocks) (fun h => by rw [hr] at h; cases h)
  have hmeth' : T.vm.method? m = some meth := X.method'
  refine ⟨T.setFrames fs, ?_, .returned (some (.int 1)), hrun, hended, rfl, ⟨_, rfl⟩, hW, hframe⟩
  jvm_step X.here [X.here.top, hx, hb, hdg, hmeth', hr, ret, narrow_b1]
  (try refine ⟨rfl, ?_⟩); (try refine ⟨rfl, ?_⟩)
  first | (intro acts; rw [hret _ acts rfl rfl rfl]) | rw [hret _ _ rfl rfl rfl]
  exact Steps.refl _
/-- what holds at the law's entry: the machine, the code, the tables' words (any of lw_tbl by 'hts w (by decide +kernel)'), the script of L ints xs at the cell b, what the Statement gives of the start (any of its parts by flat_of_before) -/
def lw_At (p : Program) (s : State) (m : MethodId) (meth : Method) (c : Code) (b L : Nat) (xs : Nat → Int32) : Prop :=
  p.tables.exec = Jvm.exec ∧ c.code = code ∧ meth.sig.returnType = ret ∧ c.maxLocals = 4 ∧ s.vm.findClass R_law = some m.cls ∧ (∀ w ∈ lw_tbl, w.before #[Value.ref b] s = true) ∧ va_X b L xs s s.heap ∧ b < s.heap.size ∧ meth.locks = false ∧ (Jvm.Cond.and given_1 narrow_1).before #[Value.ref b] s = true
/-! two worlds side by side: a call in the one leaves the other as it is -/
section LB
variable {p : Program} {l : Launch} {e : Env} {R : Room} {s : State} {m : MethodId} {args : Array Value} {below : List Frame} {meth : Method} {c : Code} {H : Heap} {locs : List Loc} {cells slots : Nat} {Q : State → Prop}
variable {cc : ByteArray} {nL pc : Nat} {ls : Array Slot} {rest : List Value} {D : va_G} {A : Nat → Prop} {own : String}
variable {y : MethodName} {b : ByteArray} {L : Nat} {ret : Option FieldType} {rm : Room} {tys tys2 : List (ClassId × FieldType)} {ws ws2 : va_W} {As st : List Value} {b0 idx n : Nat} {C : String}
theorem gH.keep {H1 : Heap} {locs1 : List Loc} (h2 : gH D tys2 ws2 A s H locs) (hap : ∀ (i j : Nat) (p q : Nat × va_E), ws[i]? = some p → ws2[j]? = some q → p.1 ≠ q.1) (hk : ∀ q : Nat, q < H.size → ¬ va_A ws H.size q → H1[q]? = H[q]?) (hS : va_S A s.heap H1 locs1) : gH D tys2 ws2 A s H1 locs1 := by
  refine ⟨h2.1, h2.2.1.kept (fun k x hx => ?_), h2.2.2.1, hS, h2.2.2.2.2⟩
  have hl := (h2.2.1 k x hx).lt
  refine hk x.1 hl (fun h => ?_)
  rcases h with ⟨k2, e, h⟩ | h
  · exact hap k2 k (x.1, e) x h hx rfl
  · omega
theorem gMu.callF {S0 : Type} {wf : S0 → va_W} {u : S0} {post : Int32 → S0 → Prop} (hM : gMu l y b L ret rm D tys wf u (.ref b0 :: As) post) (S : CallFix p m c cc nL s args lw_all own) (hH : gH D tys (wf u) A s H locs) (h2 : gH D tys2 ws2 A s H locs) (hap : ∀ (i j : Nat) (p q : Nat × va_E), (wf u)[i]? = some p → ws2[j]? = some q → p.1 ≠ q.1) (cw : CallW R s args own C idx y b L ret (ws_ y b L ret) rm 0 0 n) (hrc : ∃ cell : Cell, H[b0]? = some cell ∧ cell.vm.isStatics = false ∧ s.vm.findClass C = some cell.cls)
    (hn : As.length = n) (hsz : ls.size = nL) (hst : st = As.reverse ++ .ref b0 :: rest) (hrest : (rest.map fun v => v.category).sum ≤ 8) (hd : decode cc pc = .ok (.invokevirtual idx, 3)) (hf : cells ≤ R.cells ∧ slots ≤ R.slots)
    (kk : ∀ (z : Int32) (u1 : S0) (H1 : Heap) (locs1 : List Loc), post z u1 → gH D tys (wf u1) A s H1 locs1 → gH D tys2 ws2 A s H1 locs1 → W p l e R s m args below meth c H1 locs1 cells slots Q (F0 m (pc + 3) ls (.int z :: rest))) : W p l e R s m args below meth c H locs cells slots Q (F0 m pc ls st) := by
  refine va_calli (va_runV (As := As) (rest := rest) S (hM H.size) cw ⟨gPc.blind, hrc, hH.pre⟩ rfl hn hsz hst (lv_room hrest) hd hf) hH.2.2.2.1 (fun q _ h => hH.free q h) hH.free (fun z u1 t H1 locs1 ht hvm hp hB hz1 hk1 hS => ?_)
  exact kk z u1 H1 locs1 hp ⟨va_K.moved hvm.symm hB.2.1, by rw [← ht]; exact hB.1, hB.2.2.weaken (fun k q _ h => hH.free q.1 h), hS, hH.2.2.2.2⟩ (h2.keep hap hk1 hS)
/-- a constructor -/
theorem gI.callF {S0 : Type} {h0 mc ms : Nat} {post : S0 → Prop} {B : (Nat → Prop) → S0 → State → Prop} (hM : ∀ sz : Nat, Met l y (ws_ y b L none) rm (gPc D [] ws [.ref h0] sz) (va_Qv post (B (va_A ws sz)) (va_A ws sz)) mc ms (va_A ws sz)) (S : CallFix p m c cc nL s args lw_all own) (hH : gH D [] ws A s H locs) (h2 : gH D tys2 ws2 A s H locs) (hap : ∀ (i j : Nat) (p q : Nat × va_E), ws[i]? = some p → ws2[j]? = some q → p.1 ≠ q.1) (cw : CallB R s args own idx y b L none (ws_ y b L none) rm mc ms 0 ∧ y.name = "<init>" ∧ (Cond.instanceMethod y).before args s = true)
    (hsz : ls.size = nL) (hst : st = .ref h0 :: rest) (hrest : (rest.map fun v => v.category).sum ≤ 8) (hd : decode cc pc = .ok (.invokespecial idx, 3)) (hf : cells + mc ≤ R.cells ∧ slots + ms ≤ R.slots)
    (kk : ∀ (z : S0) (t : State) (H1 : Heap) (locs1 : List Loc), t.heap = H1 → s.vm.Alike t.vm → post z → B (va_A ws H.size) z t → va_S A s.heap H1 locs1 → gH D tys2 ws2 A s H1 locs1 → W p l e R s m args below meth c H1 locs1 (cells + mc) (slots + ms) Q (F0 m (pc + 3) ls rest)) : W p l e R s m args below meth c H locs cells slots Q (F0 m pc ls st) := by
  refine va_callv (va_runI (As := []) (rest := rest) S (hM H.size) cw ⟨gPc.blind, hH.pre⟩ rfl rfl hsz hst (lv_room hrest) hd hf) hH.2.2.2.1 (fun q _ h => hH.free q h) hH.free (fun z t H1 locs1 ht hvm hp hB hz1 hk1 hS => ?_)
  exact kk z t H1 locs1 ht hvm hp hB hS (h2.keep hap hk1 hS)
end LB
abbrev lw_A (s : State) : Nat → Prop := fun q => s.heap.size ≤ q
def lwX (b L : Nat) (xs : Nat → Int32) (s : State) : Prop := va_X b L xs s s.heap ∧ b < s.heap.size ∧ L ≤ 192
def lw_ap (ad am : Nat → Nat) : Prop := ∀ x ∈ [ad 0, ad 1, ad 2, ad 3, ad 4, ad 7, ad 8, ad 10, ad 11, ad 12], ∀ y ∈ [am 0, am 1, am 2], x ≠ y
theorem xW_ad {ad : Nat → Nat} {ka : Nat → ClassId} {u : XS} {i : Nat} {p : Nat × va_E} (h : (xW ad ka u)[i]? = some p) : p.1 ∈ [ad 0, ad 1, ad 2, ad 3, ad 4, ad 7, ad 8, ad 10, ad 11, ad 12] := by
  have h1 : p.1 ∈ (xW ad ka u).map Prod.fst := List.mem_map_of_mem (List.mem_of_getElem? h)
  exact h1
theorem mW_ad {am : Nat → Nat} {km : Nat → ClassId} {v : XS} {i : Nat} {p : Nat × va_E} (h : (mW am km v)[i]? = some p) : p.1 ∈ [am 0, am 1, am 2] := by
  have h1 : p.1 ∈ (mW am km v).map Prod.fst := List.mem_map_of_mem (List.mem_of_getElem? h)
  exact h1
theorem lw_apX {ad am : Nat → Nat} {ka km : Nat → ClassId} (h : lw_ap ad am) (u v : XS) : ∀ (i j : Nat) (p q : Nat × va_E), (xW ad ka u)[i]? = some p → (mW am km v)[j]? = some q → p.1 ≠ q.1 := fun _ _ _ _ h1 h2 => h _ (xW_ad h1) _ (mW_ad h2)
theorem lw_apM {ad am : Nat → Nat} {ka km : Nat → ClassId} (h : lw_ap ad am) (u v : XS) : ∀ (i j : Nat) (p q : Nat × va_E), (mW am km v)[i]? = some p → (xW ad ka u)[j]? = some q → p.1 ≠ q.1 := fun _ _ _ _ h1 h2 e => h _ (xW_ad h2) _ (mW_ad h1) e.symm
section LD
variable {p : Program} {l : Launch} {e : Env} {R : Room} {s : State} {m : MethodId} {args : Array Value} {below : List Frame} {meth : Method} {c : Code} {H : Heap} {locs : List Loc} {cells slots : Nat} {Q : State → Prop}
variable {cc : ByteArray} {nL pc : Nat} {ls : Array Slot} {rest : List Value} {D : va_G} {A : Nat → Prop} {own : String}
variable {tys : List (ClassId × FieldType)} {ws : va_W} {b L : Nat} {xs : Nat → Int32}
/-- a place of the script -/
theorem l_ld (hX : lwX b L xs s) (S : CallFix p m c cc nL s args lw_all own) (hH : gH D tys ws (lw_A s) s H locs) (j : Nat) (hj : j < L) (hd : decode cc pc = .ok (.iaload, 1)) (kk : W p l e R s m args below meth c H locs cells slots Q (F0 m (pc + 1) ls (.int (xs j) :: rest))) : W p l e R s m args below meth c H locs cells slots Q (F0 m pc ls (.int (nI j) :: .ref b :: rest)) := by
  have hL := hX.2.2
  refine va_sld S.1 S.2.1 hX.1 hX.2.1 (A := lw_A s) (Nat.not_le.mpr hX.2.1) hH.2.2.2.1 (vp_in_nI hj (by omega)) hd ?_
  rw [nI_clamp (by omega)]
  exact kk
theorem l_len (hX : lwX b L xs s) (S : CallFix p m c cc nL s args lw_all own) (hH : gH D tys ws (lw_A s) s H locs) (hd : decode cc pc = .ok (.arraylength, 1)) (kk : W p l e R s m args below meth c H locs cells slots Q (F0 m (pc + 1) ls (.int (nI L) :: rest))) : W p l e R s m args below meth c H locs cells slots Q (F0 m pc ls (.ref b :: rest)) :=
  va_slen S.1 S.2.1 hX.1 hX.2.1 (A := lw_A s) (Nat.not_le.mpr hX.2.1) hH.2.2.2.1 hd kk
end LD
end
section
set_option maxRecDepth 100000
/-! the law's cases: both sides answer alike, and hold the same clauses again -/
section LC
variable {p : Program} {l : Launch} {e : Env} {s : State} {m : MethodId} {below : List Frame} {meth : Method} {c : Code} {H : Heap} {locs : List Loc} {ls : Array Slot} {D : va_G} {b L i n : Nat} {cs wt : Nat → Nat} {u v : XS} {xs : Nat → Int32} {ad am : Nat → Nat} {ka km : Nat → ClassId}
set_option maxHeartbeats 8000000 in
theorem lc_hard (S : CallFix p m c code 4 s #[Value.ref b] lw_all R_law) (hX : lwX b L xs s) (hap : lw_ap ad am) (hi : i + 3 ≤ L) (hu : x_ok n cs wt u) (hv : m_ok n cs wt v) (hHx : gH D (xT ka) (xW ad ka u) (lw_A s) s H locs) (hHm : gH D (mT km) (mW am km v) (lw_A s) s H locs) (hl : lv_has ls 4 [(0, .ref b), (1, .ref (ad 0)), (2, .ref (am 0)), (3, .int (nI i))]) (K : ∀ (n : Nat) (cs wt : Nat → Nat) (u v : XS) (H : Heap) (locs : List Loc) (ls : Array Slot), x_ok n cs wt u → m_ok n cs wt v → gH D (xT ka) (xW ad ka u) (lw_A s) s H locs → gH D (mT km) (mW am km v) (lw_A s) s H locs → lv_has ls 4 [(0, .ref b), (1, .ref (ad 0)), (2, .ref (am 0)), (3, .int (nI i))] → W p l e room_1 s m #[Value.ref b] below meth c H locs 13 200 (lw_Z below #[Value.ref b] s) (F0 m 261 ls [])) : W p l e room_1 s m #[Value.ref b] below meth c H locs 13 200 (lw_Z below #[Value.ref b] s) (F0 m 84 ls []) := by
  refine lv_aload_n S.1 S.2.1 dL_law_84 rfl (lv_at hl 1 rfl) ?_
  refine lv_aload_n S.1 S.2.1 dL_law_85 rfl (lv_at hl 0 rfl) ?_
  refine lv_iload_n S.1 S.2.1 dL_law_86 rfl (lv_at hl 3 rfl) ?_
  refine lv_iconst (v := nI 1) S.1 S.2.1 dL_law_87 (by decide) ?_
  refine lv_iadd S.1 S.2.1 dL_law_88 ?_
  refine lv_as (nI (i + 1)) (nI_add i 1) ?_
  refine l_ld hX S hHx (i + 1) (by omega) dL_law_89 ?_
  refine gMu.callF (As := [.int (xs (i + 1))]) (rest := []) (x_hard l D ad ka u n cs wt hu (xs (i + 1))) S hHx hHm (lw_apX hap _ _) (cwV 1 S.2.2.2.2 (lw_V q68 q69 q70 q16 q71) rfl rfl rfl (by decide +kernel) ⟨Nat.le_of_ble_eq_true rfl, Nat.le_of_ble_eq_true rfl⟩) (x_recv hHx) rfl hl.1 rfl (Nat.le_of_ble_eq_true rfl) dL_law_90 ⟨Nat.le_of_ble_eq_true rfl, Nat.le_of_ble_eq_true rfl⟩ (fun z1 u1 H locs h1 hHx hHm => ?_)
  refine lv_aload_n S.1 S.2.1 dL_law_93 rfl (lv_at hl 2 rfl) ?_
  refine lv_aload_n S.1 S.2.1 dL_law_94 rfl (lv_at hl 0 rfl) ?_
  refine lv_iload_n S.1 S.2.1 dL_law_95 rfl (lv_at hl 3 rfl) ?_
  refine lv_iconst (v := nI 1) S.1 S.2.1 dL_law_96 (by decide) ?_
  refine lv_iadd S.1 S.2.1 dL_law_97 ?_
  refine lv_as (nI (i + 1)) (nI_add i 1) ?_
  refine l_ld hX S hHx (i + 1) (by omega) dL_law_98 ?_
  refine gMu.callF (As := [.int (xs (i + 1))]) (rest := [.int z1]) (m_hard l D am km v n cs wt hv (xs (i + 1))) S hHm hHx (lw_apM hap _ _) (cwV 1 S.2.2.2.2 (lw_V q173 q174 q175 q17 q176) rfl rfl rfl (by decide +kernel) ⟨Nat.le_of_ble_eq_true rfl, Nat.le_of_ble_eq_true rfl⟩) (m_recv hHm) rfl hl.1 rfl (Nat.le_of_ble_eq_true rfl) dL_law_99 ⟨Nat.le_of_ble_eq_true rfl, Nat.le_of_ble_eq_true rfl⟩ (fun z2 v1 H locs h2 hHm hHx => ?_)
  refine lv_icmp_eq (tgt := 261) S.1 S.2.1 dL_law_102 (by decide) (fun c1 => ?_) (fun c1 => ?_)
  · exact K _ _ _ u1 v1 H locs ls h1.2 h2.2 hHx hHm hl
  · exact absurd (h1.1.trans h2.1.symm) c1
set_option maxHeartbeats 8000000 in
theorem lc_softb (S : CallFix p m c code 4 s #[Value.ref b] lw_all R_law) (hX : lwX b L xs s) (hap : lw_ap ad am) (hi : i + 3 ≤ L) (hu : x_ok n cs wt u) (hv : m_ok n cs wt v) (hHx : gH D (xT ka) (xW ad ka u) (lw_A s) s H locs) (hHm : gH D (mT km) (mW am km v) (lw_A s) s H locs) (hl : lv_has ls 4 [(0, .ref b), (1, .ref (ad 0)), (2, .ref (am 0)), (3, .int (nI i))]) (hy : xs (i + 2) < 1 ∨ 50 < xs (i + 2)) (K : ∀ (n : Nat) (cs wt : Nat → Nat) (u v : XS) (H : Heap) (locs : List Loc) (ls : Array Slot), x_ok n cs wt u → m_ok n cs wt v → gH D (xT ka) (xW ad ka u) (lw_A s) s H locs → gH D (mT km) (mW am km v) (lw_A s) s H locs → lv_has ls 4 [(0, .ref b), (1, .ref (ad 0)), (2, .ref (am 0)), (3, .int (nI i))] → W p l e room_1 s m #[Value.ref b] below meth c H locs 13 200 (lw_Z below #[Value.ref b] s) (F0 m 261 ls [])) : W p l e room_1 s m #[Value.ref b] below meth c H locs 13 200 (lw_Z below #[Value.ref b] s) (F0 m 107 ls []) := by
  refine lv_aload_n S.1 S.2.1 dL_law_107 rfl (lv_at hl 1 rfl) ?_
  refine lv_aload_n S.1 S.2.1 dL_law_108 rfl (lv_at hl 0 rfl) ?_
  refine lv_iload_n S.1 S.2.1 dL_law_109 rfl (lv_at hl 3 rfl) ?_
  refine lv_iconst (v := nI 1) S.1 S.2.1 dL_law_110 (by decide) ?_
  refine lv_iadd S.1 S.2.1 dL_law_111 ?_
  refine lv_as (nI (i + 1)) (nI_add i 1) ?_
  refine l_ld hX S hHx (i + 1) (by omega) dL_law_112 ?_
  refine lv_aload_n S.1 S.2.1 dL_law_113 rfl (lv_at hl 0 rfl) ?_
  refine lv_iload_n S.1 S.2.1 dL_law_114 rfl (lv_at hl 3 rfl) ?_
  refine lv_iconst (v := nI 2) S.1 S.2.1 dL_law_115 (by decide) ?_
  refine lv_iadd S.1 S.2.1 dL_law_116 ?_
  refine lv_as (nI (i + 2)) (nI_add i 2) ?_
  refine l_ld hX S hHx (i + 2) (by omega) dL_law_117 ?_
  refine gMu.callF (As := [.int (xs (i + 1)), .int (xs (i + 2))]) (rest := []) (x_softb l D ad ka u n cs wt hu (xs (i + 1)) (xs (i + 2)) hy) S hHx hHm (lw_apX hap _ _) (cwV 2 S.2.2.2.2 (lw_V q77 q78 q79 q16 q80) rfl rfl rfl (by decide +kernel) ⟨Nat.le_of_ble_eq_true rfl, Nat.le_of_ble_eq_true rfl⟩) (x_recv hHx) rfl hl.1 rfl (Nat.le_of_ble_eq_true rfl) dL_law_118 ⟨Nat.le_of_ble_eq_true rfl, Nat.le_of_ble_eq_true rfl⟩ (fun z1 u1 H locs g1 hHx hHm => ?_)
  refine lv_aload_n S.1 S.2.1 dL_law_121 rfl (lv_at hl 2 rfl) ?_
  refine lv_aload_n S.1 S.2.1 dL_law_122 rfl (lv_at hl 0 rfl) ?_
  refine lv_iload_n S.1 S.2.1 dL_law_123 rfl (lv_at hl 3 rfl) ?_
  refine lv_iconst (v := nI 1) S.1 S.2.1 dL_law_124 (by decide) ?_
  refine lv_iadd S.1 S.2.1 dL_law_125 ?_
  refine lv_as (nI (i + 1)) (nI_add i 1) ?_
  refine l_ld hX S hHx (i + 1) (by omega) dL_law_126 ?_
  refine lv_aload_n S.1 S.2.1 dL_law_127 rfl (lv_at hl 0 rfl) ?_
  refine lv_iload_n S.1 S.2.1 dL_law_128 rfl (lv_at hl 3 rfl) ?_
  refine lv_iconst (v := nI 2) S.1 S.2.1 dL_law_129 (by decide) ?_
  refine lv_iadd S.1 S.2.1 dL_law_130 ?_
  refine lv_as (nI (i + 2)) (nI_add i 2) ?_
  refine l_ld hX S hHx (i + 2) (by omega) dL_law_131 ?_
  refine gMu.callF (As := [.int (xs (i + 1)), .int (xs (i + 2))]) (rest := [.int z1]) (m_softb l D am km v n cs wt hv (xs (i + 1)) (xs (i + 2)) hy) S hHm hHx (lw_apM hap _ _) (cwV 2 S.2.2.2.2 (lw_V q182 q183 q184 q17 q185) rfl rfl rfl (by decide +kernel) ⟨Nat.le_of_ble_eq_true rfl, Nat.le_of_ble_eq_true rfl⟩) (m_recv hHm) rfl hl.1 rfl (Nat.le_of_ble_eq_true rfl) dL_law_132 ⟨Nat.le_of_ble_eq_true rfl, Nat.le_of_ble_eq_true rfl⟩ (fun z2 v1 H locs g2 hHm hHx => ?_)
  refine lv_icmp_eq (tgt := 261) S.1 S.2.1 dL_law_135 (by decide) (fun c1 => ?_) (fun c1 => ?_)
  · exact K _ _ _ u1 v1 H locs ls g1.2 g2.2 hHx hHm hl
  · exact absurd (g1.1.trans g2.1.symm) c1
set_option maxHeartbeats 8000000 in
theorem lc_softa (S : CallFix p m c code 4 s #[Value.ref b] lw_all R_law) (hX : lwX b L xs s) (hap : lw_ap ad am) (hi : i + 3 ≤ L) (hu : x_ok n cs wt u) (hv : m_ok n cs wt v) (hHx : gH D (xT ka) (xW ad ka u) (lw_A s) s H locs) (hHm : gH D (mT km) (mW am km v) (lw_A s) s H locs) (hl : lv_has ls 4 [(0, .ref b), (1, .ref (ad 0)), (2, .ref (am 0)), (3, .int (nI i))]) (ω : Nat) (hy : xs (i + 2) = nI ω) (h1 : 1 ≤ ω) (h5 : ω ≤ 50) (K : ∀ (n : Nat) (cs wt : Nat → Nat) (u v : XS) (H : Heap) (locs : List Loc) (ls : Array Slot), x_ok n cs wt u → m_ok n cs wt v → gH D (xT ka) (xW ad ka u) (lw_A s) s H locs → gH D (mT km) (mW am km v) (lw_A s) s H locs → lv_has ls 4 [(0, .ref b), (1, .ref (ad 0)), (2, .ref (am 0)), (3, .int (nI i))] → W p l e room_1 s m #[Value.ref b] below meth c H locs 13 200 (lw_Z below #[Value.ref b] s) (F0 m 261 ls [])) : W p l e room_1 s m #[Value.ref b] below meth c H locs 13 200 (lw_Z below #[Value.ref b] s) (F0 m 107 ls []) := by
  refine lv_aload_n S.1 S.2.1 dL_law_107 rfl (lv_at hl 1 rfl) ?_
  refine lv_aload_n S.1 S.2.1 dL_law_108 rfl (lv_at hl 0 rfl) ?_
  refine lv_iload_n S.1 S.2.1 dL_law_109 rfl (lv_at hl 3 rfl) ?_
  refine lv_iconst (v := nI 1) S.1 S.2.1 dL_law_110 (by decide) ?_
  refine lv_iadd S.1 S.2.1 dL_law_111 ?_
  refine lv_as (nI (i + 1)) (nI_add i 1) ?_
  refine l_ld hX S hHx (i + 1) (by omega) dL_law_112 ?_
  refine lv_aload_n S.1 S.2.1 dL_law_113 rfl (lv_at hl 0 rfl) ?_
  refine lv_iload_n S.1 S.2.1 dL_law_114 rfl (lv_at hl 3 rfl) ?_
  refine lv_iconst (v := nI 2) S.1 S.2.1 dL_law_115 (by decide) ?_
  refine lv_iadd S.1 S.2.1 dL_law_116 ?_
  refine lv_as (nI (i + 2)) (nI_add i 2) ?_
  refine l_ld hX S hHx (i + 2) (by omega) dL_law_117 ?_
  refine lv_as (nI ω) hy ?_
  refine gMu.callF (As := [.int (xs (i + 1)), .int (nI ω)]) (rest := []) (x_softa l D ad ka u n cs wt hu (xs (i + 1)) ω h1 h5) S hHx hHm (lw_apX hap _ _) (cwV 2 S.2.2.2.2 (lw_V q77 q78 q79 q16 q80) rfl rfl rfl (by decide +kernel) ⟨Nat.le_of_ble_eq_true rfl, Nat.le_of_ble_eq_true rfl⟩) (x_recv hHx) rfl hl.1 rfl (Nat.le_of_ble_eq_true rfl) dL_law_118 ⟨Nat.le_of_ble_eq_true rfl, Nat.le_of_ble_eq_true rfl⟩ (fun z1 u1 H locs g1 hHx hHm => ?_)
  refine lv_aload_n S.1 S.2.1 dL_law_121 rfl (lv_at hl 2 rfl) ?_
  refine lv_aload_n S.1 S.2.1 dL_law_122 rfl (lv_at hl 0 rfl) ?_
  refine lv_iload_n S.1 S.2.1 dL_law_123 rfl (lv_at hl 3 rfl) ?_
  refine lv_iconst (v := nI 1) S.1 S.2.1 dL_law_124 (by decide) ?_
  refine lv_iadd S.1 S.2.1 dL_law_125 ?_
  refine lv_as (nI (i + 1)) (nI_add i 1) ?_
  refine l_ld hX S hHx (i + 1) (by omega) dL_law_126 ?_
  refine lv_aload_n S.1 S.2.1 dL_law_127 rfl (lv_at hl 0 rfl) ?_
  refine lv_iload_n S.1 S.2.1 dL_law_128 rfl (lv_at hl 3 rfl) ?_
  refine lv_iconst (v := nI 2) S.1 S.2.1 dL_law_129 (by decide) ?_
  refine lv_iadd S.1 S.2.1 dL_law_130 ?_
  refine lv_as (nI (i + 2)) (nI_add i 2) ?_
  refine l_ld hX S hHx (i + 2) (by omega) dL_law_131 ?_
  refine lv_as (nI ω) hy ?_
  refine gMu.callF (As := [.int (xs (i + 1)), .int (nI ω)]) (rest := [.int z1]) (m_softa l D am km v n cs wt hv (xs (i + 1)) ω h1 h5) S hHm hHx (lw_apM hap _ _) (cwV 2 S.2.2.2.2 (lw_V q182 q183 q184 q17 q185) rfl rfl rfl (by decide +kernel) ⟨Nat.le_of_ble_eq_true rfl, Nat.le_of_ble_eq_true rfl⟩) (m_recv hHm) rfl hl.1 rfl (Nat.le_of_ble_eq_true rfl) dL_law_132 ⟨Nat.le_of_ble_eq_true rfl, Nat.le_of_ble_eq_true rfl⟩ (fun z2 v1 H locs g2 hHm hHx => ?_)
  refine lv_icmp_eq (tgt := 261) S.1 S.2.1 dL_law_135 (by decide) (fun c1 => ?_) (fun c1 => ?_)
  · exact K _ _ _ u1 v1 H locs ls g1.2 g2.2 hHx hHm hl
  · exact absurd (g1.1.trans g2.1.symm) c1
set_option maxHeartbeats 8000000 in
theorem lc_dropb (S : CallFix p m c code 4 s #[Value.ref b] lw_all R_law) (hX : lwX b L xs s) (hap : lw_ap ad am) (hi : i + 3 ≤ L) (hu : x_ok n cs wt u) (hv : m_ok n cs wt v) (hHx : gH D (xT ka) (xW ad ka u) (lw_A s) s H locs) (hHm : gH D (mT km) (mW am km v) (lw_A s) s H locs) (hl : lv_has ls 4 [(0, .ref b), (1, .ref (ad 0)), (2, .ref (am 0)), (3, .int (nI i))]) (hy : xs (i + 1) < 0 ∨ nI n ≤ xs (i + 1)) (K : ∀ (n : Nat) (cs wt : Nat → Nat) (u v : XS) (H : Heap) (locs : List Loc) (ls : Array Slot), x_ok n cs wt u → m_ok n cs wt v → gH D (xT ka) (xW ad ka u) (lw_A s) s H locs → gH D (mT km) (mW am km v) (lw_A s) s H locs → lv_has ls 4 [(0, .ref b), (1, .ref (ad 0)), (2, .ref (am 0)), (3, .int (nI i))] → W p l e room_1 s m #[Value.ref b] below meth c H locs 13 200 (lw_Z below #[Value.ref b] s) (F0 m 261 ls [])) : W p l e room_1 s m #[Value.ref b] below meth c H locs 13 200 (lw_Z below #[Value.ref b] s) (F0 m 140 ls []) := by
  refine lv_aload_n S.1 S.2.1 dL_law_140 rfl (lv_at hl 1 rfl) ?_
  refine lv_aload_n S.1 S.2.1 dL_law_141 rfl (lv_at hl 0 rfl) ?_
  refine lv_iload_n S.1 S.2.1 dL_law_142 rfl (lv_at hl 3 rfl) ?_
  refine lv_iconst (v := nI 1) S.1 S.2.1 dL_law_143 (by decide) ?_
  refine lv_iadd S.1 S.2.1 dL_law_144 ?_
  refine lv_as (nI (i + 1)) (nI_add i 1) ?_
  refine l_ld hX S hHx (i + 1) (by omega) dL_law_145 ?_
  refine gMu.callF (As := [.int (xs (i + 1))]) (rest := []) (x_dropb l D ad ka u n cs wt hu (xs (i + 1)) hy) S hHx hHm (lw_apX hap _ _) (cwV 1 S.2.2.2.2 (lw_V q81 q82 q83 q16 q84) rfl rfl rfl (by decide +kernel) ⟨Nat.le_of_ble_eq_true rfl, Nat.le_of_ble_eq_true rfl⟩) (x_recv hHx) rfl hl.1 rfl (Nat.le_of_ble_eq_true rfl) dL_law_146 ⟨Nat.le_of_ble_eq_true rfl, Nat.le_of_ble_eq_true rfl⟩ (fun z1 u1 H locs h1 hHx hHm => ?_)
  refine lv_aload_n S.1 S.2.1 dL_law_149 rfl (lv_at hl 2 rfl) ?_
  refine lv_aload_n S.1 S.2.1 dL_law_150 rfl (lv_at hl 0 rfl) ?_
  refine lv_iload_n S.1 S.2.1 dL_law_151 rfl (lv_at hl 3 rfl) ?_
  refine lv_iconst (v := nI 1) S.1 S.2.1 dL_law_152 (by decide) ?_
  refine lv_iadd S.1 S.2.1 dL_law_153 ?_
  refine lv_as (nI (i + 1)) (nI_add i 1) ?_
  refine l_ld hX S hHx (i + 1) (by omega) dL_law_154 ?_
  refine gMu.callF (As := [.int (xs (i + 1))]) (rest := [.int z1]) (m_dropb l D am km v n cs wt hv (xs (i + 1)) hy) S hHm hHx (lw_apM hap _ _) (cwV 1 S.2.2.2.2 (lw_V q186 q187 q188 q17 q189) rfl rfl rfl (by decide +kernel) ⟨Nat.le_of_ble_eq_true rfl, Nat.le_of_ble_eq_true rfl⟩) (m_recv hHm) rfl hl.1 rfl (Nat.le_of_ble_eq_true rfl) dL_law_155 ⟨Nat.le_of_ble_eq_true rfl, Nat.le_of_ble_eq_true rfl⟩ (fun z2 v1 H locs h2 hHm hHx => ?_)
  refine lv_icmp_eq (tgt := 261) S.1 S.2.1 dL_law_158 (by decide) (fun c1 => ?_) (fun c1 => ?_)
  · exact K _ _ _ u1 v1 H locs ls h1.2 h2.2 hHx hHm hl
  · exact absurd (h1.1.trans h2.1.symm) c1
set_option maxHeartbeats 8000000 in
theorem lc_dropa (S : CallFix p m c code 4 s #[Value.ref b] lw_all R_law) (hX : lwX b L xs s) (hap : lw_ap ad am) (hi : i + 3 ≤ L) (hu : x_ok n cs wt u) (hv : m_ok n cs wt v) (hHx : gH D (xT ka) (xW ad ka u) (lw_A s) s H locs) (hHm : gH D (mT km) (mW am km v) (lw_A s) s H locs) (hl : lv_has ls 4 [(0, .ref b), (1, .ref (ad 0)), (2, .ref (am 0)), (3, .int (nI i))]) (d : Nat) (hy : xs (i + 1) = nI d) (hd : d < n) (K : ∀ (n : Nat) (cs wt : Nat → Nat) (u v : XS) (H : Heap) (locs : List Loc) (ls : Array Slot), x_ok n cs wt u → m_ok n cs wt v → gH D (xT ka) (xW ad ka u) (lw_A s) s H locs → gH D (mT km) (mW am km v) (lw_A s) s H locs → lv_has ls 4 [(0, .ref b), (1, .ref (ad 0)), (2, .ref (am 0)), (3, .int (nI i))] → W p l e room_1 s m #[Value.ref b] below meth c H locs 13 200 (lw_Z below #[Value.ref b] s) (F0 m 261 ls [])) : W p l e room_1 s m #[Value.ref b] below meth c H locs 13 200 (lw_Z below #[Value.ref b] s) (F0 m 140 ls []) := by
  refine lv_aload_n S.1 S.2.1 dL_law_140 rfl (lv_at hl 1 rfl) ?_
  refine lv_aload_n S.1 S.2.1 dL_law_141 rfl (lv_at hl 0 rfl) ?_
  refine lv_iload_n S.1 S.2.1 dL_law_142 rfl (lv_at hl 3 rfl) ?_
  refine lv_iconst (v := nI 1) S.1 S.2.1 dL_law_143 (by decide) ?_
  refine lv_iadd S.1 S.2.1 dL_law_144 ?_
  refine lv_as (nI (i + 1)) (nI_add i 1) ?_
  refine l_ld hX S hHx (i + 1) (by omega) dL_law_145 ?_
  refine lv_as (nI d) hy ?_
  refine gMu.callF (As := [.int (nI d)]) (rest := []) (x_dropa l D ad ka u n cs wt hu d hd) S hHx hHm (lw_apX hap _ _) (cwV 1 S.2.2.2.2 (lw_V q81 q82 q83 q16 q84) rfl rfl rfl (by decide +kernel) ⟨Nat.le_of_ble_eq_true rfl, Nat.le_of_ble_eq_true rfl⟩) (x_recv hHx) rfl hl.1 rfl (Nat.le_of_ble_eq_true rfl) dL_law_146 ⟨Nat.le_of_ble_eq_true rfl, Nat.le_of_ble_eq_true rfl⟩ (fun z1 u1 H locs h1 hHx hHm => ?_)
  refine lv_aload_n S.1 S.2.1 dL_law_149 rfl (lv_at hl 2 rfl) ?_
  refine lv_aload_n S.1 S.2.1 dL_law_150 rfl (lv_at hl 0 rfl) ?_
  refine lv_iload_n S.1 S.2.1 dL_law_151 rfl (lv_at hl 3 rfl) ?_
  refine lv_iconst (v := nI 1) S.1 S.2.1 dL_law_152 (by decide) ?_
  refine lv_iadd S.1 S.2.1 dL_law_153 ?_
  refine lv_as (nI (i + 1)) (nI_add i 1) ?_
  refine l_ld hX S hHx (i + 1) (by omega) dL_law_154 ?_
  refine lv_as (nI d) hy ?_
  refine gMu.callF (As := [.int (nI d)]) (rest := [.int z1]) (m_dropa l D am km v n cs wt hv d hd) S hHm hHx (lw_apM hap _ _) (cwV 1 S.2.2.2.2 (lw_V q186 q187 q188 q17 q189) rfl rfl rfl (by decide +kernel) ⟨Nat.le_of_ble_eq_true rfl, Nat.le_of_ble_eq_true rfl⟩) (m_recv hHm) rfl hl.1 rfl (Nat.le_of_ble_eq_true rfl) dL_law_155 ⟨Nat.le_of_ble_eq_true rfl, Nat.le_of_ble_eq_true rfl⟩ (fun z2 v1 H locs h2 hHm hHx => ?_)
  refine lv_icmp_eq (tgt := 261) S.1 S.2.1 dL_law_158 (by decide) (fun c1 => ?_) (fun c1 => ?_)
  · exact K _ _ _ u1 v1 H locs ls h1.2 h2.2 hHx hHm hl
  · exact absurd (h1.1.trans h2.1.symm) c1
set_option maxHeartbeats 8000000 in
theorem lc_possible (S : CallFix p m c code 4 s #[Value.ref b] lw_all R_law) (hX : lwX b L xs s) (hap : lw_ap ad am) (hi : i + 3 ≤ L) (hu : x_ok n cs wt u) (hv : m_ok n cs wt v) (hHx : gH D (xT ka) (xW ad ka u) (lw_A s) s H locs) (hHm : gH D (mT km) (mW am km v) (lw_A s) s H locs) (hl : lv_has ls 4 [(0, .ref b), (1, .ref (ad 0)), (2, .ref (am 0)), (3, .int (nI i))]) (K : ∀ (n : Nat) (cs wt : Nat → Nat) (u v : XS) (H : Heap) (locs : List Loc) (ls : Array Slot), x_ok n cs wt u → m_ok n cs wt v → gH D (xT ka) (xW ad ka u) (lw_A s) s H locs → gH D (mT km) (mW am km v) (lw_A s) s H locs → lv_has ls 4 [(0, .ref b), (1, .ref (ad 0)), (2, .ref (am 0)), (3, .int (nI i))] → W p l e room_1 s m #[Value.ref b] below meth c H locs 13 200 (lw_Z below #[Value.ref b] s) (F0 m 261 ls [])) : W p l e room_1 s m #[Value.ref b] below meth c H locs 13 200 (lw_Z below #[Value.ref b] s) (F0 m 163 ls []) := by
  refine lv_aload_n S.1 S.2.1 dL_law_163 rfl (lv_at hl 1 rfl) ?_
  refine gMu.callF (As := []) (rest := []) (x_possible l D ad ka u n cs wt hu) S hHx hHm (lw_apX hap _ _) (cwV 0 S.2.2.2.2 (lw_V q85 q86 q87 q16 q88) rfl rfl rfl (by decide +kernel) ⟨Nat.le_of_ble_eq_true rfl, Nat.le_of_ble_eq_true rfl⟩) (x_recv hHx) rfl hl.1 rfl (Nat.le_of_ble_eq_true rfl) dL_law_164 ⟨Nat.le_of_ble_eq_true rfl, Nat.le_of_ble_eq_true rfl⟩ (fun z1 u1 H locs h1 hHx hHm => ?_)
  refine lv_aload_n S.1 S.2.1 dL_law_167 rfl (lv_at hl 2 rfl) ?_
  refine gRo.call (As := []) (rest := [.int z1]) (m_possible l D am km v n cs wt hv) S hHm (cwV 0 S.2.2.2.2 (lw_V q190 q191 q192 q17 q193) rfl rfl rfl (by decide +kernel) ⟨Nat.le_of_ble_eq_true rfl, Nat.le_of_ble_eq_true rfl⟩) (m_recv hHm) rfl hl.1 rfl (Nat.le_of_ble_eq_true rfl) dL_law_168 ⟨Nat.le_of_ble_eq_true rfl, Nat.le_of_ble_eq_true rfl⟩ (fun z2 h2 => ?_)
  refine lv_icmp_eq (tgt := 261) S.1 S.2.1 dL_law_171 (by decide) (fun c1 => ?_) (fun c1 => ?_)
  · exact K n cs wt u1 v H locs ls h1.1 hv hHx hHm hl
  · exact absurd (by obtain ⟨-, r1, a1, b1⟩ := h1; obtain ⟨r2, a2, b2⟩ := h2; rw [b1, b2, ss_min_u a1 a2]) c1
set_option maxHeartbeats 8000000 in
theorem lc_loss (S : CallFix p m c code 4 s #[Value.ref b] lw_all R_law) (hX : lwX b L xs s) (hap : lw_ap ad am) (hi : i + 3 ≤ L) (hu : x_ok n cs wt u) (hv : m_ok n cs wt v) (hHx : gH D (xT ka) (xW ad ka u) (lw_A s) s H locs) (hHm : gH D (mT km) (mW am km v) (lw_A s) s H locs) (hl : lv_has ls 4 [(0, .ref b), (1, .ref (ad 0)), (2, .ref (am 0)), (3, .int (nI i))]) (K : ∀ (n : Nat) (cs wt : Nat → Nat) (u v : XS) (H : Heap) (locs : List Loc) (ls : Array Slot), x_ok n cs wt u → m_ok n cs wt v → gH D (xT ka) (xW ad ka u) (lw_A s) s H locs → gH D (mT km) (mW am km v) (lw_A s) s H locs → lv_has ls 4 [(0, .ref b), (1, .ref (ad 0)), (2, .ref (am 0)), (3, .int (nI i))] → W p l e room_1 s m #[Value.ref b] below meth c H locs 13 200 (lw_Z below #[Value.ref b] s) (F0 m 261 ls [])) : W p l e room_1 s m #[Value.ref b] below meth c H locs 13 200 (lw_Z below #[Value.ref b] s) (F0 m 176 ls []) := by
  refine lv_aload_n S.1 S.2.1 dL_law_176 rfl (lv_at hl 1 rfl) ?_
  refine gMu.callF (As := []) (rest := []) (x_loss l D ad ka u n cs wt hu) S hHx hHm (lw_apX hap _ _) (cwV 0 S.2.2.2.2 (lw_V q133 q134 q135 q16 q136) rfl rfl rfl (by decide +kernel) ⟨Nat.le_of_ble_eq_true rfl, Nat.le_of_ble_eq_true rfl⟩) (x_recv hHx) rfl hl.1 rfl (Nat.le_of_ble_eq_true rfl) dL_law_177 ⟨Nat.le_of_ble_eq_true rfl, Nat.le_of_ble_eq_true rfl⟩ (fun z1 u1 H locs h1 hHx hHm => ?_)
  refine lv_aload_n S.1 S.2.1 dL_law_180 rfl (lv_at hl 2 rfl) ?_
  refine gRo.call (As := []) (rest := [.int z1]) (m_loss l D am km v n cs wt hv) S hHm (cwV 0 S.2.2.2.2 (lw_V q211 q195 q196 q17 q197) rfl rfl rfl (by decide +kernel) ⟨Nat.le_of_ble_eq_true rfl, Nat.le_of_ble_eq_true rfl⟩) (m_recv hHm) rfl hl.1 rfl (Nat.le_of_ble_eq_true rfl) dL_law_181 ⟨Nat.le_of_ble_eq_true rfl, Nat.le_of_ble_eq_true rfl⟩ (fun z2 h2 => ?_)
  refine lv_icmp_eq (tgt := 261) S.1 S.2.1 dL_law_184 (by decide) (fun c1 => ?_) (fun c1 => ?_)
  · exact K n cs wt u1 v H locs ls h1.1 hv hHx hHm hl
  · exact absurd (ss_min_u h1.2 h2) c1
set_option maxHeartbeats 8000000 in
theorem lc_best (S : CallFix p m c code 4 s #[Value.ref b] lw_all R_law) (hX : lwX b L xs s) (hap : lw_ap ad am) (hi : i + 3 ≤ L) (hu : x_ok n cs wt u) (hv : m_ok n cs wt v) (hHx : gH D (xT ka) (xW ad ka u) (lw_A s) s H locs) (hHm : gH D (mT km) (mW am km v) (lw_A s) s H locs) (hl : lv_has ls 4 [(0, .ref b), (1, .ref (ad 0)), (2, .ref (am 0)), (3, .int (nI i))]) (K : ∀ (n : Nat) (cs wt : Nat → Nat) (u v : XS) (H : Heap) (locs : List Loc) (ls : Array Slot), x_ok n cs wt u → m_ok n cs wt v → gH D (xT ka) (xW ad ka u) (lw_A s) s H locs → gH D (mT km) (mW am km v) (lw_A s) s H locs → lv_has ls 4 [(0, .ref b), (1, .ref (ad 0)), (2, .ref (am 0)), (3, .int (nI i))] → W p l e room_1 s m #[Value.ref b] below meth c H locs 13 200 (lw_Z below #[Value.ref b] s) (F0 m 261 ls [])) : W p l e room_1 s m #[Value.ref b] below meth c H locs 13 200 (lw_Z below #[Value.ref b] s) (F0 m 189 ls []) := by
  refine lv_aload_n S.1 S.2.1 dL_law_189 rfl (lv_at hl 1 rfl) ?_
  refine gMu.callF (As := []) (rest := []) (x_best l D ad ka u n cs wt hu) S hHx hHm (lw_apX hap _ _) (cwV 0 S.2.2.2.2 (lw_V q137 q138 q139 q16 q140) rfl rfl rfl (by decide +kernel) ⟨Nat.le_of_ble_eq_true rfl, Nat.le_of_ble_eq_true rfl⟩) (x_recv hHx) rfl hl.1 rfl (Nat.le_of_ble_eq_true rfl) dL_law_190 ⟨Nat.le_of_ble_eq_true rfl, Nat.le_of_ble_eq_true rfl⟩ (fun z1 u1 H locs h1 hHx hHm => ?_)
  refine lv_aload_n S.1 S.2.1 dL_law_193 rfl (lv_at hl 2 rfl) ?_
  refine gRo.call (As := []) (rest := [.int z1]) (m_best l D am km v n cs wt hv) S hHm (cwV 0 S.2.2.2.2 (lw_V q212 q213 q214 q17 q215) rfl rfl rfl (by decide +kernel) ⟨Nat.le_of_ble_eq_true rfl, Nat.le_of_ble_eq_true rfl⟩) (m_recv hHm) rfl hl.1 rfl (Nat.le_of_ble_eq_true rfl) dL_law_194 ⟨Nat.le_of_ble_eq_true rfl, Nat.le_of_ble_eq_true rfl⟩ (fun z2 h2 => ?_)
  refine lv_icmp_eq (tgt := 261) S.1 S.2.1 dL_law_197 (by decide) (fun c1 => ?_) (fun c1 => ?_)
  · exact K n cs wt u1 v H locs ls h1.1 hv hHx hHm hl
  · exact absurd (ss_best_u h1.2 h2) c1
set_option maxHeartbeats 8000000 in
theorem lc_lossWith (S : CallFix p m c code 4 s #[Value.ref b] lw_all R_law) (hX : lwX b L xs s) (hap : lw_ap ad am) (hi : i + 3 ≤ L) (hu : x_ok n cs wt u) (hv : m_ok n cs wt v) (hHx : gH D (xT ka) (xW ad ka u) (lw_A s) s H locs) (hHm : gH D (mT km) (mW am km v) (lw_A s) s H locs) (hl : lv_has ls 4 [(0, .ref b), (1, .ref (ad 0)), (2, .ref (am 0)), (3, .int (nI i))]) (K : ∀ (n : Nat) (cs wt : Nat → Nat) (u v : XS) (H : Heap) (locs : List Loc) (ls : Array Slot), x_ok n cs wt u → m_ok n cs wt v → gH D (xT ka) (xW ad ka u) (lw_A s) s H locs → gH D (mT km) (mW am km v) (lw_A s) s H locs → lv_has ls 4 [(0, .ref b), (1, .ref (ad 0)), (2, .ref (am 0)), (3, .int (nI i))] → W p l e room_1 s m #[Value.ref b] below meth c H locs 13 200 (lw_Z below #[Value.ref b] s) (F0 m 261 ls [])) : W p l e room_1 s m #[Value.ref b] below meth c H locs 13 200 (lw_Z below #[Value.ref b] s) (F0 m 202 ls []) := by
  refine lv_aload_n S.1 S.2.1 dL_law_202 rfl (lv_at hl 1 rfl) ?_
  refine lv_aload_n S.1 S.2.1 dL_law_203 rfl (lv_at hl 0 rfl) ?_
  refine lv_iload_n S.1 S.2.1 dL_law_204 rfl (lv_at hl 3 rfl) ?_
  refine lv_iconst (v := nI 1) S.1 S.2.1 dL_law_205 (by decide) ?_
  refine lv_iadd S.1 S.2.1 dL_law_206 ?_
  refine lv_as (nI (i + 1)) (nI_add i 1) ?_
  refine l_ld hX S hHx (i + 1) (by omega) dL_law_207 ?_
  refine gMu.callF (As := [.int (xs (i + 1))]) (rest := []) (x_with l D ad ka u n cs wt hu (xs (i + 1))) S hHx hHm (lw_apX hap _ _) (cwV 1 S.2.2.2.2 (lw_V q141 q142 q143 q16 q144) rfl rfl rfl (by decide +kernel) ⟨Nat.le_of_ble_eq_true rfl, Nat.le_of_ble_eq_true rfl⟩) (x_recv hHx) rfl hl.1 rfl (Nat.le_of_ble_eq_true rfl) dL_law_208 ⟨Nat.le_of_ble_eq_true rfl, Nat.le_of_ble_eq_true rfl⟩ (fun z1 u1 H locs h1 hHx hHm => ?_)
  refine lv_aload_n S.1 S.2.1 dL_law_211 rfl (lv_at hl 2 rfl) ?_
  refine lv_aload_n S.1 S.2.1 dL_law_212 rfl (lv_at hl 0 rfl) ?_
  refine lv_iload_n S.1 S.2.1 dL_law_213 rfl (lv_at hl 3 rfl) ?_
  refine lv_iconst (v := nI 1) S.1 S.2.1 dL_law_214 (by decide) ?_
  refine lv_iadd S.1 S.2.1 dL_law_215 ?_
  refine lv_as (nI (i + 1)) (nI_add i 1) ?_
  refine l_ld hX S hHx (i + 1) (by omega) dL_law_216 ?_
  refine gRo.call (As := [.int (xs (i + 1))]) (rest := [.int z1]) (m_with l D am km v n cs wt hv (xs (i + 1))) S hHm (cwV 1 S.2.2.2.2 (lw_V q216 q217 q218 q17 q219) rfl rfl rfl (by decide +kernel) ⟨Nat.le_of_ble_eq_true rfl, Nat.le_of_ble_eq_true rfl⟩) (m_recv hHm) rfl hl.1 rfl (Nat.le_of_ble_eq_true rfl) dL_law_217 ⟨Nat.le_of_ble_eq_true rfl, Nat.le_of_ble_eq_true rfl⟩ (fun z2 h2 => ?_)
  refine lv_icmp_eq (tgt := 261) S.1 S.2.1 dL_law_220 (by decide) (fun c1 => ?_) (fun c1 => ?_)
  · exact K n cs wt u1 v H locs ls h1.1 hv hHx hHm hl
  · exact absurd (ss_min_u h1.2 h2) c1
set_option maxHeartbeats 8000000 in
theorem lc_lossAgainst (S : CallFix p m c code 4 s #[Value.ref b] lw_all R_law) (hX : lwX b L xs s) (hap : lw_ap ad am) (hi : i + 3 ≤ L) (hu : x_ok n cs wt u) (hv : m_ok n cs wt v) (hHx : gH D (xT ka) (xW ad ka u) (lw_A s) s H locs) (hHm : gH D (mT km) (mW am km v) (lw_A s) s H locs) (hl : lv_has ls 4 [(0, .ref b), (1, .ref (ad 0)), (2, .ref (am 0)), (3, .int (nI i))]) (K : ∀ (n : Nat) (cs wt : Nat → Nat) (u v : XS) (H : Heap) (locs : List Loc) (ls : Array Slot), x_ok n cs wt u → m_ok n cs wt v → gH D (xT ka) (xW ad ka u) (lw_A s) s H locs → gH D (mT km) (mW am km v) (lw_A s) s H locs → lv_has ls 4 [(0, .ref b), (1, .ref (ad 0)), (2, .ref (am 0)), (3, .int (nI i))] → W p l e room_1 s m #[Value.ref b] below meth c H locs 13 200 (lw_Z below #[Value.ref b] s) (F0 m 261 ls [])) : W p l e room_1 s m #[Value.ref b] below meth c H locs 13 200 (lw_Z below #[Value.ref b] s) (F0 m 225 ls []) := by
  refine lv_aload_n S.1 S.2.1 dL_law_225 rfl (lv_at hl 1 rfl) ?_
  refine lv_aload_n S.1 S.2.1 dL_law_226 rfl (lv_at hl 0 rfl) ?_
  refine lv_iload_n S.1 S.2.1 dL_law_227 rfl (lv_at hl 3 rfl) ?_
  refine lv_iconst (v := nI 1) S.1 S.2.1 dL_law_228 (by decide) ?_
  refine lv_iadd S.1 S.2.1 dL_law_229 ?_
  refine lv_as (nI (i + 1)) (nI_add i 1) ?_
  refine l_ld hX S hHx (i + 1) (by omega) dL_law_230 ?_
  refine gMu.callF (As := [.int (xs (i + 1))]) (rest := []) (x_against l D ad ka u n cs wt hu (xs (i + 1))) S hHx hHm (lw_apX hap _ _) (cwV 1 S.2.2.2.2 (lw_V q145 q146 q147 q16 q148) rfl rfl rfl (by decide +kernel) ⟨Nat.le_of_ble_eq_true rfl, Nat.le_of_ble_eq_true rfl⟩) (x_recv hHx) rfl hl.1 rfl (Nat.le_of_ble_eq_true rfl) dL_law_231 ⟨Nat.le_of_ble_eq_true rfl, Nat.le_of_ble_eq_true rfl⟩ (fun z1 u1 H locs h1 hHx hHm => ?_)
  refine lv_aload_n S.1 S.2.1 dL_law_234 rfl (lv_at hl 2 rfl) ?_
  refine lv_aload_n S.1 S.2.1 dL_law_235 rfl (lv_at hl 0 rfl) ?_
  refine lv_iload_n S.1 S.2.1 dL_law_236 rfl (lv_at hl 3 rfl) ?_
  refine lv_iconst (v := nI 1) S.1 S.2.1 dL_law_237 (by decide) ?_
  refine lv_iadd S.1 S.2.1 dL_law_238 ?_
  refine lv_as (nI (i + 1)) (nI_add i 1) ?_
  refine l_ld hX S hHx (i + 1) (by omega) dL_law_239 ?_
  refine gRo.call (As := [.int (xs (i + 1))]) (rest := [.int z1]) (m_against l D am km v n cs wt hv (xs (i + 1))) S hHm (cwV 1 S.2.2.2.2 (lw_V q220 q221 q222 q17 q223) rfl rfl rfl (by decide +kernel) ⟨Nat.le_of_ble_eq_true rfl, Nat.le_of_ble_eq_true rfl⟩) (m_recv hHm) rfl hl.1 rfl (Nat.le_of_ble_eq_true rfl) dL_law_240 ⟨Nat.le_of_ble_eq_true rfl, Nat.le_of_ble_eq_true rfl⟩ (fun z2 h2 => ?_)
  refine lv_icmp_eq (tgt := 261) S.1 S.2.1 dL_law_243 (by decide) (fun c1 => ?_) (fun c1 => ?_)
  · exact K n cs wt u1 v H locs ls h1.1 hv hHx hHm hl
  · exact absurd (ss_min_u h1.2 h2) c1
set_option maxHeartbeats 8000000 in
theorem lc_kept (S : CallFix p m c code 4 s #[Value.ref b] lw_all R_law) (hX : lwX b L xs s) (hap : lw_ap ad am) (hi : i + 3 ≤ L) (hu : x_ok n cs wt u) (hv : m_ok n cs wt v) (hHx : gH D (xT ka) (xW ad ka u) (lw_A s) s H locs) (hHm : gH D (mT km) (mW am km v) (lw_A s) s H locs) (hl : lv_has ls 4 [(0, .ref b), (1, .ref (ad 0)), (2, .ref (am 0)), (3, .int (nI i))]) (K : ∀ (n : Nat) (cs wt : Nat → Nat) (u v : XS) (H : Heap) (locs : List Loc) (ls : Array Slot), x_ok n cs wt u → m_ok n cs wt v → gH D (xT ka) (xW ad ka u) (lw_A s) s H locs → gH D (mT km) (mW am km v) (lw_A s) s H locs → lv_has ls 4 [(0, .ref b), (1, .ref (ad 0)), (2, .ref (am 0)), (3, .int (nI i))] → W p l e room_1 s m #[Value.ref b] below meth c H locs 13 200 (lw_Z below #[Value.ref b] s) (F0 m 261 ls [])) : W p l e room_1 s m #[Value.ref b] below meth c H locs 13 200 (lw_Z below #[Value.ref b] s) (F0 m 248 ls []) := by
  refine lv_aload_n S.1 S.2.1 dL_law_248 rfl (lv_at hl 1 rfl) ?_
  refine gMu.callF (As := []) (rest := []) (x_kept l D ad ka u n cs wt hu) S hHx hHm (lw_apX hap _ _) (cwV 0 S.2.2.2.2 (lw_V q149 q150 q151 q16 q152) rfl rfl rfl (by decide +kernel) ⟨Nat.le_of_ble_eq_true rfl, Nat.le_of_ble_eq_true rfl⟩) (x_recv hHx) rfl hl.1 rfl (Nat.le_of_ble_eq_true rfl) dL_law_249 ⟨Nat.le_of_ble_eq_true rfl, Nat.le_of_ble_eq_true rfl⟩ (fun z1 u1 H locs h1 hHx hHm => ?_)
  refine lv_aload_n S.1 S.2.1 dL_law_252 rfl (lv_at hl 2 rfl) ?_
  refine gRo.call (As := []) (rest := [.int z1]) (m_kept l D am km v n cs wt hv) S hHm (cwV 0 S.2.2.2.2 (lw_V q224 q225 q226 q17 q227) rfl rfl rfl (by decide +kernel) ⟨Nat.le_of_ble_eq_true rfl, Nat.le_of_ble_eq_true rfl⟩) (m_recv hHm) rfl hl.1 rfl (Nat.le_of_ble_eq_true rfl) dL_law_253 ⟨Nat.le_of_ble_eq_true rfl, Nat.le_of_ble_eq_true rfl⟩ (fun z2 h2 => ?_)
  refine lv_icmp_eq (tgt := 261) S.1 S.2.1 dL_law_256 (by decide) (fun c1 => ?_) (fun c1 => ?_)
  · exact K n cs wt u1 v H locs ls h1.1 hv hHx hHm hl
  · exact absurd (by obtain ⟨-, r1, a1, b1⟩ := h1; obtain ⟨r2, a2, b2⟩ := h2; rw [b1, b2, ss_best_u a1 a2]) c1
end LC
end
section
set_option maxRecDepth 100000
/-! the law's loop, and its start -/
set_option maxHeartbeats 8000000 in
theorem law_loop {p : Program} {l : Launch} {e : Env} {s : State} {m : MethodId} {below : List Frame} {meth : Method} {c : Code} {D : va_G} {b L : Nat} {xs : Nat → Int32} {ad am : Nat → Nat} {ka km : Nat → ClassId} (S : CallFix p m c code 4 s #[Value.ref b] lw_all R_law) (hr : meth.sig.returnType = ret) (hlocks : meth.locks = false) (hX : lwX b L xs s) (hap : lw_ap ad am) :
    ∀ (q i : Nat), i ≤ L → L < i + q → ∀ (n : Nat) (cs wt : Nat → Nat) (u v : XS) (H : Heap) (locs : List Loc) (ls : Array Slot), x_ok n cs wt u → m_ok n cs wt v → gH D (xT ka) (xW ad ka u) (lw_A s) s H locs → gH D (mT km) (mW am km v) (lw_A s) s H locs → lv_has ls 4 [(0, .ref b), (1, .ref (ad 0)), (2, .ref (am 0)), (3, .int (nI i))] → W p l e room_1 s m #[Value.ref b] below meth c H locs 13 200 (lw_Z below #[Value.ref b] s) (F0 m 18 ls []) := by
  have hL := hX.2.2
  intro q
  induction q with
  | zero => intro i h1 h2; exact absurd h2 (by omega)
  | succ q ih =>
    intro i h1 h2 n cs wt u v H locs ls hu hv hHx hHm hl
    refine lv_iload_n S.1 S.2.1 dL_law_18 rfl (lv_at hl 3 rfl) ?_
    refine lv_aload_n S.1 S.2.1 dL_law_19 rfl (lv_at hl 0 rfl) ?_
    refine l_len hX S hHx dL_law_20 ?_
    refine lv_iconst (v := nI 3) S.1 S.2.1 dL_law_21 (by decide) ?_
    refine lv_isub S.1 S.2.1 dL_law_22 ?_
    refine lv_icmp_gt (tgt := 267) S.1 S.2.1 dL_law_23 (by decide) (fun c1 => ?_) (fun c1 => ?_)
    · refine lv_iconst (v := 1) S.1 S.2.1 dL_law_267 (by decide) ?_
      refine va_forget (fun q hq => hHx.2.2.2.1.2.2 q hq) ?_
      refine W.widen (k := 600000) (n := 7290000) (Nat.le_of_ble_eq_true rfl) (Nat.le_of_ble_eq_true rfl) ?_
      exact lw_ret S.1 S.2.1 hr hlocks dL_law_268
    · have hi : i + 3 ≤ L := by
        rw [fa_lt, pk_sub_toInt (by omega) (by omega), nI_toInt (by omega)] at c1
        omega
      have K : ∀ (n : Nat) (cs wt : Nat → Nat) (u v : XS) (H : Heap) (locs : List Loc) (ls : Array Slot), x_ok n cs wt u → m_ok n cs wt v → gH D (xT ka) (xW ad ka u) (lw_A s) s H locs → gH D (mT km) (mW am km v) (lw_A s) s H locs → lv_has ls 4 [(0, .ref b), (1, .ref (ad 0)), (2, .ref (am 0)), (3, .int (nI i))] → W p l e room_1 s m #[Value.ref b] below meth c H locs 13 200 (lw_Z below #[Value.ref b] s) (F0 m 261 ls []) := by
        intro n cs wt u v H locs ls hu hv hHx hHm hl
        refine lv_iinc (v := nI (i + 3)) (lv' := [(3, .int (nI (i + 3))), (0, .ref b), (1, .ref (ad 0)), (2, .ref (am 0))]) S.1 S.2.1 dL_law_261 hl (k := 3) rfl (nI_add i 3) (by decide) rfl (fun ls hl => ?_)
        refine lv_goto (tgt := 18) S.1 S.2.1 dL_law_264 (by decide) ?_
        exact ih (i + 3) hi (by omega) n cs wt u v H locs ls hu hv hHx hHm (lv_sub hl [1, 2, 3, 0] rfl)
      refine lv_aload_n S.1 S.2.1 dL_law_26 rfl (lv_at hl 0 rfl) ?_
      refine lv_iload_n S.1 S.2.1 dL_law_27 rfl (lv_at hl 3 rfl) ?_
      refine l_ld hX S hHx (i) (by omega) dL_law_28 ?_
      refine lv_bipush (v := 15) S.1 S.2.1 dL_law_29 (by decide) ?_
      refine lv_iand S.1 S.2.1 dL_law_31 ?_
      obtain ⟨k, hk, ek⟩ := pk_andE (xs i) (m := 15) 4 (by decide)
      refine lv_as (nI k) ek ?_
      rcases (show k = 0 ∨ k = 1 ∨ k = 2 ∨ k = 3 ∨ k = 4 ∨ k = 5 ∨ k = 6 ∨ k = 7 ∨ k = 8 ∨ 9 ≤ k by omega) with rfl | rfl | rfl | rfl | rfl | rfl | rfl | rfl | rfl | h9
      · refine lv_tableIn (off := 52) (tgt := 84) S.1 S.2.1 dL_law_32 (by decide +kernel) (by decide +kernel) (by decide +kernel) (by decide) ?_
        exact lc_hard S hX hap hi hu hv hHx hHm hl K
      · refine lv_tableIn (off := 75) (tgt := 107) S.1 S.2.1 dL_law_32 (by decide +kernel) (by decide +kernel) (by decide +kernel) (by decide) ?_
        by_cases hy : xs (i + 2) < 1 ∨ 50 < xs (i + 2)
        · exact lc_softb S hX hap hi hu hv hHx hHm hl hy K
        · obtain ⟨ω, h5, eω⟩ := nI_of2 (x := xs (i + 2)) (M := 50) (n := 50) (by decide) (fun z => hy (Or.inl (by rw [fa_lt] at z ⊢; exact Int.lt_trans z (by decide)))) (by rw [fa_le]; rw [fa_lt, fa_lt] at hy; omega)
          refine lc_softa S hX hap hi hu hv hHx hHm hl ω eω ?_ h5 K
          rcases Nat.eq_zero_or_pos ω with z | z
          · exact absurd (Or.inl (by rw [eω, z]; decide)) hy
          · exact z
      · refine lv_tableIn (off := 108) (tgt := 140) S.1 S.2.1 dL_law_32 (by decide +kernel) (by decide +kernel) (by decide +kernel) (by decide) ?_
        by_cases hy : xs (i + 1) < 0 ∨ nI n ≤ xs (i + 1)
        · exact lc_dropb S hX hap hi hu hv hHx hHm hl hy K
        · obtain ⟨d, hd, ed⟩ := nI_of (x := xs (i + 1)) (fun z => hy (Or.inl z))
          refine lc_dropa S hX hap hi hu hv hHx hHm hl d ed ?_ K
          rcases Nat.lt_or_ge d n with z | z
          · exact z
          · exact absurd (Or.inr (by rw [ed]; exact nI_le z hd)) hy
      · refine lv_tableIn (off := 131) (tgt := 163) S.1 S.2.1 dL_law_32 (by decide +kernel) (by decide +kernel) (by decide +kernel) (by decide) ?_
        exact lc_possible S hX hap hi hu hv hHx hHm hl K
      · refine lv_tableIn (off := 144) (tgt := 176) S.1 S.2.1 dL_law_32 (by decide +kernel) (by decide +kernel) (by decide +kernel) (by decide) ?_
        exact lc_loss S hX hap hi hu hv hHx hHm hl K
      · refine lv_tableIn (off := 157) (tgt := 189) S.1 S.2.1 dL_law_32 (by decide +kernel) (by decide +kernel) (by decide +kernel) (by decide) ?_
        exact lc_best S hX hap hi hu hv hHx hHm hl K
      · refine lv_tableIn (off := 170) (tgt := 202) S.1 S.2.1 dL_law_32 (by decide +kernel) (by decide +kernel) (by decide +kernel) (by decide) ?_
        exact lc_lossWith S hX hap hi hu hv hHx hHm hl K
      · refine lv_tableIn (off := 193) (tgt := 225) S.1 S.2.1 dL_law_32 (by decide +kernel) (by decide +kernel) (by decide +kernel) (by decide) ?_
        exact lc_lossAgainst S hX hap hi hu hv hHx hHm hl K
      · refine lv_tableIn (off := 216) (tgt := 248) S.1 S.2.1 dL_law_32 (by decide +kernel) (by decide +kernel) (by decide +kernel) (by decide) ?_
        exact lc_kept S hX hap hi hu hv hHx hHm hl K
      · refine lv_tableOut (tgt := 261) S.1 S.2.1 dL_law_32 (Or.inr (by rw [nI_toInt (by omega)]; omega)) (by decide) ?_
        exact K n cs wt u v H locs ls hu hv hHx hHm hl
set_option maxHeartbeats 8000000 in
theorem whole_start {p : Program} {e : Env} {s : State} {m : MethodId} {below : List Frame} {meth : Method} {c : Code} (l : Launch) {b L : Nat} {xs : Nat → Int32} (hL : L ≤ 192) (C0 : lw_At p s m meth c b L xs) : W p l e room_1 s m #[Value.ref b] below meth c s.heap [] 0 0 (lw_Z below #[Value.ref b] s) (entryFrame m ([Value.ref b] : List Value).toArray 4) := by
  obtain ⟨hx, hb, hr, hml, hown, hts0, hX, hbl, hlocks, hgv⟩ := C0
  have hts : ∀ w ∈ lw_all, w.before #[Value.ref b] s = true := fun w h => hts0 w (lw_all_tbl h)
  have S : CallFix p m c code 4 s #[Value.ref b] lw_all R_law := ⟨hx, hb, hml, hown, hts⟩
  obtain ⟨c0, iS0, hKn0⟩ := u_known (C := RX0) (T := TX0) (N := 13) (n := 13) hts in_X0 (hts _ q19)
  obtain ⟨c1, iS1, hKn1⟩ := u_known (C := RX1) (T := TX1) (N := 3) (n := 3) hts in_X1 (hts _ q158)
  obtain ⟨D, hKc⟩ : ∃ D : va_G, ∀ (k : Nat) (q : vw_C), vwCl[k]? = some q → u_Kn s q.1 q.2.1 q.2.2 (D.1 k) (D.2 k) := by
    refine ⟨(fun k => if k = 0 then c0 else c1, fun k => if k = 0 then iS0 else iS1), ?_⟩
    intro k q hq
    match k, hq with
    | 0, hq => cases hq; exact hKn0
    | 1, hq => cases hq; exact hKn1
    | k + 2, hq => simp [vwCl] at hq
  have hK : va_K D vwCl [] s := ⟨hKc, fun k q h => by simp at h⟩
  have hA : ∀ q : Nat, s.heap.size ≤ q → lw_A s q := fun _ h => h
  have hE : gH D [] [] (lw_A s) s s.heap [] := ⟨hK, fun k q h => by simp at h, ⟨fun i j p q h => by simp at h, fun k q h => by simp at h⟩, va_S.rf, hA⟩
  have hl := lv_entry ([.ref b]) (n := 4) (Nat.le_of_ble_eq_true rfl)
  rw [lg_entry_eq]
  generalize (lg_sl ([.ref b]) ++ List.replicate (4 - (lg_sl ([.ref b])).length) Slot.unset).toArray = ls at hl ⊢
  have hl : lv_has ls 4 [(0, .ref b)] := hl
  refine va_new (ci := 0) (fs := [.int 0, .null, .null, .null, .null, .int 0, .int 0, .null, .null, .int 0, .null, .null, .null]) (C := RX0) (T := TX0) (N := 13) hx hb hts in_X0 tyX0 tyX0_ok hown (hts _ q18) (hts _ q19) (hts _ q16) hK hE.2.1 hE.2.2.1 hE.2.2.2.1 hA rfl (fun j hj => by rcases (show j = 0 ∨ j = 1 ∨ j = 2 ∨ j = 3 ∨ j = 4 ∨ j = 5 ∨ j = 6 ∨ j = 7 ∨ j = 8 ∨ j = 9 ∨ j = 10 ∨ j = 11 ∨ j = 12 by omega) with rfl | rfl | rfl | rfl | rfl | rfl | rfl | rfl | rfl | rfl | rfl | rfl | rfl <;> rfl) (Nat.le_of_ble_eq_true rfl) (Nat.le_of_ble_eq_true rfl) dL_law_0 (fun h0 H hP hD hS => ?_)
  have hH0 : gH D [] (x_w0 h0) (lw_A s) s H [] := ⟨hK, hP, hD, hS, hA⟩
  have hE : gH D [] [] (lw_A s) s H [] := ⟨hK, fun k q h => by simp at h, ⟨fun i j p q h => by simp at h, fun k q h => by simp at h⟩, hS, hA⟩
  refine lv_dup hx hb dL_law_3 rfl ?_
  refine gI.callF (rest := [.ref h0]) (x_init l D h0) S hH0 hE (fun i j p q _ h => by simp at h) (cwI 0 hts (lw_meth q22) rfl rfl rfl (hts _ q16) (hts _ q20) (hts _ q21) rfl (by decide +kernel) ⟨Nat.le_of_ble_eq_true rfl, Nat.le_of_ble_eq_true rfl⟩) hl.1 rfl (Nat.le_of_ble_eq_true rfl) dL_law_4 ⟨Nat.le_of_ble_eq_true rfl, Nat.le_of_ble_eq_true rfl⟩ (fun z t H1 locs ht hvm hu hB hS _ => ?_)
  obtain ⟨ad, ka, u⟩ := z
  obtain ⟨e0, hP1, hK1, hD1⟩ := hB
  have e0 : ad 0 = h0 := e0
  have hHx : gH D (xT ka) (xW ad ka u) (lw_A s) s H1 locs := ⟨va_K.moved hvm.symm hK1, by rw [← ht]; exact hP1, hD1.weaken (fun k q _ h => hH0.free q.1 h), hS, hA⟩
  have hu : x_ok 0 (fun _ => 0) (fun _ => 0) u := hu
  refine W.widen (k := 10) (n := 149) (Nat.le_of_ble_eq_true rfl) (Nat.le_of_ble_eq_true rfl) ?_
  refine lv_astore_n (lv' := [(1, .ref h0), (0, .ref b)]) hx hb dL_law_7 rfl hl (by decide) rfl (fun ls hl => ?_)
  refine va_new (ci := 1) (fs := [.int 0, .null, .null]) (C := RX1) (T := TX1) (N := 3) hx hb hts in_X1 tyX1 tyX1_ok hown (hts _ q157) (hts _ q158) (hts _ q17) hHx.1 hHx.2.1 hHx.2.2.1 hHx.2.2.2.1 hA rfl (fun j hj => by rcases (show j = 0 ∨ j = 1 ∨ j = 2 by omega) with rfl | rfl | rfl <;> rfl) (Nat.le_of_ble_eq_true rfl) (Nat.le_of_ble_eq_true rfl) dL_law_8 (fun g0 H hP hD hS => ?_)
  have hHx : gH D (xT ka) (xW ad ka u) (lw_A s) s H locs := ⟨hHx.1, hP.sub [0, 1, 2, 3, 4, 5, 6, 7, 8, 9] rfl, hHx.2.2.1, hS, hA⟩
  have hH0 : gH D [] (m_w0 g0) (lw_A s) s H locs := ⟨hK, hP.sub [10] rfl, hD.sub [10] (by decide) rfl, hS, hA⟩
  have hne : ∀ (i : Nat) (p : Nat × va_E), (xW ad ka u)[i]? = some p → p.1 ≠ g0 := by
    intro i p hp ee
    have hi : i < (xW ad ka u).length := (List.getElem?_eq_some_iff.mp hp).1
    have hi2 : i < 10 := hi
    have h := hD.1 i 10 p (g0, .inr (1, [.int 0, .null, .null])) (by rw [List.getElem?_append_left hi]; exact hp) rfl ee
    omega
  have hap0 : ∀ (i j : Nat) (p q : Nat × va_E), (m_w0 g0)[i]? = some p → (xW ad ka u)[j]? = some q → p.1 ≠ q.1 := by
    intro i j p q hp hq ee
    have hi : i < 1 := (List.getElem?_eq_some_iff.mp hp).1
    rw [show i = 0 by omega] at hp
    cases hp
    exact hne j q hq ee.symm
  refine lv_dup hx hb dL_law_11 rfl ?_
  have hsz := fun (k : Nat) (x : Nat × va_E) (h : (xW ad ka u)[k]? = some x) => (hHx.2.1 k x h).lt
  refine gI.callF (rest := [.ref g0]) (m_init l D g0) S hH0 hHx hap0 (cwI 0 hts (lw_meth q161) rfl rfl rfl (hts _ q17) (hts _ q159) (hts _ q160) rfl (by decide +kernel) ⟨Nat.le_of_ble_eq_true rfl, Nat.le_of_ble_eq_true rfl⟩) hl.1 rfl (Nat.le_of_ble_eq_true rfl) dL_law_12 ⟨Nat.le_of_ble_eq_true rfl, Nat.le_of_ble_eq_true rfl⟩ (fun z t H1 locs ht hvm hv hB hS hHx => ?_)
  obtain ⟨am, km, v⟩ := z
  obtain ⟨f0, hP1, hK1, hD1⟩ := hB
  have f0 : am 0 = g0 := f0
  have hHm : gH D (mT km) (mW am km v) (lw_A s) s H1 locs := ⟨va_K.moved hvm.symm hK1, by rw [← ht]; exact hP1, hD1.weaken (fun k q _ h => hH0.free q.1 h), hS, hA⟩
  have hv : m_ok 0 (fun _ => 0) (fun _ => 0) v := hv
  have hap : lw_ap ad am := by
    intro x hx y hy ee
    have hx : x ∈ (xW ad ka u).map Prod.fst := hx
    have hy : y ∈ (mW am km v).map Prod.fst := hy
    obtain ⟨q1, hq1, rfl⟩ := List.mem_map.mp hx
    obtain ⟨q2, hq2, rfl⟩ := List.mem_map.mp hy
    obtain ⟨i1, hi1⟩ := List.getElem?_of_mem hq1
    obtain ⟨i2, hi2⟩ := List.getElem?_of_mem hq2
    have h3 := hD1.2 i2 q2 hi2
    have h4 := hsz i1 q1 hi1
    rcases h3 with ⟨k, e1, h⟩ | h
    · have hk : k < 1 := (List.getElem?_eq_some_iff.mp h).1
      rw [show k = 0 by omega] at h
      have h5 : g0 = q2.1 := congrArg Prod.fst (Option.some.inj h)
      exact hne i1 q1 hi1 (ee.trans h5.symm)
    · omega
  refine W.widen (k := 13) (n := 200) (Nat.le_of_ble_eq_true rfl) (Nat.le_of_ble_eq_true rfl) ?_
  refine lv_astore_n (lv' := [(2, .ref g0), (1, .ref h0), (0, .ref b)]) hx hb dL_law_15 rfl hl (by decide) rfl (fun ls hl => ?_)
  refine lv_iconst (v := nI 0) hx hb dL_law_16 (by decide) ?_
  refine lv_istore_n (lv' := [(3, .int (nI 0)), (2, .ref g0), (1, .ref h0), (0, .ref b)]) hx hb dL_law_17 rfl hl (by decide) rfl (fun ls hl => ?_)
  rw [← e0, ← f0] at hl
  exact law_loop S hr hlocks ⟨hX, hbl, hL⟩ hap (L + 1) 0 (Nat.zero_le _) (by omega) 0 _ _ u v H1 locs ls hu hv hHx hHm (lv_sub hl [3, 2, 1, 0] rfl)
end
section
set_option maxRecDepth 100000
set_option maxHeartbeats 4000000 in
theorem lw_walk (l : Launch) (b : Addr) (xs : List Int32) : MetFree l x (headSpec (Jvm.Cond.code x code maxLocals ret :: tables_1) room_1) (lw_P b xs) (fun _ _ _ _ _ => True) lw_Q := by
  refine MetFree.of_bodyS (code := code) (maxLocals := maxLocals) (ret := ret) (by decide) ?_ ?_
  · intro args s m h hn
    obtain ⟨meth, c, h1, h2, h3, h4, h5, h6, -, -⟩ := Cond.code_spec hn (atoms_spec (ws := Jvm.Cond.code x code maxLocals ret :: tables_1) h _ List.mem_cons_self)
    exact ⟨meth, c, h1, h2, h3, h4, h5, h6⟩
  · intro p e s m args below meth c s₁ B hml0 hP _
    obtain ⟨rfl, hx, hbd, hgv⟩ := hP
    obtain ⟨scr, harrAt, hlist, hof, hsmall⟩ := hx
    obtain ⟨hcb, hkn, -, -⟩ := State.arrayAt?_spec harrAt
    have hown : s.vm.findClass R_law = some m.cls := findClass_of_methodNamed B.named
    have hts0 : ∀ c ∈ (Jvm.Cond.code x code maxLocals ret :: tables_1), c.before #[Value.ref b] s = true := atoms_spec (ws := Jvm.Cond.code x code maxLocals ret :: tables_1) B.pre
    have hts : ∀ w ∈ lw_tbl, w.before #[Value.ref b] s = true := k2_hts_sels lw_privs (fun w hw => hts0 w (List.mem_cons_of_mem _ hw)) lw_privs_ok
    have hml : c.maxLocals = 4 := B.maxLocals_eq (hts0 _ List.mem_cons_self)
    have X₀ : Stand p l e room_1 s m #[Value.ref b] below meth c s₁ [] 0 0 := Stand.of_body B
    have hh0 : s₁.heap = s.heap := by rw [B.state]; rfl
    have hsz : scr.slots.size = xs.length := by rw [← Array.length_toList, hlist, List.length_map]
    have hval : ∀ j : Nat, j < xs.length → scr.slots[j]? = some (.int (xs.getD j 0)) := fun j hj => by
      rw [← Array.getElem?_toList, hlist]
      simp [hj]
    have hbl : b < s.heap.size := (Array.getElem?_eq_some_iff.mp hcb).1
    have hX : va_X b xs.length (fun j => xs.getD j 0) s s.heap := ⟨scr, hcb, hof, hkn, hsz, hval⟩
    have K : W p l e room_1 s m #[Value.ref b] below meth c s₁.heap [] 0 0 (lw_Z below #[Value.ref b] s) (entryFrame m ([Value.ref b] : List Value).toArray 4) := by
      rw [hh0]
      exact whole_start l hbd ⟨B.exec, B.bytes, B.returns, hml, hown, hts, hX, hbl, B.notSynchronized, hgv⟩
    obtain ⟨t, a1, o, b1, b2, b3⟩ := K s₁ rfl X₀
    exact ⟨t, o, a1, b1, b2, b3⟩
theorem lw_pre_spec {args : Array Value} {s : State} (h : (Jvm.Cond.and given_1 narrow_1).before args s = true) (hr : rest_1_c.before args s = true) : ∃ (b : Addr) (xs : List Int32), lw_P b xs args s := by
  have hs := flat_of_before _ h
  have hq := flat_of_before _ hr
  have hc : (Cond.count 1).before args s = true := hs _ (by decide +kernel)
  have harr : (Cond.arrayOf (.arg 0) .int).before args s = true := hs _ (by decide +kernel)
  have hle : (Cond.le (.length (.arg 0)) (.int 192)).before args s = true := hs _ (by decide +kernel)
  have hlen : (Cond.isInt (.length (.arg 0))).before args s = true := hq _ (by decide +kernel)
  have hall : (Cond.all (.arg 0) (.isInt (.elem (.arg 0) (.index 0)))).before args s = true := hq _ (by decide +kernel)
  obtain ⟨b, xs, hb, hx⟩ := State.ints_of_pre rfl harr hlen hall
  have hsm : xs.length < 2 ^ 31 := hx.choose_spec.2.2.2
  have hev : (Term.length (.arg 0)).eval args s none [] s = some (.int xs.length.toInt32) := hx.length_eval hb
  have hv := Cond.le_ints hev (show (Term.int 192).eval args s none [] s = some (.int 192) from rfl)
  have hd : xs.length.toInt32 ≤ 192 := by
    simpa [Cond.before, Cond.holds, hv] using hle
  have hN : xs.length ≤ 192 := (Int32.ofNat_le_ofNat hsm (by decide)).mp (show Int32.ofNat xs.length ≤ Int32.ofNat 192 from hd)
  exact ⟨b, xs, Cond.one_arg hc (show args[0]? = some (.ref b) from hb), hx, hN, h⟩
theorem lw_comes (l : Launch) : Comes l x (Jvm.Cond.code x code maxLocals ret :: tables_1) room_1 (fun tb e args s => Calls_1 tb e args s ∧ rest_1 tb e args s ∧ Pre_1 tb e args s)
    (fun _ _ args s o t => lw_Q args s o t) := by
  intro p e ha hc hk s m args below hf hfit hheap happ hpre
  obtain ⟨b, xs, hP⟩ := lw_pre_spec hpre.2.2 hpre.2.1
  obtain ⟨k, o, h1, h2, h3, hQ⟩ := lw_walk l b xs p e ha hc hk s m args below hf ((Spec.applies_iff_loose hf).mp happ).1 hP trivial
  exact ⟨k, o, h1, h2, h3, hQ⟩
theorem lw_frame {s t : State} {o : Outcome} {args : Array Value} (h : Framed s o t [] 600000 7290000) :
    Framed s o t (fieldLocs frame_1_writes args s ++ arrayLocs frame_1_arrays args s ++ staticLocs frame_1_statics s) 600000 7290000 := h
theorem lw_limb (L : Cond) (hL : ∀ (args : Array Value) (s t : State), L.after args s (.returned (some (.int 1))) t = true) :
    ArmFor flags0 classFile x code maxLocals ret World_1 tables_1 room_1 Calls_1 rest_1 Pre_1
      (fun tb e a s o t => postC L tb e a s o t ∧ Framed s o t (fieldLocs frame_1_writes a s ++ arrayLocs frame_1_arrays a s ++ staticLocs frame_1_statics s) 600000 7290000) := by
  intro l _ _ _ p e ha hc hk s m args below hf hfit hheap happ hpre
  obtain ⟨k, o, h1, h2, h3, rfl, hF⟩ := lw_comes l p e ha hc hk s m args below hf hfit hheap happ hpre
  exact ⟨k, _, h1, h2, h3, hL args s _, lw_frame hF⟩
theorem i_vc : Claimed_1_1 ∧ Claimed_1_2 := ⟨lw_limb limb_1_1 (fun args s t => by simp [limb_1_1, Cond.after, Cond.holds, Cond.value]), lw_limb limb_1_2 (fun args s t => Cond.after_iff.mpr (by
  first | (rw [show limb_1_2 = Cond.eq .result (.int 1) from rfl, Cond.eq_ints (x := 1) (y := 1) rfl rfl]; simp; done) | (simp [limb_1_2, Cond.value, Term.eval]; done)))⟩
end
