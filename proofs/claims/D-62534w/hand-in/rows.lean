section
-- ===== PART A: goes FIRST, ahead of the names: the tables' words, and 'selects' of the private methods out of them =====
/-- a private method of a class that the tables say can be made, by its rows of tables_1 -/
def lw_okq (q : MethodName × Nat) : Prop := (q.1.cls ≠ "java/lang/invoke/MethodHandle" ∧ q.1.cls ≠ "java/lang/invoke/VarHandle") ∧ Cond.instantiable q.1.cls q.2 ∈ tables_1 ∧ Cond.privateMethod q.1 ∈ tables_1 ∧ Cond.instanceMethod q.1 ∈ tables_1
set_option maxRecDepth 100000
theorem lw_t1 {w : Cond} (h : w ∈ tables_1_1) : w ∈ tables_1 := List.mem_append_left _ h
theorem lw_t2 {w : Cond} (h : w ∈ tables_1_2) : w ∈ tables_1 := List.mem_append_right _ h
theorem lw_p0 : lw_okq (⟨"PolicySolver", "isState", "(I)Z"⟩, 12) := ⟨⟨by decide +kernel, by decide +kernel⟩, lw_t1 (List.mem_of_getElem? (i := 4) rfl), lw_t1 (List.mem_of_getElem? (i := 55) rfl), lw_t1 (List.mem_of_getElem? (i := 56) rfl)⟩
theorem lw_p1 : lw_okq (⟨"PolicySolver", "isPolicy", "(I)Z"⟩, 12) := ⟨⟨by decide +kernel, by decide +kernel⟩, lw_t1 (List.mem_of_getElem? (i := 4) rfl), lw_t1 (List.mem_of_getElem? (i := 67) rfl), lw_t1 (List.mem_of_getElem? (i := 68) rfl)⟩
theorem lw_p2 : lw_okq (⟨"PolicySolver", "evaluate", "(I)V"⟩, 12) := ⟨⟨by decide +kernel, by decide +kernel⟩, lw_t1 (List.mem_of_getElem? (i := 4) rfl), lw_t1 (List.mem_of_getElem? (i := 72) rfl), lw_t1 (List.mem_of_getElem? (i := 73) rfl)⟩
theorem lw_p3 : lw_okq (⟨"PolicySolver", "fillRows", "(I)V"⟩, 12) := ⟨⟨by decide +kernel, by decide +kernel⟩, lw_t1 (List.mem_of_getElem? (i := 4) rfl), lw_t1 (List.mem_of_getElem? (i := 76) rfl), lw_t1 (List.mem_of_getElem? (i := 77) rfl)⟩
theorem lw_p4 : lw_okq (⟨"PolicySolver", "reduce", "(IIJ)V"⟩, 12) := ⟨⟨by decide +kernel, by decide +kernel⟩, lw_t1 (List.mem_of_getElem? (i := 4) rfl), lw_t1 (List.mem_of_getElem? (i := 81) rfl), lw_t1 (List.mem_of_getElem? (i := 82) rfl)⟩
theorem lw_p5 : lw_okq (⟨"PolicySolver", "lowestTop", "(JJ)I"⟩, 12) := ⟨⟨by decide +kernel, by decide +kernel⟩, lw_t1 (List.mem_of_getElem? (i := 4) rfl), lw_t1 (List.mem_of_getElem? (i := 85) rfl), lw_t1 (List.mem_of_getElem? (i := 86) rfl)⟩
theorem lw_p6 : lw_okq (⟨"PolicySolver", "commonDivisor", "(JJ)J"⟩, 12) := ⟨⟨by decide +kernel, by decide +kernel⟩, lw_t1 (List.mem_of_getElem? (i := 4) rfl), lw_t1 (List.mem_of_getElem? (i := 89) rfl), lw_t1 (List.mem_of_getElem? (i := 90) rfl)⟩
theorem lw_p7 : lw_okq (⟨"PolicySolver", "lowestBottom", "(JJ)I"⟩, 12) := ⟨⟨by decide +kernel, by decide +kernel⟩, lw_t1 (List.mem_of_getElem? (i := 4) rfl), lw_t1 (List.mem_of_getElem? (i := 97) rfl), lw_t1 (List.mem_of_getElem? (i := 98) rfl)⟩
theorem lw_p8 : lw_okq (⟨"PolicySolver", "solve", "()V"⟩, 12) := ⟨⟨by decide +kernel, by decide +kernel⟩, lw_t1 (List.mem_of_getElem? (i := 4) rfl), lw_t1 (List.mem_of_getElem? (i := 105) rfl), lw_t1 (List.mem_of_getElem? (i := 106) rfl)⟩
theorem lw_p9 : lw_okq (⟨"PolicySolver", "improve", "()Z"⟩, 12) := ⟨⟨by decide +kernel, by decide +kernel⟩, lw_t1 (List.mem_of_getElem? (i := 4) rfl), lw_t1 (List.mem_of_getElem? (i := 109) rfl), lw_t1 (List.mem_of_getElem? (i := 110) rfl)⟩
theorem lw_p10 : lw_okq (⟨"PolicySolver", "gainOf", "(II)J"⟩, 12) := ⟨⟨by decide +kernel, by decide +kernel⟩, lw_t1 (List.mem_of_getElem? (i := 4) rfl), lw_t1 (List.mem_of_getElem? (i := 113) rfl), lw_t1 (List.mem_of_getElem? (i := 114) rfl)⟩
theorem lw_p11 : lw_okq (⟨"PolicySolver", "copyAction", "(III)Z"⟩, 12) := ⟨⟨by decide +kernel, by decide +kernel⟩, lw_t1 (List.mem_of_getElem? (i := 4) rfl), lw_t1 (List.mem_of_getElem? (i := 137) rfl), lw_t1 (List.mem_of_getElem? (i := 138) rfl)⟩
theorem lw_p12 : lw_okq (⟨"PolicySolver", "keepValues", "()V"⟩, 12) := ⟨⟨by decide +kernel, by decide +kernel⟩, lw_t1 (List.mem_of_getElem? (i := 4) rfl), lw_t1 (List.mem_of_getElem? (i := 145) rfl), lw_t1 (List.mem_of_getElem? (i := 146) rfl)⟩
theorem lw_p13 : lw_okq (⟨"PolicySolverModel", "isAction", "(II)Z"⟩, 5) := ⟨⟨by decide +kernel, by decide +kernel⟩, lw_t1 (List.mem_of_getElem? (i := 149) rfl), lw_t1 (List.mem_of_getElem? (i := 176) rfl), lw_t1 (List.mem_of_getElem? (i := 177) rfl)⟩
theorem lw_p14 : lw_okq (⟨"PolicySolverModel", "isPolicy", "(I)Z"⟩, 5) := ⟨⟨by decide +kernel, by decide +kernel⟩, lw_t1 (List.mem_of_getElem? (i := 149) rfl), lw_t1 (List.mem_of_getElem? (i := 188) rfl), lw_t1 (List.mem_of_getElem? (i := 189) rfl)⟩
theorem lw_p15 : lw_okq (⟨"PolicySolverModel", "isState", "(I)Z"⟩, 5) := ⟨⟨by decide +kernel, by decide +kernel⟩, lw_t1 (List.mem_of_getElem? (i := 149) rfl), lw_t1 (List.mem_of_getElem? (i := 192) rfl), lw_t1 (List.mem_of_getElem? (i := 193) rfl)⟩
def lw_privs_1 : List (MethodName × Nat) := [(⟨"PolicySolver", "isState", "(I)Z"⟩, 12), (⟨"PolicySolver", "isPolicy", "(I)Z"⟩, 12), (⟨"PolicySolver", "evaluate", "(I)V"⟩, 12), (⟨"PolicySolver", "fillRows", "(I)V"⟩, 12), (⟨"PolicySolver", "reduce", "(IIJ)V"⟩, 12), (⟨"PolicySolver", "lowestTop", "(JJ)I"⟩, 12), (⟨"PolicySolver", "commonDivisor", "(JJ)J"⟩, 12), (⟨"PolicySolver", "lowestBottom", "(JJ)I"⟩, 12), (⟨"PolicySolver", "solve", "()V"⟩, 12), (⟨"PolicySolver", "improve", "()Z"⟩, 12), (⟨"PolicySolver", "gainOf", "(II)J"⟩, 12), (⟨"PolicySolver", "copyAction", "(III)Z"⟩, 12), (⟨"PolicySolver", "keepValues", "()V"⟩, 12), (⟨"PolicySolverModel", "isAction", "(II)Z"⟩, 5), (⟨"PolicySolverModel", "isPolicy", "(I)Z"⟩, 5), (⟨"PolicySolverModel", "isState", "(I)Z"⟩, 5)]
theorem lw_r1 : ∀ q ∈ lw_privs_1, lw_okq q := List.forall_mem_cons.mpr ⟨lw_p0, List.forall_mem_cons.mpr ⟨lw_p1, List.forall_mem_cons.mpr ⟨lw_p2, List.forall_mem_cons.mpr ⟨lw_p3, List.forall_mem_cons.mpr ⟨lw_p4, List.forall_mem_cons.mpr ⟨lw_p5, List.forall_mem_cons.mpr ⟨lw_p6, List.forall_mem_cons.mpr ⟨lw_p7, List.forall_mem_cons.mpr ⟨lw_p8, List.forall_mem_cons.mpr ⟨lw_p9, List.forall_mem_cons.mpr ⟨lw_p10, List.forall_mem_cons.mpr ⟨lw_p11, List.forall_mem_cons.mpr ⟨lw_p12, List.forall_mem_cons.mpr ⟨lw_p13, List.forall_mem_cons.mpr ⟨lw_p14, List.forall_mem_cons.mpr ⟨lw_p15, fun _ h => absurd h List.not_mem_nil⟩⟩⟩⟩⟩⟩⟩⟩⟩⟩⟩⟩⟩⟩⟩⟩
theorem lw_p16 : lw_okq (⟨"PolicySolverModel", "solve", "()V"⟩, 5) := ⟨⟨by decide +kernel, by decide +kernel⟩, lw_t1 (List.mem_of_getElem? (i := 149) rfl), lw_t1 (List.mem_of_getElem? (i := 197) rfl), lw_t1 (List.mem_of_getElem? (i := 198) rfl)⟩
theorem lw_p17 : lw_okq (⟨"PolicySolverModel", "write", "(I)V"⟩, 5) := ⟨⟨by decide +kernel, by decide +kernel⟩, lw_t1 (List.mem_of_getElem? (i := 149) rfl), lw_t1 (List.mem_of_getElem? (i := 201) rfl), lw_t1 (List.mem_of_getElem? (i := 202) rfl)⟩
theorem lw_p18 : lw_okq (⟨"PolicySolverModel", "determinant", "(I)J"⟩, 5) := ⟨⟨by decide +kernel, by decide +kernel⟩, lw_t1 (List.mem_of_getElem? (i := 149) rfl), lw_t1 (List.mem_of_getElem? (i := 206) rfl), lw_t1 (List.mem_of_getElem? (i := 207) rfl)⟩
theorem lw_p19 : lw_okq (⟨"PolicySolverModel", "at", "(III)J"⟩, 5) := ⟨⟨by decide +kernel, by decide +kernel⟩, lw_t1 (List.mem_of_getElem? (i := 149) rfl), lw_t1 (List.mem_of_getElem? (i := 210) rfl), lw_t1 (List.mem_of_getElem? (i := 211) rfl)⟩
theorem lw_p20 : lw_okq (⟨"PolicySolverModel", "minor", "(II)J"⟩, 5) := ⟨⟨by decide +kernel, by decide +kernel⟩, lw_t1 (List.mem_of_getElem? (i := 149) rfl), lw_t1 (List.mem_of_getElem? (i := 214) rfl), lw_t1 (List.mem_of_getElem? (i := 215) rfl)⟩
theorem lw_p21 : lw_okq (⟨"PolicySolverModel", "common", "(I)J"⟩, 5) := ⟨⟨by decide +kernel, by decide +kernel⟩, lw_t1 (List.mem_of_getElem? (i := 149) rfl), lw_t1 (List.mem_of_getElem? (i := 218) rfl), lw_t1 (List.mem_of_getElem? (i := 219) rfl)⟩
theorem lw_p22 : lw_okq (⟨"PolicySolverModel", "firstBest", "()I"⟩, 5) := ⟨⟨by decide +kernel, by decide +kernel⟩, lw_t1 (List.mem_of_getElem? (i := 149) rfl), lw_t1 (List.mem_of_getElem? (i := 230) rfl), lw_t1 (List.mem_of_getElem? (i := 231) rfl)⟩
theorem lw_p23 : lw_okq (⟨"PolicySolverModel", "isBest", "(I)Z"⟩, 5) := ⟨⟨by decide +kernel, by decide +kernel⟩, lw_t1 (List.mem_of_getElem? (i := 149) rfl), lw_t1 (List.mem_of_getElem? (i := 234) rfl), lw_t1 (List.mem_of_getElem? (i := 235) rfl)⟩
theorem lw_p24 : lw_okq (⟨"PolicySolverModel", "order", "(III)I"⟩, 5) := ⟨⟨by decide +kernel, by decide +kernel⟩, lw_t1 (List.mem_of_getElem? (i := 149) rfl), lw_t1 (List.mem_of_getElem? (i := 238) rfl), lw_t1 (List.mem_of_getElem? (i := 239) rfl)⟩
theorem lw_p25 : lw_okq (⟨"PolicySolverModel", "copy", "(II)V"⟩, 5) := ⟨⟨by decide +kernel, by decide +kernel⟩, lw_t1 (List.mem_of_getElem? (i := 149) rfl), lw_t2 (List.mem_of_getElem? (i := 25) rfl), lw_t2 (List.mem_of_getElem? (i := 26) rfl)⟩
def lw_privs_2 : List (MethodName × Nat) := [(⟨"PolicySolverModel", "solve", "()V"⟩, 5), (⟨"PolicySolverModel", "write", "(I)V"⟩, 5), (⟨"PolicySolverModel", "determinant", "(I)J"⟩, 5), (⟨"PolicySolverModel", "at", "(III)J"⟩, 5), (⟨"PolicySolverModel", "minor", "(II)J"⟩, 5), (⟨"PolicySolverModel", "common", "(I)J"⟩, 5), (⟨"PolicySolverModel", "firstBest", "()I"⟩, 5), (⟨"PolicySolverModel", "isBest", "(I)Z"⟩, 5), (⟨"PolicySolverModel", "order", "(III)I"⟩, 5), (⟨"PolicySolverModel", "copy", "(II)V"⟩, 5)]
theorem lw_r2 : ∀ q ∈ lw_privs_2, lw_okq q := List.forall_mem_cons.mpr ⟨lw_p16, List.forall_mem_cons.mpr ⟨lw_p17, List.forall_mem_cons.mpr ⟨lw_p18, List.forall_mem_cons.mpr ⟨lw_p19, List.forall_mem_cons.mpr ⟨lw_p20, List.forall_mem_cons.mpr ⟨lw_p21, List.forall_mem_cons.mpr ⟨lw_p22, List.forall_mem_cons.mpr ⟨lw_p23, List.forall_mem_cons.mpr ⟨lw_p24, List.forall_mem_cons.mpr ⟨lw_p25, fun _ h => absurd h List.not_mem_nil⟩⟩⟩⟩⟩⟩⟩⟩⟩⟩
def lw_privs : List (MethodName × Nat) := lw_privs_1 ++ (lw_privs_2)
def lw_tbl : List Cond := k2_sels lw_privs ++ tables_1
theorem lw_privs_ok : ∀ q ∈ lw_privs, lw_okq q := by
  show ∀ q ∈ lw_privs_1 ++ (lw_privs_2), lw_okq q
  exact List.forall_mem_append.mpr ⟨lw_r1, lw_r2⟩
-- ===== ONE list of words for every method: the tables' words that hold all through a run =====
def lw_all : List Cond := lw_tbl.filter goodWord
/-- a word of the tables by its place: claim/WORDS.tsv -/
theorem lw_w {w : Cond} (i : Nat) (h : lw_tbl[i]? = some w) (g : goodWord w = true) : w ∈ lw_all := List.mem_filter.mpr ⟨List.mem_of_getElem? h, g⟩
theorem lw_all_tbl {w : Cond} (h : w ∈ lw_all) : w ∈ lw_tbl := (List.mem_filter.mp h).1
theorem lw_self : GoodIn lw_all lw_all := fun w h => ⟨h, good_of_word (List.mem_filter.mp h).2⟩
/-- a class's field words, by their places -/
theorem lw_in (ws : List Cond) (ps : List Nat) (hp : ws = ps.filterMap (fun i => lw_tbl[i]?)) (hg : ws.all goodWord = true) : ∀ w ∈ ws, w ∈ lw_all := by
  intro w h
  have h1 := List.all_eq_true.mp hg w h
  rw [hp] at h
  obtain ⟨i, -, hi⟩ := List.mem_filterMap.mp h
  exact lw_w i hi h1
/-- the words of a contract for the method y with code b, L locals, answer r -/
abbrev ws_ (y : MethodName) (b : ByteArray) (L : Nat) (r : Option FieldType) : List Cond := Cond.code y b L r :: lw_all
theorem lw_meth {y : MethodName} {b : ByteArray} {L : Nat} {r : Option FieldType} (h : Cond.code y b L r ∈ lw_all) : GoodIn lw_all (ws_ y b L r) := by
  intro w hw
  rcases List.mem_cons.mp hw with e | e
  · rw [e]
    exact lw_self _ h
  · exact lw_self _ e
theorem lw_app {a c : List Cond} (ha : ∀ w ∈ a, w ∈ lw_all) (hc : GoodIn lw_all c) : GoodIn lw_all (a ++ c) := by
  intro w hw
  rcases List.mem_append.mp hw with e | e
  · exact lw_self w (ha w e)
  · exact hc w e
/-- what a call through an object asks: cwV n hts (lw_V ..) -/
theorem lw_V {own : String} {idx : Nat} {C : String} {y : MethodName} {b : ByteArray} {L : Nat} {r : Option FieldType} (h1 : Cond.methodLink own idx y ∈ lw_all) (h2 : Cond.instanceMethod y ∈ lw_all) (h3 : Cond.selects C y y ∈ lw_all) (h4 : Cond.initialized C ∈ lw_all) (h5 : Cond.code y b L r ∈ lw_all) : GoodIn lw_all (wsV own idx C y (ws_ y b L r)) := by
  refine lw_app ?_ (lw_meth h5)
  intro w hw
  simp only [List.mem_cons, List.not_mem_nil, or_false] at hw
  rcases hw with e | e | e | e
  · rw [e]; exact h1
  · rw [e]; exact h2
  · rw [e]; exact h3
  · rw [e]; exact h4
/-- what a static call asks: va_cwS n hts (lw_S ..) -/
theorem lw_S {own : String} {idx : Nat} {y : MethodName} {b : ByteArray} {L : Nat} {r : Option FieldType} (h1 : Cond.methodLink own idx y ∈ lw_all) (h2 : Cond.static y ∈ lw_all) (h3 : Cond.initialized y.cls ∈ lw_all) (h4 : Cond.code y b L r ∈ lw_all) : GoodIn lw_all (va_wsS own idx y (ws_ y b L r)) := by
  refine lw_app ?_ (lw_meth h4)
  intro w hw
  simp only [List.mem_cons, List.not_mem_nil, or_false] at hw
  rcases hw with e | e | e
  · rw [e]; exact h1
  · rw [e]; exact h2
  · rw [e]; exact h3
/-- the words of a contract for a method WITH HANDLERS (hh: its table) -/
abbrev wsW_ (y : MethodName) (b : ByteArray) (L : Nat) (r : Option FieldType) (hh : List (Nat × Nat × Nat × Nat)) : List Cond := Cond.codeWith y b L r hh :: lw_all
theorem lw_methW {y : MethodName} {b : ByteArray} {L : Nat} {r : Option FieldType} {hh : List (Nat × Nat × Nat × Nat)} (h : Cond.codeWith y b L r hh ∈ lw_all) : GoodIn lw_all (wsW_ y b L r hh) := by
  intro w hw
  rcases List.mem_cons.mp hw with e | e
  · rw [e]
    exact lw_self _ h
  · exact lw_self _ e
/-- any list of words by their places (lw_in), good -/
theorem lw_good {ws : List Cond} (h : ∀ w ∈ ws, w ∈ lw_all) : GoodIn lw_all ws := fun w hw => lw_self w (h w hw)
/-- what a call of a method with handlers asks: vx_cwVW n hts (lw_VW ..), vx_cwSW n hts (lw_SW ..) -/
theorem lw_VW {own : String} {idx : Nat} {C : String} {y : MethodName} {b : ByteArray} {L : Nat} {r : Option FieldType} {hh : List (Nat × Nat × Nat × Nat)} (h1 : Cond.methodLink own idx y ∈ lw_all) (h2 : Cond.instanceMethod y ∈ lw_all) (h3 : Cond.selects C y y ∈ lw_all) (h4 : Cond.initialized C ∈ lw_all) (h5 : Cond.codeWith y b L r hh ∈ lw_all) : GoodIn lw_all (wsV own idx C y (wsW_ y b L r hh)) := by
  refine lw_app ?_ (lw_methW h5)
  intro w hw
  simp only [List.mem_cons, List.not_mem_nil, or_false] at hw
  rcases hw with e | e | e | e
  · rw [e]; exact h1
  · rw [e]; exact h2
  · rw [e]; exact h3
  · rw [e]; exact h4
theorem lw_SW {own : String} {idx : Nat} {y : MethodName} {b : ByteArray} {L : Nat} {r : Option FieldType} {hh : List (Nat × Nat × Nat × Nat)} (h1 : Cond.methodLink own idx y ∈ lw_all) (h2 : Cond.static y ∈ lw_all) (h3 : Cond.initialized y.cls ∈ lw_all) (h4 : Cond.codeWith y b L r hh ∈ lw_all) : GoodIn lw_all (va_wsS own idx y (wsW_ y b L r hh)) := by
  refine lw_app ?_ (lw_methW h4)
  intro w hw
  simp only [List.mem_cons, List.not_mem_nil, or_false] at hw
  rcases hw with e | e | e
  · rw [e]; exact h1
  · rw [e]; exact h2
  · rw [e]; exact h3
/-- a word by its place in its run of the tables -/
theorem lw_at {r : List Cond} (hr : ∀ w ∈ r, w ∈ lw_tbl) {w : Cond} (i : Nat) (h : r[i]? = some w) : w ∈ lw_tbl := hr w (List.mem_of_getElem? h)
theorem lw_g {w : Cond} (h : w ∈ lw_tbl) (g : goodWord w = true) : w ∈ lw_all := List.mem_filter.mpr ⟨h, g⟩
theorem lw_ms : ∀ w ∈ k2_sels lw_privs, w ∈ lw_tbl := fun w h => show w ∈ k2_sels lw_privs ++ tables_1 from List.mem_append_left _ h
theorem lw_m1 : ∀ w ∈ tables_1_1, w ∈ lw_tbl := fun w h => show w ∈ k2_sels lw_privs ++ tables_1 from List.mem_append_right (k2_sels lw_privs) (show w ∈ tables_1 from List.mem_append_left _ h)
theorem lw_m2 : ∀ w ∈ tables_1_2, w ∈ lw_tbl := fun w h => show w ∈ k2_sels lw_privs ++ tables_1 from List.mem_append_right (k2_sels lw_privs) (show w ∈ tables_1 from List.mem_append_right _ h)
theorem qs0 : (Cond.selects "PolicySolver" ⟨"PolicySolver", "isState", "(I)Z"⟩ ⟨"PolicySolver", "isState", "(I)Z"⟩) ∈ lw_all := lw_g (lw_at lw_ms 0 rfl) rfl
theorem qs1 : (Cond.selects "PolicySolver" ⟨"PolicySolver", "isPolicy", "(I)Z"⟩ ⟨"PolicySolver", "isPolicy", "(I)Z"⟩) ∈ lw_all := lw_g (lw_at lw_ms 1 rfl) rfl
theorem qs2 : (Cond.selects "PolicySolver" ⟨"PolicySolver", "evaluate", "(I)V"⟩ ⟨"PolicySolver", "evaluate", "(I)V"⟩) ∈ lw_all := lw_g (lw_at lw_ms 2 rfl) rfl
theorem qs3 : (Cond.selects "PolicySolver" ⟨"PolicySolver", "fillRows", "(I)V"⟩ ⟨"PolicySolver", "fillRows", "(I)V"⟩) ∈ lw_all := lw_g (lw_at lw_ms 3 rfl) rfl
theorem qs4 : (Cond.selects "PolicySolver" ⟨"PolicySolver", "reduce", "(IIJ)V"⟩ ⟨"PolicySolver", "reduce", "(IIJ)V"⟩) ∈ lw_all := lw_g (lw_at lw_ms 4 rfl) rfl
theorem qs5 : (Cond.selects "PolicySolver" ⟨"PolicySolver", "lowestTop", "(JJ)I"⟩ ⟨"PolicySolver", "lowestTop", "(JJ)I"⟩) ∈ lw_all := lw_g (lw_at lw_ms 5 rfl) rfl
theorem qs6 : (Cond.selects "PolicySolver" ⟨"PolicySolver", "commonDivisor", "(JJ)J"⟩ ⟨"PolicySolver", "commonDivisor", "(JJ)J"⟩) ∈ lw_all := lw_g (lw_at lw_ms 6 rfl) rfl
theorem qs7 : (Cond.selects "PolicySolver" ⟨"PolicySolver", "lowestBottom", "(JJ)I"⟩ ⟨"PolicySolver", "lowestBottom", "(JJ)I"⟩) ∈ lw_all := lw_g (lw_at lw_ms 7 rfl) rfl
theorem qs8 : (Cond.selects "PolicySolver" ⟨"PolicySolver", "solve", "()V"⟩ ⟨"PolicySolver", "solve", "()V"⟩) ∈ lw_all := lw_g (lw_at lw_ms 8 rfl) rfl
theorem qs9 : (Cond.selects "PolicySolver" ⟨"PolicySolver", "improve", "()Z"⟩ ⟨"PolicySolver", "improve", "()Z"⟩) ∈ lw_all := lw_g (lw_at lw_ms 9 rfl) rfl
theorem qs10 : (Cond.selects "PolicySolver" ⟨"PolicySolver", "gainOf", "(II)J"⟩ ⟨"PolicySolver", "gainOf", "(II)J"⟩) ∈ lw_all := lw_g (lw_at lw_ms 10 rfl) rfl
theorem qs11 : (Cond.selects "PolicySolver" ⟨"PolicySolver", "copyAction", "(III)Z"⟩ ⟨"PolicySolver", "copyAction", "(III)Z"⟩) ∈ lw_all := lw_g (lw_at lw_ms 11 rfl) rfl
theorem qs12 : (Cond.selects "PolicySolver" ⟨"PolicySolver", "keepValues", "()V"⟩ ⟨"PolicySolver", "keepValues", "()V"⟩) ∈ lw_all := lw_g (lw_at lw_ms 12 rfl) rfl
theorem qs13 : (Cond.selects "PolicySolverModel" ⟨"PolicySolverModel", "isAction", "(II)Z"⟩ ⟨"PolicySolverModel", "isAction", "(II)Z"⟩) ∈ lw_all := lw_g (lw_at lw_ms 13 rfl) rfl
theorem qs14 : (Cond.selects "PolicySolverModel" ⟨"PolicySolverModel", "isPolicy", "(I)Z"⟩ ⟨"PolicySolverModel", "isPolicy", "(I)Z"⟩) ∈ lw_all := lw_g (lw_at lw_ms 14 rfl) rfl
theorem qs15 : (Cond.selects "PolicySolverModel" ⟨"PolicySolverModel", "isState", "(I)Z"⟩ ⟨"PolicySolverModel", "isState", "(I)Z"⟩) ∈ lw_all := lw_g (lw_at lw_ms 15 rfl) rfl
theorem qs16 : (Cond.selects "PolicySolverModel" ⟨"PolicySolverModel", "solve", "()V"⟩ ⟨"PolicySolverModel", "solve", "()V"⟩) ∈ lw_all := lw_g (lw_at lw_ms 16 rfl) rfl
theorem qs17 : (Cond.selects "PolicySolverModel" ⟨"PolicySolverModel", "write", "(I)V"⟩ ⟨"PolicySolverModel", "write", "(I)V"⟩) ∈ lw_all := lw_g (lw_at lw_ms 17 rfl) rfl
theorem qs18 : (Cond.selects "PolicySolverModel" ⟨"PolicySolverModel", "determinant", "(I)J"⟩ ⟨"PolicySolverModel", "determinant", "(I)J"⟩) ∈ lw_all := lw_g (lw_at lw_ms 18 rfl) rfl
theorem qs19 : (Cond.selects "PolicySolverModel" ⟨"PolicySolverModel", "at", "(III)J"⟩ ⟨"PolicySolverModel", "at", "(III)J"⟩) ∈ lw_all := lw_g (lw_at lw_ms 19 rfl) rfl
theorem qs20 : (Cond.selects "PolicySolverModel" ⟨"PolicySolverModel", "minor", "(II)J"⟩ ⟨"PolicySolverModel", "minor", "(II)J"⟩) ∈ lw_all := lw_g (lw_at lw_ms 20 rfl) rfl
theorem qs21 : (Cond.selects "PolicySolverModel" ⟨"PolicySolverModel", "common", "(I)J"⟩ ⟨"PolicySolverModel", "common", "(I)J"⟩) ∈ lw_all := lw_g (lw_at lw_ms 21 rfl) rfl
theorem qs22 : (Cond.selects "PolicySolverModel" ⟨"PolicySolverModel", "firstBest", "()I"⟩ ⟨"PolicySolverModel", "firstBest", "()I"⟩) ∈ lw_all := lw_g (lw_at lw_ms 22 rfl) rfl
theorem qs23 : (Cond.selects "PolicySolverModel" ⟨"PolicySolverModel", "isBest", "(I)Z"⟩ ⟨"PolicySolverModel", "isBest", "(I)Z"⟩) ∈ lw_all := lw_g (lw_at lw_ms 23 rfl) rfl
theorem qs24 : (Cond.selects "PolicySolverModel" ⟨"PolicySolverModel", "order", "(III)I"⟩ ⟨"PolicySolverModel", "order", "(III)I"⟩) ∈ lw_all := lw_g (lw_at lw_ms 24 rfl) rfl
theorem qs25 : (Cond.selects "PolicySolverModel" ⟨"PolicySolverModel", "copy", "(II)V"⟩ ⟨"PolicySolverModel", "copy", "(II)V"⟩) ∈ lw_all := lw_g (lw_at lw_ms 25 rfl) rfl
end
section
/-! PolicySolver -/
set_option maxRecDepth 100000
def RX0 : String := "PolicySolver"
def TX0 : u_T := fun k => match k with
  | 0 => ("PolicySolver", "rewards", "[B", true)
  | 1 => ("PolicySolver", "shareOf", "[B", true)
  | 2 => ("PolicySolver", "rows", "[J", true)
  | 3 => ("PolicySolver", "tops", "[J", true)
  | 4 => ("PolicySolver", "bottom", "J", false)
  | 5 => ("PolicySolver", "keptTops", "[J", true)
  | 6 => ("PolicySolver", "keptBottom", "J", false)
  | 7 => ("PolicySolver", "solved", "Z", false)
  | 8 => ("PolicySolver", "bestPolicy", "I", false)
  | 9 => ("PolicySolver", "bestTops", "[J", true)
  | 10 => ("PolicySolver", "bestDenominator", "J", false)
  | _ => ("PolicySolver", "goodActions", "[B", true)
def tyX0 : Nat → FieldType := fun k => match k with
  | 0 => .array .byte
  | 1 => .array .byte
  | 2 => .array .long
  | 3 => .array .long
  | 4 => .long
  | 5 => .array .long
  | 6 => .long
  | 7 => .boolean
  | 8 => .int
  | 9 => .array .long
  | 10 => .long
  | _ => .array .byte
abbrev wsX00 : List Cond := u_ws RX0 TX0 12
theorem nmX0 : ∀ a, a < 12 → ∀ b, b < 12 → a ≠ b → (TX0 a).2.1 ≠ (TX0 b).2.1 := by decide +kernel
theorem tyX0_ok : ∀ k, k < 12 → parseFieldDescriptor (TX0 k).2.2.1 = some (tyX0 k) := by decide +kernel
abbrev cX0_init : ByteArray := prog_1_method_1_code
def yX0_init : MethodName := ⟨RX0, "<init>", "()V"⟩
theorem dX0_init_0 : decode cX0_init 0 = .ok (.aload_n 0, 1) := by decide +kernel
theorem dX0_init_1 : decode cX0_init 1 = .ok (.invokespecial 1, 3) := by decide +kernel
theorem dX0_init_4 : decode cX0_init 4 = .ok (.aload_n 0, 1) := by decide +kernel
theorem dX0_init_5 : decode cX0_init 5 = .ok (.bipush 8, 2) := by decide +kernel
theorem dX0_init_7 : decode cX0_init 7 = .ok (.newarray .byte, 2) := by decide +kernel
theorem dX0_init_9 : decode cX0_init 9 = .ok (.putfield 7, 3) := by decide +kernel
theorem dX0_init_12 : decode cX0_init 12 = .ok (.aload_n 0, 1) := by decide +kernel
theorem dX0_init_13 : decode cX0_init 13 = .ok (.bipush 32, 2) := by decide +kernel
theorem dX0_init_15 : decode cX0_init 15 = .ok (.newarray .byte, 2) := by decide +kernel
theorem dX0_init_17 : decode cX0_init 17 = .ok (.putfield 13, 3) := by decide +kernel
theorem dX0_init_20 : decode cX0_init 20 = .ok (.aload_n 0, 1) := by decide +kernel
theorem dX0_init_21 : decode cX0_init 21 = .ok (.bipush 20, 2) := by decide +kernel
theorem dX0_init_23 : decode cX0_init 23 = .ok (.newarray .long, 2) := by decide +kernel
theorem dX0_init_25 : decode cX0_init 25 = .ok (.putfield 16, 3) := by decide +kernel
theorem dX0_init_28 : decode cX0_init 28 = .ok (.aload_n 0, 1) := by decide +kernel
theorem dX0_init_29 : decode cX0_init 29 = .ok (.iconst 4, 1) := by decide +kernel
theorem dX0_init_30 : decode cX0_init 30 = .ok (.newarray .long, 2) := by decide +kernel
theorem dX0_init_32 : decode cX0_init 32 = .ok (.putfield 20, 3) := by decide +kernel
theorem dX0_init_35 : decode cX0_init 35 = .ok (.aload_n 0, 1) := by decide +kernel
theorem dX0_init_36 : decode cX0_init 36 = .ok (.iconst 4, 1) := by decide +kernel
theorem dX0_init_37 : decode cX0_init 37 = .ok (.newarray .long, 2) := by decide +kernel
theorem dX0_init_39 : decode cX0_init 39 = .ok (.putfield 23, 3) := by decide +kernel
theorem dX0_init_42 : decode cX0_init 42 = .ok (.aload_n 0, 1) := by decide +kernel
theorem dX0_init_43 : decode cX0_init 43 = .ok (.iconst 4, 1) := by decide +kernel
theorem dX0_init_44 : decode cX0_init 44 = .ok (.newarray .long, 2) := by decide +kernel
theorem dX0_init_46 : decode cX0_init 46 = .ok (.putfield 26, 3) := by decide +kernel
theorem dX0_init_49 : decode cX0_init 49 = .ok (.aload_n 0, 1) := by decide +kernel
theorem dX0_init_50 : decode cX0_init 50 = .ok (.iconst 4, 1) := by decide +kernel
theorem dX0_init_51 : decode cX0_init 51 = .ok (.newarray .byte, 2) := by decide +kernel
theorem dX0_init_53 : decode cX0_init 53 = .ok (.putfield 29, 3) := by decide +kernel
theorem dX0_init_56 : decode cX0_init 56 = .ok (.iconst 0, 1) := by decide +kernel
theorem dX0_init_57 : decode cX0_init 57 = .ok (.istore_n 1, 1) := by decide +kernel
theorem dX0_init_58 : decode cX0_init 58 = .ok (.iload_n 1, 1) := by decide +kernel
theorem dX0_init_59 : decode cX0_init 59 = .ok (.iconst 4, 1) := by decide +kernel
theorem dX0_init_60 : decode cX0_init 60 = .ok (.if_icmp .ge 37, 3) := by decide +kernel
theorem dX0_init_63 : decode cX0_init 63 = .ok (.iconst 0, 1) := by decide +kernel
theorem dX0_init_64 : decode cX0_init 64 = .ok (.istore_n 2, 1) := by decide +kernel
theorem dX0_init_65 : decode cX0_init 65 = .ok (.iload_n 2, 1) := by decide +kernel
theorem dX0_init_66 : decode cX0_init 66 = .ok (.iconst 2, 1) := by decide +kernel
theorem dX0_init_67 : decode cX0_init 67 = .ok (.if_icmp .ge 24, 3) := by decide +kernel
theorem dX0_init_70 : decode cX0_init 70 = .ok (.aload_n 0, 1) := by decide +kernel
theorem dX0_init_71 : decode cX0_init 71 = .ok (.getfield 13, 3) := by decide +kernel
theorem dX0_init_74 : decode cX0_init 74 = .ok (.iconst 4, 1) := by decide +kernel
theorem dX0_init_75 : decode cX0_init 75 = .ok (.iconst 2, 1) := by decide +kernel
theorem dX0_init_76 : decode cX0_init 76 = .ok (.iload_n 1, 1) := by decide +kernel
theorem dX0_init_77 : decode cX0_init 77 = .ok (.imul, 1) := by decide +kernel
theorem dX0_init_78 : decode cX0_init 78 = .ok (.iload_n 2, 1) := by decide +kernel
theorem dX0_init_79 : decode cX0_init 79 = .ok (.iadd, 1) := by decide +kernel
theorem dX0_init_80 : decode cX0_init 80 = .ok (.imul, 1) := by decide +kernel
theorem dX0_init_81 : decode cX0_init 81 = .ok (.iload_n 1, 1) := by decide +kernel
theorem dX0_init_82 : decode cX0_init 82 = .ok (.iadd, 1) := by decide +kernel
theorem dX0_init_83 : decode cX0_init 83 = .ok (.iconst 4, 1) := by decide +kernel
theorem dX0_init_84 : decode cX0_init 84 = .ok (.bastore, 1) := by decide +kernel
theorem dX0_init_85 : decode cX0_init 85 = .ok (.iinc 2 1, 3) := by decide +kernel
theorem dX0_init_88 : decode cX0_init 88 = .ok (.goto (-23), 3) := by decide +kernel
theorem dX0_init_91 : decode cX0_init 91 = .ok (.iinc 1 1, 3) := by decide +kernel
theorem dX0_init_94 : decode cX0_init 94 = .ok (.goto (-36), 3) := by decide +kernel
theorem dX0_init_97 : decode cX0_init 97 = .ok (.return_, 1) := by decide +kernel
abbrev cX0_reward : ByteArray := prog_1_method_2_code
def yX0_reward : MethodName := ⟨RX0, "reward", "(III)Z"⟩
theorem dX0_reward_0 : decode cX0_reward 0 = .ok (.aload_n 0, 1) := by decide +kernel
theorem dX0_reward_1 : decode cX0_reward 1 = .ok (.iload_n 1, 1) := by decide +kernel
theorem dX0_reward_2 : decode cX0_reward 2 = .ok (.invokevirtual 32, 3) := by decide +kernel
theorem dX0_reward_5 : decode cX0_reward 5 = .ok (.ifCond .eq 24, 3) := by decide +kernel
theorem dX0_reward_8 : decode cX0_reward 8 = .ok (.iload_n 2, 1) := by decide +kernel
theorem dX0_reward_9 : decode cX0_reward 9 = .ok (.ifCond .lt 20, 3) := by decide +kernel
theorem dX0_reward_12 : decode cX0_reward 12 = .ok (.iload_n 2, 1) := by decide +kernel
theorem dX0_reward_13 : decode cX0_reward 13 = .ok (.iconst 1, 1) := by decide +kernel
theorem dX0_reward_14 : decode cX0_reward 14 = .ok (.if_icmp .gt 15, 3) := by decide +kernel
theorem dX0_reward_17 : decode cX0_reward 17 = .ok (.iload_n 3, 1) := by decide +kernel
theorem dX0_reward_18 : decode cX0_reward 18 = .ok (.bipush (-20), 2) := by decide +kernel
theorem dX0_reward_20 : decode cX0_reward 20 = .ok (.if_icmp .lt 9, 3) := by decide +kernel
theorem dX0_reward_23 : decode cX0_reward 23 = .ok (.iload_n 3, 1) := by decide +kernel
theorem dX0_reward_24 : decode cX0_reward 24 = .ok (.bipush 20, 2) := by decide +kernel
theorem dX0_reward_26 : decode cX0_reward 26 = .ok (.if_icmp .le 5, 3) := by decide +kernel
theorem dX0_reward_29 : decode cX0_reward 29 = .ok (.iconst 0, 1) := by decide +kernel
theorem dX0_reward_30 : decode cX0_reward 30 = .ok (.ireturn, 1) := by decide +kernel
theorem dX0_reward_31 : decode cX0_reward 31 = .ok (.aload_n 0, 1) := by decide +kernel
theorem dX0_reward_32 : decode cX0_reward 32 = .ok (.getfield 7, 3) := by decide +kernel
theorem dX0_reward_35 : decode cX0_reward 35 = .ok (.iconst 2, 1) := by decide +kernel
theorem dX0_reward_36 : decode cX0_reward 36 = .ok (.iload_n 1, 1) := by decide +kernel
theorem dX0_reward_37 : decode cX0_reward 37 = .ok (.imul, 1) := by decide +kernel
theorem dX0_reward_38 : decode cX0_reward 38 = .ok (.iload_n 2, 1) := by decide +kernel
theorem dX0_reward_39 : decode cX0_reward 39 = .ok (.iadd, 1) := by decide +kernel
theorem dX0_reward_40 : decode cX0_reward 40 = .ok (.iload_n 3, 1) := by decide +kernel
theorem dX0_reward_41 : decode cX0_reward 41 = .ok (.i2b, 1) := by decide +kernel
theorem dX0_reward_42 : decode cX0_reward 42 = .ok (.bastore, 1) := by decide +kernel
theorem dX0_reward_43 : decode cX0_reward 43 = .ok (.aload_n 0, 1) := by decide +kernel
theorem dX0_reward_44 : decode cX0_reward 44 = .ok (.iconst 0, 1) := by decide +kernel
theorem dX0_reward_45 : decode cX0_reward 45 = .ok (.putfield 36, 3) := by decide +kernel
theorem dX0_reward_48 : decode cX0_reward 48 = .ok (.iconst 1, 1) := by decide +kernel
theorem dX0_reward_49 : decode cX0_reward 49 = .ok (.ireturn, 1) := by decide +kernel
abbrev cX0_isState : ByteArray := prog_1_method_4_code
def yX0_isState : MethodName := ⟨RX0, "isState", "(I)Z"⟩
theorem dX0_isState_0 : decode cX0_isState 0 = .ok (.iload_n 1, 1) := by decide +kernel
theorem dX0_isState_1 : decode cX0_isState 1 = .ok (.ifCond .lt 12, 3) := by decide +kernel
theorem dX0_isState_4 : decode cX0_isState 4 = .ok (.iload_n 1, 1) := by decide +kernel
theorem dX0_isState_5 : decode cX0_isState 5 = .ok (.iconst 4, 1) := by decide +kernel
theorem dX0_isState_6 : decode cX0_isState 6 = .ok (.if_icmp .ge 7, 3) := by decide +kernel
theorem dX0_isState_9 : decode cX0_isState 9 = .ok (.iconst 1, 1) := by decide +kernel
theorem dX0_isState_10 : decode cX0_isState 10 = .ok (.goto 4, 3) := by decide +kernel
theorem dX0_isState_13 : decode cX0_isState 13 = .ok (.iconst 0, 1) := by decide +kernel
theorem dX0_isState_14 : decode cX0_isState 14 = .ok (.ireturn, 1) := by decide +kernel
abbrev cX0_shares : ByteArray := prog_1_method_3_code
def yX0_shares : MethodName := ⟨RX0, "shares", "(III)Z"⟩
theorem dX0_shares_0 : decode cX0_shares 0 = .ok (.aload_n 0, 1) := by decide +kernel
theorem dX0_shares_1 : decode cX0_shares 1 = .ok (.iload_n 1, 1) := by decide +kernel
theorem dX0_shares_2 : decode cX0_shares 2 = .ok (.invokevirtual 32, 3) := by decide +kernel
theorem dX0_shares_5 : decode cX0_shares 5 = .ok (.ifCond .eq 23, 3) := by decide +kernel
theorem dX0_shares_8 : decode cX0_shares 8 = .ok (.iload_n 2, 1) := by decide +kernel
theorem dX0_shares_9 : decode cX0_shares 9 = .ok (.ifCond .lt 19, 3) := by decide +kernel
theorem dX0_shares_12 : decode cX0_shares 12 = .ok (.iload_n 2, 1) := by decide +kernel
theorem dX0_shares_13 : decode cX0_shares 13 = .ok (.iconst 1, 1) := by decide +kernel
theorem dX0_shares_14 : decode cX0_shares 14 = .ok (.if_icmp .gt 14, 3) := by decide +kernel
theorem dX0_shares_17 : decode cX0_shares 17 = .ok (.iload_n 3, 1) := by decide +kernel
theorem dX0_shares_18 : decode cX0_shares 18 = .ok (.ifCond .lt 10, 3) := by decide +kernel
theorem dX0_shares_21 : decode cX0_shares 21 = .ok (.iload_n 3, 1) := by decide +kernel
theorem dX0_shares_22 : decode cX0_shares 22 = .ok (.sipush 624, 3) := by decide +kernel
theorem dX0_shares_25 : decode cX0_shares 25 = .ok (.if_icmp .le 5, 3) := by decide +kernel
theorem dX0_shares_28 : decode cX0_shares 28 = .ok (.iconst 0, 1) := by decide +kernel
theorem dX0_shares_29 : decode cX0_shares 29 = .ok (.ireturn, 1) := by decide +kernel
theorem dX0_shares_30 : decode cX0_shares 30 = .ok (.iload_n 3, 1) := by decide +kernel
theorem dX0_shares_31 : decode cX0_shares 31 = .ok (.bipush 125, 2) := by decide +kernel
theorem dX0_shares_33 : decode cX0_shares 33 = .ok (.idiv, 1) := by decide +kernel
theorem dX0_shares_34 : decode cX0_shares 34 = .ok (.iload_n 3, 1) := by decide +kernel
theorem dX0_shares_35 : decode cX0_shares 35 = .ok (.bipush 25, 2) := by decide +kernel
theorem dX0_shares_37 : decode cX0_shares 37 = .ok (.idiv, 1) := by decide +kernel
theorem dX0_shares_38 : decode cX0_shares 38 = .ok (.iconst 5, 1) := by decide +kernel
theorem dX0_shares_39 : decode cX0_shares 39 = .ok (.irem, 1) := by decide +kernel
theorem dX0_shares_40 : decode cX0_shares 40 = .ok (.iadd, 1) := by decide +kernel
theorem dX0_shares_41 : decode cX0_shares 41 = .ok (.iload_n 3, 1) := by decide +kernel
theorem dX0_shares_42 : decode cX0_shares 42 = .ok (.iconst 5, 1) := by decide +kernel
theorem dX0_shares_43 : decode cX0_shares 43 = .ok (.idiv, 1) := by decide +kernel
theorem dX0_shares_44 : decode cX0_shares 44 = .ok (.iconst 5, 1) := by decide +kernel
theorem dX0_shares_45 : decode cX0_shares 45 = .ok (.irem, 1) := by decide +kernel
theorem dX0_shares_46 : decode cX0_shares 46 = .ok (.iadd, 1) := by decide +kernel
theorem dX0_shares_47 : decode cX0_shares 47 = .ok (.iload_n 3, 1) := by decide +kernel
theorem dX0_shares_48 : decode cX0_shares 48 = .ok (.iconst 5, 1) := by decide +kernel
theorem dX0_shares_49 : decode cX0_shares 49 = .ok (.irem, 1) := by decide +kernel
theorem dX0_shares_50 : decode cX0_shares 50 = .ok (.iadd, 1) := by decide +kernel
theorem dX0_shares_51 : decode cX0_shares 51 = .ok (.istore 4, 2) := by decide +kernel
theorem dX0_shares_53 : decode cX0_shares 53 = .ok (.iload 4, 2) := by decide +kernel
theorem dX0_shares_55 : decode cX0_shares 55 = .ok (.iconst 4, 1) := by decide +kernel
theorem dX0_shares_56 : decode cX0_shares 56 = .ok (.if_icmp .eq 5, 3) := by decide +kernel
theorem dX0_shares_59 : decode cX0_shares 59 = .ok (.iconst 0, 1) := by decide +kernel
theorem dX0_shares_60 : decode cX0_shares 60 = .ok (.ireturn, 1) := by decide +kernel
theorem dX0_shares_61 : decode cX0_shares 61 = .ok (.iload_n 3, 1) := by decide +kernel
theorem dX0_shares_62 : decode cX0_shares 62 = .ok (.istore 5, 2) := by decide +kernel
theorem dX0_shares_64 : decode cX0_shares 64 = .ok (.iconst 3, 1) := by decide +kernel
theorem dX0_shares_65 : decode cX0_shares 65 = .ok (.istore 6, 2) := by decide +kernel
theorem dX0_shares_67 : decode cX0_shares 67 = .ok (.iload 6, 2) := by decide +kernel
theorem dX0_shares_69 : decode cX0_shares 69 = .ok (.ifCond .lt 35, 3) := by decide +kernel
theorem dX0_shares_72 : decode cX0_shares 72 = .ok (.aload_n 0, 1) := by decide +kernel
theorem dX0_shares_73 : decode cX0_shares 73 = .ok (.getfield 13, 3) := by decide +kernel
theorem dX0_shares_76 : decode cX0_shares 76 = .ok (.iconst 4, 1) := by decide +kernel
theorem dX0_shares_77 : decode cX0_shares 77 = .ok (.iconst 2, 1) := by decide +kernel
theorem dX0_shares_78 : decode cX0_shares 78 = .ok (.iload_n 1, 1) := by decide +kernel
theorem dX0_shares_79 : decode cX0_shares 79 = .ok (.imul, 1) := by decide +kernel
theorem dX0_shares_80 : decode cX0_shares 80 = .ok (.iload_n 2, 1) := by decide +kernel
theorem dX0_shares_81 : decode cX0_shares 81 = .ok (.iadd, 1) := by decide +kernel
theorem dX0_shares_82 : decode cX0_shares 82 = .ok (.imul, 1) := by decide +kernel
theorem dX0_shares_83 : decode cX0_shares 83 = .ok (.iload 6, 2) := by decide +kernel
theorem dX0_shares_85 : decode cX0_shares 85 = .ok (.iadd, 1) := by decide +kernel
theorem dX0_shares_86 : decode cX0_shares 86 = .ok (.iload 5, 2) := by decide +kernel
theorem dX0_shares_88 : decode cX0_shares 88 = .ok (.iconst 5, 1) := by decide +kernel
theorem dX0_shares_89 : decode cX0_shares 89 = .ok (.irem, 1) := by decide +kernel
theorem dX0_shares_90 : decode cX0_shares 90 = .ok (.i2b, 1) := by decide +kernel
theorem dX0_shares_91 : decode cX0_shares 91 = .ok (.bastore, 1) := by decide +kernel
theorem dX0_shares_92 : decode cX0_shares 92 = .ok (.iload 5, 2) := by decide +kernel
theorem dX0_shares_94 : decode cX0_shares 94 = .ok (.iconst 5, 1) := by decide +kernel
theorem dX0_shares_95 : decode cX0_shares 95 = .ok (.idiv, 1) := by decide +kernel
theorem dX0_shares_96 : decode cX0_shares 96 = .ok (.istore 5, 2) := by decide +kernel
theorem dX0_shares_98 : decode cX0_shares 98 = .ok (.iinc 6 (-1), 3) := by decide +kernel
theorem dX0_shares_101 : decode cX0_shares 101 = .ok (.goto (-34), 3) := by decide +kernel
theorem dX0_shares_104 : decode cX0_shares 104 = .ok (.aload_n 0, 1) := by decide +kernel
theorem dX0_shares_105 : decode cX0_shares 105 = .ok (.iconst 0, 1) := by decide +kernel
theorem dX0_shares_106 : decode cX0_shares 106 = .ok (.putfield 36, 3) := by decide +kernel
theorem dX0_shares_109 : decode cX0_shares 109 = .ok (.iconst 1, 1) := by decide +kernel
theorem dX0_shares_110 : decode cX0_shares 110 = .ok (.ireturn, 1) := by decide +kernel
abbrev cX0_valueTop : ByteArray := prog_1_method_6_code
def yX0_valueTop : MethodName := ⟨RX0, "valueTop", "(II)I"⟩
theorem dX0_valueTop_0 : decode cX0_valueTop 0 = .ok (.aload_n 0, 1) := by decide +kernel
theorem dX0_valueTop_1 : decode cX0_valueTop 1 = .ok (.iload_n 1, 1) := by decide +kernel
theorem dX0_valueTop_2 : decode cX0_valueTop 2 = .ok (.invokevirtual 40, 3) := by decide +kernel
theorem dX0_valueTop_5 : decode cX0_valueTop 5 = .ok (.ifCond .eq 11, 3) := by decide +kernel
theorem dX0_valueTop_8 : decode cX0_valueTop 8 = .ok (.aload_n 0, 1) := by decide +kernel
theorem dX0_valueTop_9 : decode cX0_valueTop 9 = .ok (.iload_n 2, 1) := by decide +kernel
theorem dX0_valueTop_10 : decode cX0_valueTop 10 = .ok (.invokevirtual 32, 3) := by decide +kernel
theorem dX0_valueTop_13 : decode cX0_valueTop 13 = .ok (.ifCond .ne 6, 3) := by decide +kernel
theorem dX0_valueTop_16 : decode cX0_valueTop 16 = .ok (.ldc 43, 2) := by decide +kernel
theorem dX0_valueTop_18 : decode cX0_valueTop 18 = .ok (.ireturn, 1) := by decide +kernel
theorem dX0_valueTop_19 : decode cX0_valueTop 19 = .ok (.aload_n 0, 1) := by decide +kernel
theorem dX0_valueTop_20 : decode cX0_valueTop 20 = .ok (.iload_n 1, 1) := by decide +kernel
theorem dX0_valueTop_21 : decode cX0_valueTop 21 = .ok (.invokevirtual 44, 3) := by decide +kernel
theorem dX0_valueTop_24 : decode cX0_valueTop 24 = .ok (.aload_n 0, 1) := by decide +kernel
theorem dX0_valueTop_25 : decode cX0_valueTop 25 = .ok (.aload_n 0, 1) := by decide +kernel
theorem dX0_valueTop_26 : decode cX0_valueTop 26 = .ok (.getfield 20, 3) := by decide +kernel
theorem dX0_valueTop_29 : decode cX0_valueTop 29 = .ok (.iload_n 2, 1) := by decide +kernel
theorem dX0_valueTop_30 : decode cX0_valueTop 30 = .ok (.laload, 1) := by decide +kernel
theorem dX0_valueTop_31 : decode cX0_valueTop 31 = .ok (.aload_n 0, 1) := by decide +kernel
theorem dX0_valueTop_32 : decode cX0_valueTop 32 = .ok (.getfield 48, 3) := by decide +kernel
theorem dX0_valueTop_35 : decode cX0_valueTop 35 = .ok (.invokevirtual 52, 3) := by decide +kernel
theorem dX0_valueTop_38 : decode cX0_valueTop 38 = .ok (.ireturn, 1) := by decide +kernel
abbrev cX0_isPolicy : ByteArray := prog_1_method_5_code
def yX0_isPolicy : MethodName := ⟨RX0, "isPolicy", "(I)Z"⟩
theorem dX0_isPolicy_0 : decode cX0_isPolicy 0 = .ok (.iload_n 1, 1) := by decide +kernel
theorem dX0_isPolicy_1 : decode cX0_isPolicy 1 = .ok (.ifCond .lt 13, 3) := by decide +kernel
theorem dX0_isPolicy_4 : decode cX0_isPolicy 4 = .ok (.iload_n 1, 1) := by decide +kernel
theorem dX0_isPolicy_5 : decode cX0_isPolicy 5 = .ok (.bipush 15, 2) := by decide +kernel
theorem dX0_isPolicy_7 : decode cX0_isPolicy 7 = .ok (.if_icmp .gt 7, 3) := by decide +kernel
theorem dX0_isPolicy_10 : decode cX0_isPolicy 10 = .ok (.iconst 1, 1) := by decide +kernel
theorem dX0_isPolicy_11 : decode cX0_isPolicy 11 = .ok (.goto 4, 3) := by decide +kernel
theorem dX0_isPolicy_14 : decode cX0_isPolicy 14 = .ok (.iconst 0, 1) := by decide +kernel
theorem dX0_isPolicy_15 : decode cX0_isPolicy 15 = .ok (.ireturn, 1) := by decide +kernel
abbrev cX0_evaluate : ByteArray := prog_1_method_21_code
def yX0_evaluate : MethodName := ⟨RX0, "evaluate", "(I)V"⟩
theorem dX0_evaluate_0 : decode cX0_evaluate 0 = .ok (.aload_n 0, 1) := by decide +kernel
theorem dX0_evaluate_1 : decode cX0_evaluate 1 = .ok (.iload_n 1, 1) := by decide +kernel
theorem dX0_evaluate_2 : decode cX0_evaluate 2 = .ok (.invokevirtual 81, 3) := by decide +kernel
theorem dX0_evaluate_5 : decode cX0_evaluate 5 = .ok (.lconst 1, 1) := by decide +kernel
theorem dX0_evaluate_6 : decode cX0_evaluate 6 = .ok (.lstore_n 2, 1) := by decide +kernel
theorem dX0_evaluate_7 : decode cX0_evaluate 7 = .ok (.iconst 0, 1) := by decide +kernel
theorem dX0_evaluate_8 : decode cX0_evaluate 8 = .ok (.istore 4, 2) := by decide +kernel
theorem dX0_evaluate_10 : decode cX0_evaluate 10 = .ok (.iload 4, 2) := by decide +kernel
theorem dX0_evaluate_12 : decode cX0_evaluate 12 = .ok (.iconst 4, 1) := by decide +kernel
theorem dX0_evaluate_13 : decode cX0_evaluate 13 = .ok (.if_icmp .ge 53, 3) := by decide +kernel
theorem dX0_evaluate_16 : decode cX0_evaluate 16 = .ok (.iconst 0, 1) := by decide +kernel
theorem dX0_evaluate_17 : decode cX0_evaluate 17 = .ok (.istore 5, 2) := by decide +kernel
theorem dX0_evaluate_19 : decode cX0_evaluate 19 = .ok (.iload 5, 2) := by decide +kernel
theorem dX0_evaluate_21 : decode cX0_evaluate 21 = .ok (.iconst 4, 1) := by decide +kernel
theorem dX0_evaluate_22 : decode cX0_evaluate 22 = .ok (.if_icmp .ge 25, 3) := by decide +kernel
theorem dX0_evaluate_25 : decode cX0_evaluate 25 = .ok (.iload 5, 2) := by decide +kernel
theorem dX0_evaluate_27 : decode cX0_evaluate 27 = .ok (.iload 4, 2) := by decide +kernel
theorem dX0_evaluate_29 : decode cX0_evaluate 29 = .ok (.if_icmp .eq 12, 3) := by decide +kernel
theorem dX0_evaluate_32 : decode cX0_evaluate 32 = .ok (.aload_n 0, 1) := by decide +kernel
theorem dX0_evaluate_33 : decode cX0_evaluate 33 = .ok (.iload 5, 2) := by decide +kernel
theorem dX0_evaluate_35 : decode cX0_evaluate 35 = .ok (.iload 4, 2) := by decide +kernel
theorem dX0_evaluate_37 : decode cX0_evaluate 37 = .ok (.lload_n 2, 1) := by decide +kernel
theorem dX0_evaluate_38 : decode cX0_evaluate 38 = .ok (.invokevirtual 84, 3) := by decide +kernel
theorem dX0_evaluate_41 : decode cX0_evaluate 41 = .ok (.iinc 5 1, 3) := by decide +kernel
theorem dX0_evaluate_44 : decode cX0_evaluate 44 = .ok (.goto (-25), 3) := by decide +kernel
theorem dX0_evaluate_47 : decode cX0_evaluate 47 = .ok (.aload_n 0, 1) := by decide +kernel
theorem dX0_evaluate_48 : decode cX0_evaluate 48 = .ok (.getfield 16, 3) := by decide +kernel
theorem dX0_evaluate_51 : decode cX0_evaluate 51 = .ok (.iconst 5, 1) := by decide +kernel
theorem dX0_evaluate_52 : decode cX0_evaluate 52 = .ok (.iload 4, 2) := by decide +kernel
theorem dX0_evaluate_54 : decode cX0_evaluate 54 = .ok (.imul, 1) := by decide +kernel
theorem dX0_evaluate_55 : decode cX0_evaluate 55 = .ok (.iload 4, 2) := by decide +kernel
theorem dX0_evaluate_57 : decode cX0_evaluate 57 = .ok (.iadd, 1) := by decide +kernel
theorem dX0_evaluate_58 : decode cX0_evaluate 58 = .ok (.laload, 1) := by decide +kernel
theorem dX0_evaluate_59 : decode cX0_evaluate 59 = .ok (.lstore_n 2, 1) := by decide +kernel
theorem dX0_evaluate_60 : decode cX0_evaluate 60 = .ok (.iinc 4 1, 3) := by decide +kernel
theorem dX0_evaluate_63 : decode cX0_evaluate 63 = .ok (.goto (-53), 3) := by decide +kernel
theorem dX0_evaluate_66 : decode cX0_evaluate 66 = .ok (.aload_n 0, 1) := by decide +kernel
theorem dX0_evaluate_67 : decode cX0_evaluate 67 = .ok (.lload_n 2, 1) := by decide +kernel
theorem dX0_evaluate_68 : decode cX0_evaluate 68 = .ok (.putfield 48, 3) := by decide +kernel
theorem dX0_evaluate_71 : decode cX0_evaluate 71 = .ok (.iconst 0, 1) := by decide +kernel
theorem dX0_evaluate_72 : decode cX0_evaluate 72 = .ok (.istore 4, 2) := by decide +kernel
theorem dX0_evaluate_74 : decode cX0_evaluate 74 = .ok (.iload 4, 2) := by decide +kernel
theorem dX0_evaluate_76 : decode cX0_evaluate 76 = .ok (.iconst 4, 1) := by decide +kernel
theorem dX0_evaluate_77 : decode cX0_evaluate 77 = .ok (.if_icmp .ge 27, 3) := by decide +kernel
theorem dX0_evaluate_80 : decode cX0_evaluate 80 = .ok (.aload_n 0, 1) := by decide +kernel
theorem dX0_evaluate_81 : decode cX0_evaluate 81 = .ok (.getfield 20, 3) := by decide +kernel
theorem dX0_evaluate_84 : decode cX0_evaluate 84 = .ok (.iload 4, 2) := by decide +kernel
theorem dX0_evaluate_86 : decode cX0_evaluate 86 = .ok (.aload_n 0, 1) := by decide +kernel
theorem dX0_evaluate_87 : decode cX0_evaluate 87 = .ok (.getfield 16, 3) := by decide +kernel
theorem dX0_evaluate_90 : decode cX0_evaluate 90 = .ok (.iconst 5, 1) := by decide +kernel
theorem dX0_evaluate_91 : decode cX0_evaluate 91 = .ok (.iload 4, 2) := by decide +kernel
theorem dX0_evaluate_93 : decode cX0_evaluate 93 = .ok (.imul, 1) := by decide +kernel
theorem dX0_evaluate_94 : decode cX0_evaluate 94 = .ok (.iconst 4, 1) := by decide +kernel
theorem dX0_evaluate_95 : decode cX0_evaluate 95 = .ok (.iadd, 1) := by decide +kernel
theorem dX0_evaluate_96 : decode cX0_evaluate 96 = .ok (.laload, 1) := by decide +kernel
theorem dX0_evaluate_97 : decode cX0_evaluate 97 = .ok (.lastore, 1) := by decide +kernel
theorem dX0_evaluate_98 : decode cX0_evaluate 98 = .ok (.iinc 4 1, 3) := by decide +kernel
theorem dX0_evaluate_101 : decode cX0_evaluate 101 = .ok (.goto (-27), 3) := by decide +kernel
theorem dX0_evaluate_104 : decode cX0_evaluate 104 = .ok (.return_, 1) := by decide +kernel
abbrev cX0_fillRows : ByteArray := prog_1_method_20_code
def yX0_fillRows : MethodName := ⟨RX0, "fillRows", "(I)V"⟩
theorem dX0_fillRows_0 : decode cX0_fillRows 0 = .ok (.iconst 0, 1) := by decide +kernel
theorem dX0_fillRows_1 : decode cX0_fillRows 1 = .ok (.istore_n 2, 1) := by decide +kernel
theorem dX0_fillRows_2 : decode cX0_fillRows 2 = .ok (.iload_n 2, 1) := by decide +kernel
theorem dX0_fillRows_3 : decode cX0_fillRows 3 = .ok (.iconst 4, 1) := by decide +kernel
theorem dX0_fillRows_4 : decode cX0_fillRows 4 = .ok (.if_icmp .ge 92, 3) := by decide +kernel
theorem dX0_fillRows_7 : decode cX0_fillRows 7 = .ok (.iconst 2, 1) := by decide +kernel
theorem dX0_fillRows_8 : decode cX0_fillRows 8 = .ok (.iload_n 2, 1) := by decide +kernel
theorem dX0_fillRows_9 : decode cX0_fillRows 9 = .ok (.imul, 1) := by decide +kernel
theorem dX0_fillRows_10 : decode cX0_fillRows 10 = .ok (.iload_n 1, 1) := by decide +kernel
theorem dX0_fillRows_11 : decode cX0_fillRows 11 = .ok (.iload_n 2, 1) := by decide +kernel
theorem dX0_fillRows_12 : decode cX0_fillRows 12 = .ok (.ishr, 1) := by decide +kernel
theorem dX0_fillRows_13 : decode cX0_fillRows 13 = .ok (.iconst 1, 1) := by decide +kernel
theorem dX0_fillRows_14 : decode cX0_fillRows 14 = .ok (.iand, 1) := by decide +kernel
theorem dX0_fillRows_15 : decode cX0_fillRows 15 = .ok (.iadd, 1) := by decide +kernel
theorem dX0_fillRows_16 : decode cX0_fillRows 16 = .ok (.istore_n 3, 1) := by decide +kernel
theorem dX0_fillRows_17 : decode cX0_fillRows 17 = .ok (.iconst 0, 1) := by decide +kernel
theorem dX0_fillRows_18 : decode cX0_fillRows 18 = .ok (.istore 4, 2) := by decide +kernel
theorem dX0_fillRows_20 : decode cX0_fillRows 20 = .ok (.iload 4, 2) := by decide +kernel
theorem dX0_fillRows_22 : decode cX0_fillRows 22 = .ok (.iconst 4, 1) := by decide +kernel
theorem dX0_fillRows_23 : decode cX0_fillRows 23 = .ok (.if_icmp .ge 46, 3) := by decide +kernel
theorem dX0_fillRows_26 : decode cX0_fillRows 26 = .ok (.aload_n 0, 1) := by decide +kernel
theorem dX0_fillRows_27 : decode cX0_fillRows 27 = .ok (.getfield 16, 3) := by decide +kernel
theorem dX0_fillRows_30 : decode cX0_fillRows 30 = .ok (.iconst 5, 1) := by decide +kernel
theorem dX0_fillRows_31 : decode cX0_fillRows 31 = .ok (.iload_n 2, 1) := by decide +kernel
theorem dX0_fillRows_32 : decode cX0_fillRows 32 = .ok (.imul, 1) := by decide +kernel
theorem dX0_fillRows_33 : decode cX0_fillRows 33 = .ok (.iload 4, 2) := by decide +kernel
theorem dX0_fillRows_35 : decode cX0_fillRows 35 = .ok (.iadd, 1) := by decide +kernel
theorem dX0_fillRows_36 : decode cX0_fillRows 36 = .ok (.iload_n 2, 1) := by decide +kernel
theorem dX0_fillRows_37 : decode cX0_fillRows 37 = .ok (.iload 4, 2) := by decide +kernel
theorem dX0_fillRows_39 : decode cX0_fillRows 39 = .ok (.if_icmp .ne 9, 3) := by decide +kernel
theorem dX0_fillRows_42 : decode cX0_fillRows 42 = .ok (.ldc2_w 79, 3) := by decide +kernel
theorem dX0_fillRows_45 : decode cX0_fillRows 45 = .ok (.goto 4, 3) := by decide +kernel
theorem dX0_fillRows_48 : decode cX0_fillRows 48 = .ok (.lconst 0, 1) := by decide +kernel
theorem dX0_fillRows_49 : decode cX0_fillRows 49 = .ok (.aload_n 0, 1) := by decide +kernel
theorem dX0_fillRows_50 : decode cX0_fillRows 50 = .ok (.getfield 13, 3) := by decide +kernel
theorem dX0_fillRows_53 : decode cX0_fillRows 53 = .ok (.iconst 4, 1) := by decide +kernel
theorem dX0_fillRows_54 : decode cX0_fillRows 54 = .ok (.iload_n 3, 1) := by decide +kernel
theorem dX0_fillRows_55 : decode cX0_fillRows 55 = .ok (.imul, 1) := by decide +kernel
theorem dX0_fillRows_56 : decode cX0_fillRows 56 = .ok (.iload 4, 2) := by decide +kernel
theorem dX0_fillRows_58 : decode cX0_fillRows 58 = .ok (.iadd, 1) := by decide +kernel
theorem dX0_fillRows_59 : decode cX0_fillRows 59 = .ok (.baload, 1) := by decide +kernel
theorem dX0_fillRows_60 : decode cX0_fillRows 60 = .ok (.i2l, 1) := by decide +kernel
theorem dX0_fillRows_61 : decode cX0_fillRows 61 = .ok (.lsub, 1) := by decide +kernel
theorem dX0_fillRows_62 : decode cX0_fillRows 62 = .ok (.lastore, 1) := by decide +kernel
theorem dX0_fillRows_63 : decode cX0_fillRows 63 = .ok (.iinc 4 1, 3) := by decide +kernel
theorem dX0_fillRows_66 : decode cX0_fillRows 66 = .ok (.goto (-46), 3) := by decide +kernel
theorem dX0_fillRows_69 : decode cX0_fillRows 69 = .ok (.aload_n 0, 1) := by decide +kernel
theorem dX0_fillRows_70 : decode cX0_fillRows 70 = .ok (.getfield 16, 3) := by decide +kernel
theorem dX0_fillRows_73 : decode cX0_fillRows 73 = .ok (.iconst 5, 1) := by decide +kernel
theorem dX0_fillRows_74 : decode cX0_fillRows 74 = .ok (.iload_n 2, 1) := by decide +kernel
theorem dX0_fillRows_75 : decode cX0_fillRows 75 = .ok (.imul, 1) := by decide +kernel
theorem dX0_fillRows_76 : decode cX0_fillRows 76 = .ok (.iconst 4, 1) := by decide +kernel
theorem dX0_fillRows_77 : decode cX0_fillRows 77 = .ok (.iadd, 1) := by decide +kernel
theorem dX0_fillRows_78 : decode cX0_fillRows 78 = .ok (.ldc2_w 79, 3) := by decide +kernel
theorem dX0_fillRows_81 : decode cX0_fillRows 81 = .ok (.aload_n 0, 1) := by decide +kernel
theorem dX0_fillRows_82 : decode cX0_fillRows 82 = .ok (.getfield 7, 3) := by decide +kernel
theorem dX0_fillRows_85 : decode cX0_fillRows 85 = .ok (.iload_n 3, 1) := by decide +kernel
theorem dX0_fillRows_86 : decode cX0_fillRows 86 = .ok (.baload, 1) := by decide +kernel
theorem dX0_fillRows_87 : decode cX0_fillRows 87 = .ok (.i2l, 1) := by decide +kernel
theorem dX0_fillRows_88 : decode cX0_fillRows 88 = .ok (.lmul, 1) := by decide +kernel
theorem dX0_fillRows_89 : decode cX0_fillRows 89 = .ok (.lastore, 1) := by decide +kernel
theorem dX0_fillRows_90 : decode cX0_fillRows 90 = .ok (.iinc 2 1, 3) := by decide +kernel
theorem dX0_fillRows_93 : decode cX0_fillRows 93 = .ok (.goto (-91), 3) := by decide +kernel
theorem dX0_fillRows_96 : decode cX0_fillRows 96 = .ok (.return_, 1) := by decide +kernel
end
section
set_option maxRecDepth 100000
abbrev cX0_reduce : ByteArray := prog_1_method_22_code
def yX0_reduce : MethodName := ⟨RX0, "reduce", "(IIJ)V"⟩
theorem dX0_reduce_0 : decode cX0_reduce 0 = .ok (.aload_n 0, 1) := by decide +kernel
theorem dX0_reduce_1 : decode cX0_reduce 1 = .ok (.getfield 16, 3) := by decide +kernel
theorem dX0_reduce_4 : decode cX0_reduce 4 = .ok (.iconst 5, 1) := by decide +kernel
theorem dX0_reduce_5 : decode cX0_reduce 5 = .ok (.iload_n 2, 1) := by decide +kernel
theorem dX0_reduce_6 : decode cX0_reduce 6 = .ok (.imul, 1) := by decide +kernel
theorem dX0_reduce_7 : decode cX0_reduce 7 = .ok (.iload_n 2, 1) := by decide +kernel
theorem dX0_reduce_8 : decode cX0_reduce 8 = .ok (.iadd, 1) := by decide +kernel
theorem dX0_reduce_9 : decode cX0_reduce 9 = .ok (.laload, 1) := by decide +kernel
theorem dX0_reduce_10 : decode cX0_reduce 10 = .ok (.lstore 5, 2) := by decide +kernel
theorem dX0_reduce_12 : decode cX0_reduce 12 = .ok (.aload_n 0, 1) := by decide +kernel
theorem dX0_reduce_13 : decode cX0_reduce 13 = .ok (.getfield 16, 3) := by decide +kernel
theorem dX0_reduce_16 : decode cX0_reduce 16 = .ok (.iconst 5, 1) := by decide +kernel
theorem dX0_reduce_17 : decode cX0_reduce 17 = .ok (.iload_n 1, 1) := by decide +kernel
theorem dX0_reduce_18 : decode cX0_reduce 18 = .ok (.imul, 1) := by decide +kernel
theorem dX0_reduce_19 : decode cX0_reduce 19 = .ok (.iload_n 2, 1) := by decide +kernel
theorem dX0_reduce_20 : decode cX0_reduce 20 = .ok (.iadd, 1) := by decide +kernel
theorem dX0_reduce_21 : decode cX0_reduce 21 = .ok (.laload, 1) := by decide +kernel
theorem dX0_reduce_22 : decode cX0_reduce 22 = .ok (.lstore 7, 2) := by decide +kernel
theorem dX0_reduce_24 : decode cX0_reduce 24 = .ok (.iconst 0, 1) := by decide +kernel
theorem dX0_reduce_25 : decode cX0_reduce 25 = .ok (.istore 9, 2) := by decide +kernel
theorem dX0_reduce_27 : decode cX0_reduce 27 = .ok (.iload 9, 2) := by decide +kernel
theorem dX0_reduce_29 : decode cX0_reduce 29 = .ok (.iconst 5, 1) := by decide +kernel
theorem dX0_reduce_30 : decode cX0_reduce 30 = .ok (.if_icmp .ge 51, 3) := by decide +kernel
theorem dX0_reduce_33 : decode cX0_reduce 33 = .ok (.aload_n 0, 1) := by decide +kernel
theorem dX0_reduce_34 : decode cX0_reduce 34 = .ok (.getfield 16, 3) := by decide +kernel
theorem dX0_reduce_37 : decode cX0_reduce 37 = .ok (.iconst 5, 1) := by decide +kernel
theorem dX0_reduce_38 : decode cX0_reduce 38 = .ok (.iload_n 1, 1) := by decide +kernel
theorem dX0_reduce_39 : decode cX0_reduce 39 = .ok (.imul, 1) := by decide +kernel
theorem dX0_reduce_40 : decode cX0_reduce 40 = .ok (.iload 9, 2) := by decide +kernel
theorem dX0_reduce_42 : decode cX0_reduce 42 = .ok (.iadd, 1) := by decide +kernel
theorem dX0_reduce_43 : decode cX0_reduce 43 = .ok (.aload_n 0, 1) := by decide +kernel
theorem dX0_reduce_44 : decode cX0_reduce 44 = .ok (.getfield 16, 3) := by decide +kernel
theorem dX0_reduce_47 : decode cX0_reduce 47 = .ok (.iconst 5, 1) := by decide +kernel
theorem dX0_reduce_48 : decode cX0_reduce 48 = .ok (.iload_n 1, 1) := by decide +kernel
theorem dX0_reduce_49 : decode cX0_reduce 49 = .ok (.imul, 1) := by decide +kernel
theorem dX0_reduce_50 : decode cX0_reduce 50 = .ok (.iload 9, 2) := by decide +kernel
theorem dX0_reduce_52 : decode cX0_reduce 52 = .ok (.iadd, 1) := by decide +kernel
theorem dX0_reduce_53 : decode cX0_reduce 53 = .ok (.laload, 1) := by decide +kernel
theorem dX0_reduce_54 : decode cX0_reduce 54 = .ok (.lload 5, 2) := by decide +kernel
theorem dX0_reduce_56 : decode cX0_reduce 56 = .ok (.lmul, 1) := by decide +kernel
theorem dX0_reduce_57 : decode cX0_reduce 57 = .ok (.lload 7, 2) := by decide +kernel
theorem dX0_reduce_59 : decode cX0_reduce 59 = .ok (.aload_n 0, 1) := by decide +kernel
theorem dX0_reduce_60 : decode cX0_reduce 60 = .ok (.getfield 16, 3) := by decide +kernel
theorem dX0_reduce_63 : decode cX0_reduce 63 = .ok (.iconst 5, 1) := by decide +kernel
theorem dX0_reduce_64 : decode cX0_reduce 64 = .ok (.iload_n 2, 1) := by decide +kernel
theorem dX0_reduce_65 : decode cX0_reduce 65 = .ok (.imul, 1) := by decide +kernel
theorem dX0_reduce_66 : decode cX0_reduce 66 = .ok (.iload 9, 2) := by decide +kernel
theorem dX0_reduce_68 : decode cX0_reduce 68 = .ok (.iadd, 1) := by decide +kernel
theorem dX0_reduce_69 : decode cX0_reduce 69 = .ok (.laload, 1) := by decide +kernel
theorem dX0_reduce_70 : decode cX0_reduce 70 = .ok (.lmul, 1) := by decide +kernel
theorem dX0_reduce_71 : decode cX0_reduce 71 = .ok (.lsub, 1) := by decide +kernel
theorem dX0_reduce_72 : decode cX0_reduce 72 = .ok (.lload_n 3, 1) := by decide +kernel
theorem dX0_reduce_73 : decode cX0_reduce 73 = .ok (.ldiv, 1) := by decide +kernel
theorem dX0_reduce_74 : decode cX0_reduce 74 = .ok (.lastore, 1) := by decide +kernel
theorem dX0_reduce_75 : decode cX0_reduce 75 = .ok (.iinc 9 1, 3) := by decide +kernel
theorem dX0_reduce_78 : decode cX0_reduce 78 = .ok (.goto (-51), 3) := by decide +kernel
theorem dX0_reduce_81 : decode cX0_reduce 81 = .ok (.return_, 1) := by decide +kernel
abbrev cX0_lowestTop : ByteArray := prog_1_method_18_code
def yX0_lowestTop : MethodName := ⟨RX0, "lowestTop", "(JJ)I"⟩
theorem dX0_lowestTop_0 : decode cX0_lowestTop 0 = .ok (.aload_n 0, 1) := by decide +kernel
theorem dX0_lowestTop_1 : decode cX0_lowestTop 1 = .ok (.lload_n 1, 1) := by decide +kernel
theorem dX0_lowestTop_2 : decode cX0_lowestTop 2 = .ok (.lload_n 3, 1) := by decide +kernel
theorem dX0_lowestTop_3 : decode cX0_lowestTop 3 = .ok (.invokevirtual 75, 3) := by decide +kernel
theorem dX0_lowestTop_6 : decode cX0_lowestTop 6 = .ok (.lstore 5, 2) := by decide +kernel
theorem dX0_lowestTop_8 : decode cX0_lowestTop 8 = .ok (.lload_n 1, 1) := by decide +kernel
theorem dX0_lowestTop_9 : decode cX0_lowestTop 9 = .ok (.lload 5, 2) := by decide +kernel
theorem dX0_lowestTop_11 : decode cX0_lowestTop 11 = .ok (.ldiv, 1) := by decide +kernel
theorem dX0_lowestTop_12 : decode cX0_lowestTop 12 = .ok (.l2i, 1) := by decide +kernel
theorem dX0_lowestTop_13 : decode cX0_lowestTop 13 = .ok (.ireturn, 1) := by decide +kernel
abbrev cX0_commonDivisor : ByteArray := prog_1_method_17_code
def yX0_commonDivisor : MethodName := ⟨RX0, "commonDivisor", "(JJ)J"⟩
theorem dX0_commonDivisor_0 : decode cX0_commonDivisor 0 = .ok (.lload_n 1, 1) := by decide +kernel
theorem dX0_commonDivisor_1 : decode cX0_commonDivisor 1 = .ok (.lconst 0, 1) := by decide +kernel
theorem dX0_commonDivisor_2 : decode cX0_commonDivisor 2 = .ok (.lcmp, 1) := by decide +kernel
theorem dX0_commonDivisor_3 : decode cX0_commonDivisor 3 = .ok (.ifCond .ge 8, 3) := by decide +kernel
theorem dX0_commonDivisor_6 : decode cX0_commonDivisor 6 = .ok (.lload_n 1, 1) := by decide +kernel
theorem dX0_commonDivisor_7 : decode cX0_commonDivisor 7 = .ok (.lneg, 1) := by decide +kernel
theorem dX0_commonDivisor_8 : decode cX0_commonDivisor 8 = .ok (.goto 4, 3) := by decide +kernel
theorem dX0_commonDivisor_11 : decode cX0_commonDivisor 11 = .ok (.lload_n 1, 1) := by decide +kernel
theorem dX0_commonDivisor_12 : decode cX0_commonDivisor 12 = .ok (.lstore 5, 2) := by decide +kernel
theorem dX0_commonDivisor_14 : decode cX0_commonDivisor 14 = .ok (.lload_n 3, 1) := by decide +kernel
theorem dX0_commonDivisor_15 : decode cX0_commonDivisor 15 = .ok (.lstore 7, 2) := by decide +kernel
theorem dX0_commonDivisor_17 : decode cX0_commonDivisor 17 = .ok (.lload 5, 2) := by decide +kernel
theorem dX0_commonDivisor_19 : decode cX0_commonDivisor 19 = .ok (.lconst 0, 1) := by decide +kernel
theorem dX0_commonDivisor_20 : decode cX0_commonDivisor 20 = .ok (.lcmp, 1) := by decide +kernel
theorem dX0_commonDivisor_21 : decode cX0_commonDivisor 21 = .ok (.ifCond .eq 21, 3) := by decide +kernel
theorem dX0_commonDivisor_24 : decode cX0_commonDivisor 24 = .ok (.lload 7, 2) := by decide +kernel
theorem dX0_commonDivisor_26 : decode cX0_commonDivisor 26 = .ok (.lload 5, 2) := by decide +kernel
theorem dX0_commonDivisor_28 : decode cX0_commonDivisor 28 = .ok (.lrem, 1) := by decide +kernel
theorem dX0_commonDivisor_29 : decode cX0_commonDivisor 29 = .ok (.lstore 9, 2) := by decide +kernel
theorem dX0_commonDivisor_31 : decode cX0_commonDivisor 31 = .ok (.lload 5, 2) := by decide +kernel
theorem dX0_commonDivisor_33 : decode cX0_commonDivisor 33 = .ok (.lstore 7, 2) := by decide +kernel
theorem dX0_commonDivisor_35 : decode cX0_commonDivisor 35 = .ok (.lload 9, 2) := by decide +kernel
theorem dX0_commonDivisor_37 : decode cX0_commonDivisor 37 = .ok (.lstore 5, 2) := by decide +kernel
theorem dX0_commonDivisor_39 : decode cX0_commonDivisor 39 = .ok (.goto (-22), 3) := by decide +kernel
theorem dX0_commonDivisor_42 : decode cX0_commonDivisor 42 = .ok (.lload 7, 2) := by decide +kernel
theorem dX0_commonDivisor_44 : decode cX0_commonDivisor 44 = .ok (.lreturn, 1) := by decide +kernel
abbrev cX0_valueBottom : ByteArray := prog_1_method_7_code
def yX0_valueBottom : MethodName := ⟨RX0, "valueBottom", "(II)I"⟩
theorem dX0_valueBottom_0 : decode cX0_valueBottom 0 = .ok (.aload_n 0, 1) := by decide +kernel
theorem dX0_valueBottom_1 : decode cX0_valueBottom 1 = .ok (.iload_n 1, 1) := by decide +kernel
theorem dX0_valueBottom_2 : decode cX0_valueBottom 2 = .ok (.invokevirtual 40, 3) := by decide +kernel
theorem dX0_valueBottom_5 : decode cX0_valueBottom 5 = .ok (.ifCond .eq 11, 3) := by decide +kernel
theorem dX0_valueBottom_8 : decode cX0_valueBottom 8 = .ok (.aload_n 0, 1) := by decide +kernel
theorem dX0_valueBottom_9 : decode cX0_valueBottom 9 = .ok (.iload_n 2, 1) := by decide +kernel
theorem dX0_valueBottom_10 : decode cX0_valueBottom 10 = .ok (.invokevirtual 32, 3) := by decide +kernel
theorem dX0_valueBottom_13 : decode cX0_valueBottom 13 = .ok (.ifCond .ne 6, 3) := by decide +kernel
theorem dX0_valueBottom_16 : decode cX0_valueBottom 16 = .ok (.ldc 43, 2) := by decide +kernel
theorem dX0_valueBottom_18 : decode cX0_valueBottom 18 = .ok (.ireturn, 1) := by decide +kernel
theorem dX0_valueBottom_19 : decode cX0_valueBottom 19 = .ok (.aload_n 0, 1) := by decide +kernel
theorem dX0_valueBottom_20 : decode cX0_valueBottom 20 = .ok (.iload_n 1, 1) := by decide +kernel
theorem dX0_valueBottom_21 : decode cX0_valueBottom 21 = .ok (.invokevirtual 44, 3) := by decide +kernel
theorem dX0_valueBottom_24 : decode cX0_valueBottom 24 = .ok (.aload_n 0, 1) := by decide +kernel
theorem dX0_valueBottom_25 : decode cX0_valueBottom 25 = .ok (.aload_n 0, 1) := by decide +kernel
theorem dX0_valueBottom_26 : decode cX0_valueBottom 26 = .ok (.getfield 20, 3) := by decide +kernel
theorem dX0_valueBottom_29 : decode cX0_valueBottom 29 = .ok (.iload_n 2, 1) := by decide +kernel
theorem dX0_valueBottom_30 : decode cX0_valueBottom 30 = .ok (.laload, 1) := by decide +kernel
theorem dX0_valueBottom_31 : decode cX0_valueBottom 31 = .ok (.aload_n 0, 1) := by decide +kernel
theorem dX0_valueBottom_32 : decode cX0_valueBottom 32 = .ok (.getfield 48, 3) := by decide +kernel
theorem dX0_valueBottom_35 : decode cX0_valueBottom 35 = .ok (.invokevirtual 56, 3) := by decide +kernel
theorem dX0_valueBottom_38 : decode cX0_valueBottom 38 = .ok (.ireturn, 1) := by decide +kernel
abbrev cX0_lowestBottom : ByteArray := prog_1_method_19_code
def yX0_lowestBottom : MethodName := ⟨RX0, "lowestBottom", "(JJ)I"⟩
theorem dX0_lowestBottom_0 : decode cX0_lowestBottom 0 = .ok (.aload_n 0, 1) := by decide +kernel
theorem dX0_lowestBottom_1 : decode cX0_lowestBottom 1 = .ok (.lload_n 1, 1) := by decide +kernel
theorem dX0_lowestBottom_2 : decode cX0_lowestBottom 2 = .ok (.lload_n 3, 1) := by decide +kernel
theorem dX0_lowestBottom_3 : decode cX0_lowestBottom 3 = .ok (.invokevirtual 75, 3) := by decide +kernel
theorem dX0_lowestBottom_6 : decode cX0_lowestBottom 6 = .ok (.lstore 5, 2) := by decide +kernel
theorem dX0_lowestBottom_8 : decode cX0_lowestBottom 8 = .ok (.lload_n 3, 1) := by decide +kernel
theorem dX0_lowestBottom_9 : decode cX0_lowestBottom 9 = .ok (.lload 5, 2) := by decide +kernel
theorem dX0_lowestBottom_11 : decode cX0_lowestBottom 11 = .ok (.ldiv, 1) := by decide +kernel
theorem dX0_lowestBottom_12 : decode cX0_lowestBottom 12 = .ok (.l2i, 1) := by decide +kernel
theorem dX0_lowestBottom_13 : decode cX0_lowestBottom 13 = .ok (.ireturn, 1) := by decide +kernel
abbrev cX0_bestTop : ByteArray := prog_1_method_8_code
def yX0_bestTop : MethodName := ⟨RX0, "bestTop", "(I)I"⟩
theorem dX0_bestTop_0 : decode cX0_bestTop 0 = .ok (.aload_n 0, 1) := by decide +kernel
theorem dX0_bestTop_1 : decode cX0_bestTop 1 = .ok (.iload_n 1, 1) := by decide +kernel
theorem dX0_bestTop_2 : decode cX0_bestTop 2 = .ok (.invokevirtual 32, 3) := by decide +kernel
theorem dX0_bestTop_5 : decode cX0_bestTop 5 = .ok (.ifCond .ne 6, 3) := by decide +kernel
theorem dX0_bestTop_8 : decode cX0_bestTop 8 = .ok (.ldc 43, 2) := by decide +kernel
theorem dX0_bestTop_10 : decode cX0_bestTop 10 = .ok (.ireturn, 1) := by decide +kernel
theorem dX0_bestTop_11 : decode cX0_bestTop 11 = .ok (.aload_n 0, 1) := by decide +kernel
theorem dX0_bestTop_12 : decode cX0_bestTop 12 = .ok (.invokevirtual 59, 3) := by decide +kernel
theorem dX0_bestTop_15 : decode cX0_bestTop 15 = .ok (.aload_n 0, 1) := by decide +kernel
theorem dX0_bestTop_16 : decode cX0_bestTop 16 = .ok (.aload_n 0, 1) := by decide +kernel
theorem dX0_bestTop_17 : decode cX0_bestTop 17 = .ok (.getfield 26, 3) := by decide +kernel
theorem dX0_bestTop_20 : decode cX0_bestTop 20 = .ok (.iload_n 1, 1) := by decide +kernel
theorem dX0_bestTop_21 : decode cX0_bestTop 21 = .ok (.laload, 1) := by decide +kernel
theorem dX0_bestTop_22 : decode cX0_bestTop 22 = .ok (.aload_n 0, 1) := by decide +kernel
theorem dX0_bestTop_23 : decode cX0_bestTop 23 = .ok (.getfield 62, 3) := by decide +kernel
theorem dX0_bestTop_26 : decode cX0_bestTop 26 = .ok (.invokevirtual 52, 3) := by decide +kernel
theorem dX0_bestTop_29 : decode cX0_bestTop 29 = .ok (.ireturn, 1) := by decide +kernel
abbrev cX0_solve : ByteArray := prog_1_method_24_code
def yX0_solve : MethodName := ⟨RX0, "solve", "()V"⟩
theorem dX0_solve_0 : decode cX0_solve 0 = .ok (.aload_n 0, 1) := by decide +kernel
theorem dX0_solve_1 : decode cX0_solve 1 = .ok (.getfield 36, 3) := by decide +kernel
theorem dX0_solve_4 : decode cX0_solve 4 = .ok (.ifCond .eq 4, 3) := by decide +kernel
theorem dX0_solve_7 : decode cX0_solve 7 = .ok (.return_, 1) := by decide +kernel
theorem dX0_solve_8 : decode cX0_solve 8 = .ok (.aload_n 0, 1) := by decide +kernel
theorem dX0_solve_9 : decode cX0_solve 9 = .ok (.iconst 1, 1) := by decide +kernel
theorem dX0_solve_10 : decode cX0_solve 10 = .ok (.putfield 36, 3) := by decide +kernel
theorem dX0_solve_13 : decode cX0_solve 13 = .ok (.aload_n 0, 1) := by decide +kernel
theorem dX0_solve_14 : decode cX0_solve 14 = .ok (.iconst 0, 1) := by decide +kernel
theorem dX0_solve_15 : decode cX0_solve 15 = .ok (.putfield 88, 3) := by decide +kernel
theorem dX0_solve_18 : decode cX0_solve 18 = .ok (.iconst 1, 1) := by decide +kernel
theorem dX0_solve_19 : decode cX0_solve 19 = .ok (.istore_n 1, 1) := by decide +kernel
theorem dX0_solve_20 : decode cX0_solve 20 = .ok (.iconst 0, 1) := by decide +kernel
theorem dX0_solve_21 : decode cX0_solve 21 = .ok (.istore_n 2, 1) := by decide +kernel
theorem dX0_solve_22 : decode cX0_solve 22 = .ok (.iload_n 2, 1) := by decide +kernel
theorem dX0_solve_23 : decode cX0_solve 23 = .ok (.bipush 17, 2) := by decide +kernel
theorem dX0_solve_25 : decode cX0_solve 25 = .ok (.if_icmp .ge 59, 3) := by decide +kernel
theorem dX0_solve_28 : decode cX0_solve 28 = .ok (.iload_n 1, 1) := by decide +kernel
theorem dX0_solve_29 : decode cX0_solve 29 = .ok (.ifCond .eq 55, 3) := by decide +kernel
theorem dX0_solve_32 : decode cX0_solve 32 = .ok (.aload_n 0, 1) := by decide +kernel
theorem dX0_solve_33 : decode cX0_solve 33 = .ok (.aload_n 0, 1) := by decide +kernel
theorem dX0_solve_34 : decode cX0_solve 34 = .ok (.getfield 88, 3) := by decide +kernel
theorem dX0_solve_37 : decode cX0_solve 37 = .ok (.invokevirtual 44, 3) := by decide +kernel
theorem dX0_solve_40 : decode cX0_solve 40 = .ok (.iconst 0, 1) := by decide +kernel
theorem dX0_solve_41 : decode cX0_solve 41 = .ok (.istore_n 3, 1) := by decide +kernel
theorem dX0_solve_42 : decode cX0_solve 42 = .ok (.iload_n 3, 1) := by decide +kernel
theorem dX0_solve_43 : decode cX0_solve 43 = .ok (.iconst 4, 1) := by decide +kernel
theorem dX0_solve_44 : decode cX0_solve 44 = .ok (.if_icmp .ge 21, 3) := by decide +kernel
theorem dX0_solve_47 : decode cX0_solve 47 = .ok (.aload_n 0, 1) := by decide +kernel
theorem dX0_solve_48 : decode cX0_solve 48 = .ok (.getfield 26, 3) := by decide +kernel
theorem dX0_solve_51 : decode cX0_solve 51 = .ok (.iload_n 3, 1) := by decide +kernel
theorem dX0_solve_52 : decode cX0_solve 52 = .ok (.aload_n 0, 1) := by decide +kernel
theorem dX0_solve_53 : decode cX0_solve 53 = .ok (.getfield 20, 3) := by decide +kernel
theorem dX0_solve_56 : decode cX0_solve 56 = .ok (.iload_n 3, 1) := by decide +kernel
theorem dX0_solve_57 : decode cX0_solve 57 = .ok (.laload, 1) := by decide +kernel
theorem dX0_solve_58 : decode cX0_solve 58 = .ok (.lastore, 1) := by decide +kernel
theorem dX0_solve_59 : decode cX0_solve 59 = .ok (.iinc 3 1, 3) := by decide +kernel
theorem dX0_solve_62 : decode cX0_solve 62 = .ok (.goto (-20), 3) := by decide +kernel
theorem dX0_solve_65 : decode cX0_solve 65 = .ok (.aload_n 0, 1) := by decide +kernel
theorem dX0_solve_66 : decode cX0_solve 66 = .ok (.aload_n 0, 1) := by decide +kernel
theorem dX0_solve_67 : decode cX0_solve 67 = .ok (.getfield 48, 3) := by decide +kernel
theorem dX0_solve_70 : decode cX0_solve 70 = .ok (.putfield 62, 3) := by decide +kernel
theorem dX0_solve_73 : decode cX0_solve 73 = .ok (.aload_n 0, 1) := by decide +kernel
theorem dX0_solve_74 : decode cX0_solve 74 = .ok (.invokevirtual 92, 3) := by decide +kernel
theorem dX0_solve_77 : decode cX0_solve 77 = .ok (.istore_n 1, 1) := by decide +kernel
theorem dX0_solve_78 : decode cX0_solve 78 = .ok (.iinc 2 1, 3) := by decide +kernel
theorem dX0_solve_81 : decode cX0_solve 81 = .ok (.goto (-59), 3) := by decide +kernel
theorem dX0_solve_84 : decode cX0_solve 84 = .ok (.return_, 1) := by decide +kernel
abbrev cX0_improve : ByteArray := prog_1_method_25_code
def yX0_improve : MethodName := ⟨RX0, "improve", "()Z"⟩
theorem dX0_improve_0 : decode cX0_improve 0 = .ok (.iconst 0, 1) := by decide +kernel
theorem dX0_improve_1 : decode cX0_improve 1 = .ok (.istore_n 1, 1) := by decide +kernel
theorem dX0_improve_2 : decode cX0_improve 2 = .ok (.iconst 0, 1) := by decide +kernel
theorem dX0_improve_3 : decode cX0_improve 3 = .ok (.istore_n 2, 1) := by decide +kernel
theorem dX0_improve_4 : decode cX0_improve 4 = .ok (.iload_n 2, 1) := by decide +kernel
theorem dX0_improve_5 : decode cX0_improve 5 = .ok (.iconst 4, 1) := by decide +kernel
theorem dX0_improve_6 : decode cX0_improve 6 = .ok (.if_icmp .ge 103, 3) := by decide +kernel
theorem dX0_improve_9 : decode cX0_improve 9 = .ok (.ldc2_w 79, 3) := by decide +kernel
theorem dX0_improve_12 : decode cX0_improve 12 = .ok (.aload_n 0, 1) := by decide +kernel
theorem dX0_improve_13 : decode cX0_improve 13 = .ok (.getfield 26, 3) := by decide +kernel
theorem dX0_improve_16 : decode cX0_improve 16 = .ok (.iload_n 2, 1) := by decide +kernel
theorem dX0_improve_17 : decode cX0_improve 17 = .ok (.laload, 1) := by decide +kernel
theorem dX0_improve_18 : decode cX0_improve 18 = .ok (.lmul, 1) := by decide +kernel
theorem dX0_improve_19 : decode cX0_improve 19 = .ok (.lstore_n 3, 1) := by decide +kernel
theorem dX0_improve_20 : decode cX0_improve 20 = .ok (.aload_n 0, 1) := by decide +kernel
theorem dX0_improve_21 : decode cX0_improve 21 = .ok (.getfield 29, 3) := by decide +kernel
theorem dX0_improve_24 : decode cX0_improve 24 = .ok (.iload_n 2, 1) := by decide +kernel
theorem dX0_improve_25 : decode cX0_improve 25 = .ok (.iconst 0, 1) := by decide +kernel
theorem dX0_improve_26 : decode cX0_improve 26 = .ok (.bastore, 1) := by decide +kernel
theorem dX0_improve_27 : decode cX0_improve 27 = .ok (.iconst 0, 1) := by decide +kernel
theorem dX0_improve_28 : decode cX0_improve 28 = .ok (.istore 5, 2) := by decide +kernel
theorem dX0_improve_30 : decode cX0_improve 30 = .ok (.iload 5, 2) := by decide +kernel
theorem dX0_improve_32 : decode cX0_improve 32 = .ok (.iconst 2, 1) := by decide +kernel
theorem dX0_improve_33 : decode cX0_improve 33 = .ok (.if_icmp .ge 70, 3) := by decide +kernel
theorem dX0_improve_36 : decode cX0_improve 36 = .ok (.aload_n 0, 1) := by decide +kernel
theorem dX0_improve_37 : decode cX0_improve 37 = .ok (.iload_n 2, 1) := by decide +kernel
theorem dX0_improve_38 : decode cX0_improve 38 = .ok (.iload 5, 2) := by decide +kernel
theorem dX0_improve_40 : decode cX0_improve 40 = .ok (.invokevirtual 96, 3) := by decide +kernel
theorem dX0_improve_43 : decode cX0_improve 43 = .ok (.lstore 6, 2) := by decide +kernel
theorem dX0_improve_45 : decode cX0_improve 45 = .ok (.lload 6, 2) := by decide +kernel
theorem dX0_improve_47 : decode cX0_improve 47 = .ok (.lload_n 3, 1) := by decide +kernel
theorem dX0_improve_48 : decode cX0_improve 48 = .ok (.lcmp, 1) := by decide +kernel
theorem dX0_improve_49 : decode cX0_improve 49 = .ok (.ifCond .ne 17, 3) := by decide +kernel
theorem dX0_improve_52 : decode cX0_improve 52 = .ok (.aload_n 0, 1) := by decide +kernel
theorem dX0_improve_53 : decode cX0_improve 53 = .ok (.getfield 29, 3) := by decide +kernel
theorem dX0_improve_56 : decode cX0_improve 56 = .ok (.iload_n 2, 1) := by decide +kernel
theorem dX0_improve_57 : decode cX0_improve 57 = .ok (.dup2, 1) := by decide +kernel
theorem dX0_improve_58 : decode cX0_improve 58 = .ok (.baload, 1) := by decide +kernel
theorem dX0_improve_59 : decode cX0_improve 59 = .ok (.iconst 1, 1) := by decide +kernel
theorem dX0_improve_60 : decode cX0_improve 60 = .ok (.iload 5, 2) := by decide +kernel
theorem dX0_improve_62 : decode cX0_improve 62 = .ok (.ishl, 1) := by decide +kernel
theorem dX0_improve_63 : decode cX0_improve 63 = .ok (.ior, 1) := by decide +kernel
theorem dX0_improve_64 : decode cX0_improve 64 = .ok (.i2b, 1) := by decide +kernel
theorem dX0_improve_65 : decode cX0_improve 65 = .ok (.bastore, 1) := by decide +kernel
theorem dX0_improve_66 : decode cX0_improve 66 = .ok (.lload 6, 2) := by decide +kernel
theorem dX0_improve_68 : decode cX0_improve 68 = .ok (.lload_n 3, 1) := by decide +kernel
theorem dX0_improve_69 : decode cX0_improve 69 = .ok (.lcmp, 1) := by decide +kernel
theorem dX0_improve_70 : decode cX0_improve 70 = .ok (.ifCond .gt 6, 3) := by decide +kernel
theorem dX0_improve_73 : decode cX0_improve 73 = .ok (.goto 24, 3) := by decide +kernel
theorem dX0_improve_76 : decode cX0_improve 76 = .ok (.aload_n 0, 1) := by decide +kernel
theorem dX0_improve_77 : decode cX0_improve 77 = .ok (.aload_n 0, 1) := by decide +kernel
theorem dX0_improve_78 : decode cX0_improve 78 = .ok (.getfield 88, 3) := by decide +kernel
theorem dX0_improve_81 : decode cX0_improve 81 = .ok (.iconst 1, 1) := by decide +kernel
theorem dX0_improve_82 : decode cX0_improve 82 = .ok (.iload_n 2, 1) := by decide +kernel
theorem dX0_improve_83 : decode cX0_improve 83 = .ok (.ishl, 1) := by decide +kernel
theorem dX0_improve_84 : decode cX0_improve 84 = .ok (.iconst (-1), 1) := by decide +kernel
theorem dX0_improve_85 : decode cX0_improve 85 = .ok (.ixor, 1) := by decide +kernel
theorem dX0_improve_86 : decode cX0_improve 86 = .ok (.iand, 1) := by decide +kernel
theorem dX0_improve_87 : decode cX0_improve 87 = .ok (.iload 5, 2) := by decide +kernel
theorem dX0_improve_89 : decode cX0_improve 89 = .ok (.iload_n 2, 1) := by decide +kernel
theorem dX0_improve_90 : decode cX0_improve 90 = .ok (.ishl, 1) := by decide +kernel
theorem dX0_improve_91 : decode cX0_improve 91 = .ok (.ior, 1) := by decide +kernel
theorem dX0_improve_92 : decode cX0_improve 92 = .ok (.putfield 88, 3) := by decide +kernel
theorem dX0_improve_95 : decode cX0_improve 95 = .ok (.iconst 1, 1) := by decide +kernel
theorem dX0_improve_96 : decode cX0_improve 96 = .ok (.istore_n 1, 1) := by decide +kernel
theorem dX0_improve_97 : decode cX0_improve 97 = .ok (.iinc 5 1, 3) := by decide +kernel
theorem dX0_improve_100 : decode cX0_improve 100 = .ok (.goto (-70), 3) := by decide +kernel
theorem dX0_improve_103 : decode cX0_improve 103 = .ok (.iinc 2 1, 3) := by decide +kernel
theorem dX0_improve_106 : decode cX0_improve 106 = .ok (.goto (-102), 3) := by decide +kernel
theorem dX0_improve_109 : decode cX0_improve 109 = .ok (.iload_n 1, 1) := by decide +kernel
theorem dX0_improve_110 : decode cX0_improve 110 = .ok (.ireturn, 1) := by decide +kernel
abbrev cX0_gainOf : ByteArray := prog_1_method_23_code
def yX0_gainOf : MethodName := ⟨RX0, "gainOf", "(II)J"⟩
theorem dX0_gainOf_0 : decode cX0_gainOf 0 = .ok (.iconst 2, 1) := by decide +kernel
theorem dX0_gainOf_1 : decode cX0_gainOf 1 = .ok (.iload_n 1, 1) := by decide +kernel
theorem dX0_gainOf_2 : decode cX0_gainOf 2 = .ok (.imul, 1) := by decide +kernel
theorem dX0_gainOf_3 : decode cX0_gainOf 3 = .ok (.iload_n 2, 1) := by decide +kernel
theorem dX0_gainOf_4 : decode cX0_gainOf 4 = .ok (.iadd, 1) := by decide +kernel
theorem dX0_gainOf_5 : decode cX0_gainOf 5 = .ok (.istore_n 3, 1) := by decide +kernel
theorem dX0_gainOf_6 : decode cX0_gainOf 6 = .ok (.ldc2_w 79, 3) := by decide +kernel
theorem dX0_gainOf_9 : decode cX0_gainOf 9 = .ok (.aload_n 0, 1) := by decide +kernel
theorem dX0_gainOf_10 : decode cX0_gainOf 10 = .ok (.getfield 7, 3) := by decide +kernel
theorem dX0_gainOf_13 : decode cX0_gainOf 13 = .ok (.iload_n 3, 1) := by decide +kernel
theorem dX0_gainOf_14 : decode cX0_gainOf 14 = .ok (.baload, 1) := by decide +kernel
theorem dX0_gainOf_15 : decode cX0_gainOf 15 = .ok (.i2l, 1) := by decide +kernel
theorem dX0_gainOf_16 : decode cX0_gainOf 16 = .ok (.lmul, 1) := by decide +kernel
theorem dX0_gainOf_17 : decode cX0_gainOf 17 = .ok (.aload_n 0, 1) := by decide +kernel
theorem dX0_gainOf_18 : decode cX0_gainOf 18 = .ok (.getfield 62, 3) := by decide +kernel
theorem dX0_gainOf_21 : decode cX0_gainOf 21 = .ok (.lmul, 1) := by decide +kernel
theorem dX0_gainOf_22 : decode cX0_gainOf 22 = .ok (.lstore 4, 2) := by decide +kernel
theorem dX0_gainOf_24 : decode cX0_gainOf 24 = .ok (.iconst 0, 1) := by decide +kernel
theorem dX0_gainOf_25 : decode cX0_gainOf 25 = .ok (.istore 6, 2) := by decide +kernel
theorem dX0_gainOf_27 : decode cX0_gainOf 27 = .ok (.iload 6, 2) := by decide +kernel
theorem dX0_gainOf_29 : decode cX0_gainOf 29 = .ok (.iconst 4, 1) := by decide +kernel
theorem dX0_gainOf_30 : decode cX0_gainOf 30 = .ok (.if_icmp .ge 34, 3) := by decide +kernel
theorem dX0_gainOf_33 : decode cX0_gainOf 33 = .ok (.lload 4, 2) := by decide +kernel
theorem dX0_gainOf_35 : decode cX0_gainOf 35 = .ok (.aload_n 0, 1) := by decide +kernel
theorem dX0_gainOf_36 : decode cX0_gainOf 36 = .ok (.getfield 13, 3) := by decide +kernel
theorem dX0_gainOf_39 : decode cX0_gainOf 39 = .ok (.iconst 4, 1) := by decide +kernel
theorem dX0_gainOf_40 : decode cX0_gainOf 40 = .ok (.iload_n 3, 1) := by decide +kernel
theorem dX0_gainOf_41 : decode cX0_gainOf 41 = .ok (.imul, 1) := by decide +kernel
theorem dX0_gainOf_42 : decode cX0_gainOf 42 = .ok (.iload 6, 2) := by decide +kernel
theorem dX0_gainOf_44 : decode cX0_gainOf 44 = .ok (.iadd, 1) := by decide +kernel
theorem dX0_gainOf_45 : decode cX0_gainOf 45 = .ok (.baload, 1) := by decide +kernel
theorem dX0_gainOf_46 : decode cX0_gainOf 46 = .ok (.i2l, 1) := by decide +kernel
theorem dX0_gainOf_47 : decode cX0_gainOf 47 = .ok (.aload_n 0, 1) := by decide +kernel
theorem dX0_gainOf_48 : decode cX0_gainOf 48 = .ok (.getfield 26, 3) := by decide +kernel
theorem dX0_gainOf_51 : decode cX0_gainOf 51 = .ok (.iload 6, 2) := by decide +kernel
theorem dX0_gainOf_53 : decode cX0_gainOf 53 = .ok (.laload, 1) := by decide +kernel
theorem dX0_gainOf_54 : decode cX0_gainOf 54 = .ok (.lmul, 1) := by decide +kernel
theorem dX0_gainOf_55 : decode cX0_gainOf 55 = .ok (.ladd, 1) := by decide +kernel
theorem dX0_gainOf_56 : decode cX0_gainOf 56 = .ok (.lstore 4, 2) := by decide +kernel
theorem dX0_gainOf_58 : decode cX0_gainOf 58 = .ok (.iinc 6 1, 3) := by decide +kernel
theorem dX0_gainOf_61 : decode cX0_gainOf 61 = .ok (.goto (-34), 3) := by decide +kernel
theorem dX0_gainOf_64 : decode cX0_gainOf 64 = .ok (.lload 4, 2) := by decide +kernel
theorem dX0_gainOf_66 : decode cX0_gainOf 66 = .ok (.lreturn, 1) := by decide +kernel
abbrev cX0_bestBottom : ByteArray := prog_1_method_9_code
def yX0_bestBottom : MethodName := ⟨RX0, "bestBottom", "(I)I"⟩
theorem dX0_bestBottom_0 : decode cX0_bestBottom 0 = .ok (.aload_n 0, 1) := by decide +kernel
theorem dX0_bestBottom_1 : decode cX0_bestBottom 1 = .ok (.iload_n 1, 1) := by decide +kernel
theorem dX0_bestBottom_2 : decode cX0_bestBottom 2 = .ok (.invokevirtual 32, 3) := by decide +kernel
theorem dX0_bestBottom_5 : decode cX0_bestBottom 5 = .ok (.ifCond .ne 6, 3) := by decide +kernel
theorem dX0_bestBottom_8 : decode cX0_bestBottom 8 = .ok (.ldc 43, 2) := by decide +kernel
theorem dX0_bestBottom_10 : decode cX0_bestBottom 10 = .ok (.ireturn, 1) := by decide +kernel
theorem dX0_bestBottom_11 : decode cX0_bestBottom 11 = .ok (.aload_n 0, 1) := by decide +kernel
theorem dX0_bestBottom_12 : decode cX0_bestBottom 12 = .ok (.invokevirtual 59, 3) := by decide +kernel
theorem dX0_bestBottom_15 : decode cX0_bestBottom 15 = .ok (.aload_n 0, 1) := by decide +kernel
theorem dX0_bestBottom_16 : decode cX0_bestBottom 16 = .ok (.aload_n 0, 1) := by decide +kernel
theorem dX0_bestBottom_17 : decode cX0_bestBottom 17 = .ok (.getfield 26, 3) := by decide +kernel
theorem dX0_bestBottom_20 : decode cX0_bestBottom 20 = .ok (.iload_n 1, 1) := by decide +kernel
theorem dX0_bestBottom_21 : decode cX0_bestBottom 21 = .ok (.laload, 1) := by decide +kernel
theorem dX0_bestBottom_22 : decode cX0_bestBottom 22 = .ok (.aload_n 0, 1) := by decide +kernel
theorem dX0_bestBottom_23 : decode cX0_bestBottom 23 = .ok (.getfield 62, 3) := by decide +kernel
theorem dX0_bestBottom_26 : decode cX0_bestBottom 26 = .ok (.invokevirtual 56, 3) := by decide +kernel
theorem dX0_bestBottom_29 : decode cX0_bestBottom 29 = .ok (.ireturn, 1) := by decide +kernel
abbrev cX0_policy : ByteArray := prog_1_method_10_code
def yX0_policy : MethodName := ⟨RX0, "policy", "()I"⟩
theorem dX0_policy_0 : decode cX0_policy 0 = .ok (.aload_n 0, 1) := by decide +kernel
theorem dX0_policy_1 : decode cX0_policy 1 = .ok (.invokevirtual 59, 3) := by decide +kernel
theorem dX0_policy_4 : decode cX0_policy 4 = .ok (.iconst 0, 1) := by decide +kernel
theorem dX0_policy_5 : decode cX0_policy 5 = .ok (.istore_n 1, 1) := by decide +kernel
theorem dX0_policy_6 : decode cX0_policy 6 = .ok (.iconst 0, 1) := by decide +kernel
theorem dX0_policy_7 : decode cX0_policy 7 = .ok (.istore_n 2, 1) := by decide +kernel
theorem dX0_policy_8 : decode cX0_policy 8 = .ok (.iload_n 2, 1) := by decide +kernel
theorem dX0_policy_9 : decode cX0_policy 9 = .ok (.iconst 4, 1) := by decide +kernel
theorem dX0_policy_10 : decode cX0_policy 10 = .ok (.if_icmp .ge 26, 3) := by decide +kernel
theorem dX0_policy_13 : decode cX0_policy 13 = .ok (.aload_n 0, 1) := by decide +kernel
theorem dX0_policy_14 : decode cX0_policy 14 = .ok (.getfield 29, 3) := by decide +kernel
theorem dX0_policy_17 : decode cX0_policy 17 = .ok (.iload_n 2, 1) := by decide +kernel
theorem dX0_policy_18 : decode cX0_policy 18 = .ok (.baload, 1) := by decide +kernel
theorem dX0_policy_19 : decode cX0_policy 19 = .ok (.iconst 1, 1) := by decide +kernel
theorem dX0_policy_20 : decode cX0_policy 20 = .ok (.iand, 1) := by decide +kernel
theorem dX0_policy_21 : decode cX0_policy 21 = .ok (.ifCond .ne 9, 3) := by decide +kernel
theorem dX0_policy_24 : decode cX0_policy 24 = .ok (.iload_n 1, 1) := by decide +kernel
theorem dX0_policy_25 : decode cX0_policy 25 = .ok (.iconst 1, 1) := by decide +kernel
theorem dX0_policy_26 : decode cX0_policy 26 = .ok (.iload_n 2, 1) := by decide +kernel
theorem dX0_policy_27 : decode cX0_policy 27 = .ok (.ishl, 1) := by decide +kernel
theorem dX0_policy_28 : decode cX0_policy 28 = .ok (.ior, 1) := by decide +kernel
theorem dX0_policy_29 : decode cX0_policy 29 = .ok (.istore_n 1, 1) := by decide +kernel
theorem dX0_policy_30 : decode cX0_policy 30 = .ok (.iinc 2 1, 3) := by decide +kernel
theorem dX0_policy_33 : decode cX0_policy 33 = .ok (.goto (-25), 3) := by decide +kernel
theorem dX0_policy_36 : decode cX0_policy 36 = .ok (.iload_n 1, 1) := by decide +kernel
theorem dX0_policy_37 : decode cX0_policy 37 = .ok (.ireturn, 1) := by decide +kernel
abbrev cX0_policies : ByteArray := prog_1_method_11_code
def yX0_policies : MethodName := ⟨RX0, "policies", "()I"⟩
theorem dX0_policies_0 : decode cX0_policies 0 = .ok (.aload_n 0, 1) := by decide +kernel
theorem dX0_policies_1 : decode cX0_policies 1 = .ok (.invokevirtual 59, 3) := by decide +kernel
theorem dX0_policies_4 : decode cX0_policies 4 = .ok (.iconst 1, 1) := by decide +kernel
theorem dX0_policies_5 : decode cX0_policies 5 = .ok (.istore_n 1, 1) := by decide +kernel
end
section
set_option maxRecDepth 100000
theorem dX0_policies_6 : decode cX0_policies 6 = .ok (.iconst 0, 1) := by decide +kernel
theorem dX0_policies_7 : decode cX0_policies 7 = .ok (.istore_n 2, 1) := by decide +kernel
theorem dX0_policies_8 : decode cX0_policies 8 = .ok (.iload_n 2, 1) := by decide +kernel
theorem dX0_policies_9 : decode cX0_policies 9 = .ok (.iconst 4, 1) := by decide +kernel
theorem dX0_policies_10 : decode cX0_policies 10 = .ok (.if_icmp .ge 23, 3) := by decide +kernel
theorem dX0_policies_13 : decode cX0_policies 13 = .ok (.aload_n 0, 1) := by decide +kernel
theorem dX0_policies_14 : decode cX0_policies 14 = .ok (.getfield 29, 3) := by decide +kernel
theorem dX0_policies_17 : decode cX0_policies 17 = .ok (.iload_n 2, 1) := by decide +kernel
theorem dX0_policies_18 : decode cX0_policies 18 = .ok (.baload, 1) := by decide +kernel
theorem dX0_policies_19 : decode cX0_policies 19 = .ok (.iconst 3, 1) := by decide +kernel
theorem dX0_policies_20 : decode cX0_policies 20 = .ok (.if_icmp .ne 7, 3) := by decide +kernel
theorem dX0_policies_23 : decode cX0_policies 23 = .ok (.iload_n 1, 1) := by decide +kernel
theorem dX0_policies_24 : decode cX0_policies 24 = .ok (.iconst 2, 1) := by decide +kernel
theorem dX0_policies_25 : decode cX0_policies 25 = .ok (.imul, 1) := by decide +kernel
theorem dX0_policies_26 : decode cX0_policies 26 = .ok (.istore_n 1, 1) := by decide +kernel
theorem dX0_policies_27 : decode cX0_policies 27 = .ok (.iinc 2 1, 3) := by decide +kernel
theorem dX0_policies_30 : decode cX0_policies 30 = .ok (.goto (-22), 3) := by decide +kernel
theorem dX0_policies_33 : decode cX0_policies 33 = .ok (.iload_n 1, 1) := by decide +kernel
theorem dX0_policies_34 : decode cX0_policies 34 = .ok (.ireturn, 1) := by decide +kernel
abbrev cX0_good : ByteArray := prog_1_method_12_code
def yX0_good : MethodName := ⟨RX0, "good", "(II)Z"⟩
theorem dX0_good_0 : decode cX0_good 0 = .ok (.aload_n 0, 1) := by decide +kernel
theorem dX0_good_1 : decode cX0_good 1 = .ok (.iload_n 1, 1) := by decide +kernel
theorem dX0_good_2 : decode cX0_good 2 = .ok (.invokevirtual 32, 3) := by decide +kernel
theorem dX0_good_5 : decode cX0_good 5 = .ok (.ifCond .eq 12, 3) := by decide +kernel
theorem dX0_good_8 : decode cX0_good 8 = .ok (.iload_n 2, 1) := by decide +kernel
theorem dX0_good_9 : decode cX0_good 9 = .ok (.ifCond .lt 8, 3) := by decide +kernel
theorem dX0_good_12 : decode cX0_good 12 = .ok (.iload_n 2, 1) := by decide +kernel
theorem dX0_good_13 : decode cX0_good 13 = .ok (.iconst 1, 1) := by decide +kernel
theorem dX0_good_14 : decode cX0_good 14 = .ok (.if_icmp .le 5, 3) := by decide +kernel
theorem dX0_good_17 : decode cX0_good 17 = .ok (.iconst 0, 1) := by decide +kernel
theorem dX0_good_18 : decode cX0_good 18 = .ok (.ireturn, 1) := by decide +kernel
theorem dX0_good_19 : decode cX0_good 19 = .ok (.aload_n 0, 1) := by decide +kernel
theorem dX0_good_20 : decode cX0_good 20 = .ok (.invokevirtual 59, 3) := by decide +kernel
theorem dX0_good_23 : decode cX0_good 23 = .ok (.aload_n 0, 1) := by decide +kernel
theorem dX0_good_24 : decode cX0_good 24 = .ok (.getfield 29, 3) := by decide +kernel
theorem dX0_good_27 : decode cX0_good 27 = .ok (.iload_n 1, 1) := by decide +kernel
theorem dX0_good_28 : decode cX0_good 28 = .ok (.baload, 1) := by decide +kernel
theorem dX0_good_29 : decode cX0_good 29 = .ok (.iload_n 2, 1) := by decide +kernel
theorem dX0_good_30 : decode cX0_good 30 = .ok (.ishr, 1) := by decide +kernel
theorem dX0_good_31 : decode cX0_good 31 = .ok (.iconst 1, 1) := by decide +kernel
theorem dX0_good_32 : decode cX0_good 32 = .ok (.iand, 1) := by decide +kernel
theorem dX0_good_33 : decode cX0_good 33 = .ok (.ifCond .eq 7, 3) := by decide +kernel
theorem dX0_good_36 : decode cX0_good 36 = .ok (.iconst 1, 1) := by decide +kernel
theorem dX0_good_37 : decode cX0_good 37 = .ok (.goto 4, 3) := by decide +kernel
theorem dX0_good_40 : decode cX0_good 40 = .ok (.iconst 0, 1) := by decide +kernel
theorem dX0_good_41 : decode cX0_good 41 = .ok (.ireturn, 1) := by decide +kernel
abbrev cX0_prune : ByteArray := prog_1_method_13_code
def yX0_prune : MethodName := ⟨RX0, "prune", "()I"⟩
theorem dX0_prune_0 : decode cX0_prune 0 = .ok (.aload_n 0, 1) := by decide +kernel
theorem dX0_prune_1 : decode cX0_prune 1 = .ok (.invokevirtual 59, 3) := by decide +kernel
theorem dX0_prune_4 : decode cX0_prune 4 = .ok (.iconst 0, 1) := by decide +kernel
theorem dX0_prune_5 : decode cX0_prune 5 = .ok (.istore_n 1, 1) := by decide +kernel
theorem dX0_prune_6 : decode cX0_prune 6 = .ok (.iconst 0, 1) := by decide +kernel
theorem dX0_prune_7 : decode cX0_prune 7 = .ok (.istore_n 2, 1) := by decide +kernel
theorem dX0_prune_8 : decode cX0_prune 8 = .ok (.iload_n 2, 1) := by decide +kernel
theorem dX0_prune_9 : decode cX0_prune 9 = .ok (.iconst 4, 1) := by decide +kernel
theorem dX0_prune_10 : decode cX0_prune 10 = .ok (.if_icmp .ge 50, 3) := by decide +kernel
theorem dX0_prune_13 : decode cX0_prune 13 = .ok (.iconst 0, 1) := by decide +kernel
theorem dX0_prune_14 : decode cX0_prune 14 = .ok (.istore_n 3, 1) := by decide +kernel
theorem dX0_prune_15 : decode cX0_prune 15 = .ok (.iload_n 3, 1) := by decide +kernel
theorem dX0_prune_16 : decode cX0_prune 16 = .ok (.iconst 2, 1) := by decide +kernel
theorem dX0_prune_17 : decode cX0_prune 17 = .ok (.if_icmp .ge 37, 3) := by decide +kernel
theorem dX0_prune_20 : decode cX0_prune 20 = .ok (.aload_n 0, 1) := by decide +kernel
theorem dX0_prune_21 : decode cX0_prune 21 = .ok (.getfield 29, 3) := by decide +kernel
theorem dX0_prune_24 : decode cX0_prune 24 = .ok (.iload_n 2, 1) := by decide +kernel
theorem dX0_prune_25 : decode cX0_prune 25 = .ok (.baload, 1) := by decide +kernel
theorem dX0_prune_26 : decode cX0_prune 26 = .ok (.iload_n 3, 1) := by decide +kernel
theorem dX0_prune_27 : decode cX0_prune 27 = .ok (.ishr, 1) := by decide +kernel
theorem dX0_prune_28 : decode cX0_prune 28 = .ok (.iconst 1, 1) := by decide +kernel
theorem dX0_prune_29 : decode cX0_prune 29 = .ok (.iand, 1) := by decide +kernel
theorem dX0_prune_30 : decode cX0_prune 30 = .ok (.ifCond .ne 18, 3) := by decide +kernel
theorem dX0_prune_33 : decode cX0_prune 33 = .ok (.aload_n 0, 1) := by decide +kernel
theorem dX0_prune_34 : decode cX0_prune 34 = .ok (.iload_n 2, 1) := by decide +kernel
theorem dX0_prune_35 : decode cX0_prune 35 = .ok (.iconst 1, 1) := by decide +kernel
theorem dX0_prune_36 : decode cX0_prune 36 = .ok (.iload_n 3, 1) := by decide +kernel
theorem dX0_prune_37 : decode cX0_prune 37 = .ok (.isub, 1) := by decide +kernel
theorem dX0_prune_38 : decode cX0_prune 38 = .ok (.iload_n 3, 1) := by decide +kernel
theorem dX0_prune_39 : decode cX0_prune 39 = .ok (.invokevirtual 65, 3) := by decide +kernel
theorem dX0_prune_42 : decode cX0_prune 42 = .ok (.ifCond .eq 6, 3) := by decide +kernel
theorem dX0_prune_45 : decode cX0_prune 45 = .ok (.iinc 1 1, 3) := by decide +kernel
theorem dX0_prune_48 : decode cX0_prune 48 = .ok (.iinc 3 1, 3) := by decide +kernel
theorem dX0_prune_51 : decode cX0_prune 51 = .ok (.goto (-36), 3) := by decide +kernel
theorem dX0_prune_54 : decode cX0_prune 54 = .ok (.iinc 2 1, 3) := by decide +kernel
theorem dX0_prune_57 : decode cX0_prune 57 = .ok (.goto (-49), 3) := by decide +kernel
theorem dX0_prune_60 : decode cX0_prune 60 = .ok (.aload_n 0, 1) := by decide +kernel
theorem dX0_prune_61 : decode cX0_prune 61 = .ok (.iconst 0, 1) := by decide +kernel
theorem dX0_prune_62 : decode cX0_prune 62 = .ok (.putfield 36, 3) := by decide +kernel
theorem dX0_prune_65 : decode cX0_prune 65 = .ok (.iload_n 1, 1) := by decide +kernel
theorem dX0_prune_66 : decode cX0_prune 66 = .ok (.ireturn, 1) := by decide +kernel
abbrev cX0_copyAction : ByteArray := prog_1_method_14_code
def yX0_copyAction : MethodName := ⟨RX0, "copyAction", "(III)Z"⟩
theorem dX0_copyAction_0 : decode cX0_copyAction 0 = .ok (.iconst 2, 1) := by decide +kernel
theorem dX0_copyAction_1 : decode cX0_copyAction 1 = .ok (.iload_n 1, 1) := by decide +kernel
theorem dX0_copyAction_2 : decode cX0_copyAction 2 = .ok (.imul, 1) := by decide +kernel
theorem dX0_copyAction_3 : decode cX0_copyAction 3 = .ok (.iload_n 2, 1) := by decide +kernel
theorem dX0_copyAction_4 : decode cX0_copyAction 4 = .ok (.iadd, 1) := by decide +kernel
theorem dX0_copyAction_5 : decode cX0_copyAction 5 = .ok (.istore 4, 2) := by decide +kernel
theorem dX0_copyAction_7 : decode cX0_copyAction 7 = .ok (.iconst 2, 1) := by decide +kernel
theorem dX0_copyAction_8 : decode cX0_copyAction 8 = .ok (.iload_n 1, 1) := by decide +kernel
theorem dX0_copyAction_9 : decode cX0_copyAction 9 = .ok (.imul, 1) := by decide +kernel
theorem dX0_copyAction_10 : decode cX0_copyAction 10 = .ok (.iload_n 3, 1) := by decide +kernel
theorem dX0_copyAction_11 : decode cX0_copyAction 11 = .ok (.iadd, 1) := by decide +kernel
theorem dX0_copyAction_12 : decode cX0_copyAction 12 = .ok (.istore 5, 2) := by decide +kernel
theorem dX0_copyAction_14 : decode cX0_copyAction 14 = .ok (.aload_n 0, 1) := by decide +kernel
theorem dX0_copyAction_15 : decode cX0_copyAction 15 = .ok (.getfield 7, 3) := by decide +kernel
theorem dX0_copyAction_18 : decode cX0_copyAction 18 = .ok (.iload 4, 2) := by decide +kernel
theorem dX0_copyAction_20 : decode cX0_copyAction 20 = .ok (.baload, 1) := by decide +kernel
theorem dX0_copyAction_21 : decode cX0_copyAction 21 = .ok (.aload_n 0, 1) := by decide +kernel
theorem dX0_copyAction_22 : decode cX0_copyAction 22 = .ok (.getfield 7, 3) := by decide +kernel
theorem dX0_copyAction_25 : decode cX0_copyAction 25 = .ok (.iload 5, 2) := by decide +kernel
theorem dX0_copyAction_27 : decode cX0_copyAction 27 = .ok (.baload, 1) := by decide +kernel
theorem dX0_copyAction_28 : decode cX0_copyAction 28 = .ok (.if_icmp .eq 7, 3) := by decide +kernel
theorem dX0_copyAction_31 : decode cX0_copyAction 31 = .ok (.iconst 1, 1) := by decide +kernel
theorem dX0_copyAction_32 : decode cX0_copyAction 32 = .ok (.goto 4, 3) := by decide +kernel
theorem dX0_copyAction_35 : decode cX0_copyAction 35 = .ok (.iconst 0, 1) := by decide +kernel
theorem dX0_copyAction_36 : decode cX0_copyAction 36 = .ok (.istore 6, 2) := by decide +kernel
theorem dX0_copyAction_38 : decode cX0_copyAction 38 = .ok (.aload_n 0, 1) := by decide +kernel
theorem dX0_copyAction_39 : decode cX0_copyAction 39 = .ok (.getfield 7, 3) := by decide +kernel
theorem dX0_copyAction_42 : decode cX0_copyAction 42 = .ok (.iload 5, 2) := by decide +kernel
theorem dX0_copyAction_44 : decode cX0_copyAction 44 = .ok (.aload_n 0, 1) := by decide +kernel
theorem dX0_copyAction_45 : decode cX0_copyAction 45 = .ok (.getfield 7, 3) := by decide +kernel
theorem dX0_copyAction_48 : decode cX0_copyAction 48 = .ok (.iload 4, 2) := by decide +kernel
theorem dX0_copyAction_50 : decode cX0_copyAction 50 = .ok (.baload, 1) := by decide +kernel
theorem dX0_copyAction_51 : decode cX0_copyAction 51 = .ok (.bastore, 1) := by decide +kernel
theorem dX0_copyAction_52 : decode cX0_copyAction 52 = .ok (.iconst 0, 1) := by decide +kernel
theorem dX0_copyAction_53 : decode cX0_copyAction 53 = .ok (.istore 7, 2) := by decide +kernel
theorem dX0_copyAction_55 : decode cX0_copyAction 55 = .ok (.iload 7, 2) := by decide +kernel
theorem dX0_copyAction_57 : decode cX0_copyAction 57 = .ok (.iconst 4, 1) := by decide +kernel
theorem dX0_copyAction_58 : decode cX0_copyAction 58 = .ok (.if_icmp .ge 63, 3) := by decide +kernel
theorem dX0_copyAction_61 : decode cX0_copyAction 61 = .ok (.aload_n 0, 1) := by decide +kernel
theorem dX0_copyAction_62 : decode cX0_copyAction 62 = .ok (.getfield 13, 3) := by decide +kernel
theorem dX0_copyAction_65 : decode cX0_copyAction 65 = .ok (.iconst 4, 1) := by decide +kernel
theorem dX0_copyAction_66 : decode cX0_copyAction 66 = .ok (.iload 4, 2) := by decide +kernel
theorem dX0_copyAction_68 : decode cX0_copyAction 68 = .ok (.imul, 1) := by decide +kernel
theorem dX0_copyAction_69 : decode cX0_copyAction 69 = .ok (.iload 7, 2) := by decide +kernel
theorem dX0_copyAction_71 : decode cX0_copyAction 71 = .ok (.iadd, 1) := by decide +kernel
theorem dX0_copyAction_72 : decode cX0_copyAction 72 = .ok (.baload, 1) := by decide +kernel
theorem dX0_copyAction_73 : decode cX0_copyAction 73 = .ok (.aload_n 0, 1) := by decide +kernel
theorem dX0_copyAction_74 : decode cX0_copyAction 74 = .ok (.getfield 13, 3) := by decide +kernel
theorem dX0_copyAction_77 : decode cX0_copyAction 77 = .ok (.iconst 4, 1) := by decide +kernel
theorem dX0_copyAction_78 : decode cX0_copyAction 78 = .ok (.iload 5, 2) := by decide +kernel
theorem dX0_copyAction_80 : decode cX0_copyAction 80 = .ok (.imul, 1) := by decide +kernel
theorem dX0_copyAction_81 : decode cX0_copyAction 81 = .ok (.iload 7, 2) := by decide +kernel
theorem dX0_copyAction_83 : decode cX0_copyAction 83 = .ok (.iadd, 1) := by decide +kernel
theorem dX0_copyAction_84 : decode cX0_copyAction 84 = .ok (.baload, 1) := by decide +kernel
theorem dX0_copyAction_85 : decode cX0_copyAction 85 = .ok (.if_icmp .eq 6, 3) := by decide +kernel
theorem dX0_copyAction_88 : decode cX0_copyAction 88 = .ok (.iconst 1, 1) := by decide +kernel
theorem dX0_copyAction_89 : decode cX0_copyAction 89 = .ok (.istore 6, 2) := by decide +kernel
theorem dX0_copyAction_91 : decode cX0_copyAction 91 = .ok (.aload_n 0, 1) := by decide +kernel
theorem dX0_copyAction_92 : decode cX0_copyAction 92 = .ok (.getfield 13, 3) := by decide +kernel
theorem dX0_copyAction_95 : decode cX0_copyAction 95 = .ok (.iconst 4, 1) := by decide +kernel
theorem dX0_copyAction_96 : decode cX0_copyAction 96 = .ok (.iload 5, 2) := by decide +kernel
theorem dX0_copyAction_98 : decode cX0_copyAction 98 = .ok (.imul, 1) := by decide +kernel
theorem dX0_copyAction_99 : decode cX0_copyAction 99 = .ok (.iload 7, 2) := by decide +kernel
theorem dX0_copyAction_101 : decode cX0_copyAction 101 = .ok (.iadd, 1) := by decide +kernel
theorem dX0_copyAction_102 : decode cX0_copyAction 102 = .ok (.aload_n 0, 1) := by decide +kernel
theorem dX0_copyAction_103 : decode cX0_copyAction 103 = .ok (.getfield 13, 3) := by decide +kernel
theorem dX0_copyAction_106 : decode cX0_copyAction 106 = .ok (.iconst 4, 1) := by decide +kernel
theorem dX0_copyAction_107 : decode cX0_copyAction 107 = .ok (.iload 4, 2) := by decide +kernel
theorem dX0_copyAction_109 : decode cX0_copyAction 109 = .ok (.imul, 1) := by decide +kernel
theorem dX0_copyAction_110 : decode cX0_copyAction 110 = .ok (.iload 7, 2) := by decide +kernel
theorem dX0_copyAction_112 : decode cX0_copyAction 112 = .ok (.iadd, 1) := by decide +kernel
theorem dX0_copyAction_113 : decode cX0_copyAction 113 = .ok (.baload, 1) := by decide +kernel
theorem dX0_copyAction_114 : decode cX0_copyAction 114 = .ok (.bastore, 1) := by decide +kernel
theorem dX0_copyAction_115 : decode cX0_copyAction 115 = .ok (.iinc 7 1, 3) := by decide +kernel
theorem dX0_copyAction_118 : decode cX0_copyAction 118 = .ok (.goto (-63), 3) := by decide +kernel
theorem dX0_copyAction_121 : decode cX0_copyAction 121 = .ok (.iload 6, 2) := by decide +kernel
theorem dX0_copyAction_123 : decode cX0_copyAction 123 = .ok (.ireturn, 1) := by decide +kernel
abbrev cX0_compare : ByteArray := prog_1_method_15_code
def yX0_compare : MethodName := ⟨RX0, "compare", "(III)I"⟩
theorem dX0_compare_0 : decode cX0_compare 0 = .ok (.aload_n 0, 1) := by decide +kernel
theorem dX0_compare_1 : decode cX0_compare 1 = .ok (.iload_n 1, 1) := by decide +kernel
theorem dX0_compare_2 : decode cX0_compare 2 = .ok (.invokevirtual 40, 3) := by decide +kernel
theorem dX0_compare_5 : decode cX0_compare 5 = .ok (.ifCond .eq 19, 3) := by decide +kernel
theorem dX0_compare_8 : decode cX0_compare 8 = .ok (.aload_n 0, 1) := by decide +kernel
theorem dX0_compare_9 : decode cX0_compare 9 = .ok (.iload_n 2, 1) := by decide +kernel
theorem dX0_compare_10 : decode cX0_compare 10 = .ok (.invokevirtual 40, 3) := by decide +kernel
theorem dX0_compare_13 : decode cX0_compare 13 = .ok (.ifCond .eq 11, 3) := by decide +kernel
theorem dX0_compare_16 : decode cX0_compare 16 = .ok (.aload_n 0, 1) := by decide +kernel
theorem dX0_compare_17 : decode cX0_compare 17 = .ok (.iload_n 3, 1) := by decide +kernel
theorem dX0_compare_18 : decode cX0_compare 18 = .ok (.invokevirtual 32, 3) := by decide +kernel
theorem dX0_compare_21 : decode cX0_compare 21 = .ok (.ifCond .ne 6, 3) := by decide +kernel
theorem dX0_compare_24 : decode cX0_compare 24 = .ok (.bipush (-2), 2) := by decide +kernel
theorem dX0_compare_26 : decode cX0_compare 26 = .ok (.ireturn, 1) := by decide +kernel
theorem dX0_compare_27 : decode cX0_compare 27 = .ok (.aload_n 0, 1) := by decide +kernel
theorem dX0_compare_28 : decode cX0_compare 28 = .ok (.iload_n 1, 1) := by decide +kernel
theorem dX0_compare_29 : decode cX0_compare 29 = .ok (.invokevirtual 44, 3) := by decide +kernel
theorem dX0_compare_32 : decode cX0_compare 32 = .ok (.aload_n 0, 1) := by decide +kernel
theorem dX0_compare_33 : decode cX0_compare 33 = .ok (.invokevirtual 69, 3) := by decide +kernel
theorem dX0_compare_36 : decode cX0_compare 36 = .ok (.aload_n 0, 1) := by decide +kernel
theorem dX0_compare_37 : decode cX0_compare 37 = .ok (.iload_n 2, 1) := by decide +kernel
theorem dX0_compare_38 : decode cX0_compare 38 = .ok (.invokevirtual 44, 3) := by decide +kernel
theorem dX0_compare_41 : decode cX0_compare 41 = .ok (.aload_n 0, 1) := by decide +kernel
theorem dX0_compare_42 : decode cX0_compare 42 = .ok (.getfield 23, 3) := by decide +kernel
theorem dX0_compare_45 : decode cX0_compare 45 = .ok (.iload_n 3, 1) := by decide +kernel
theorem dX0_compare_46 : decode cX0_compare 46 = .ok (.laload, 1) := by decide +kernel
theorem dX0_compare_47 : decode cX0_compare 47 = .ok (.aload_n 0, 1) := by decide +kernel
theorem dX0_compare_48 : decode cX0_compare 48 = .ok (.getfield 48, 3) := by decide +kernel
theorem dX0_compare_51 : decode cX0_compare 51 = .ok (.lmul, 1) := by decide +kernel
theorem dX0_compare_52 : decode cX0_compare 52 = .ok (.lstore 4, 2) := by decide +kernel
theorem dX0_compare_54 : decode cX0_compare 54 = .ok (.aload_n 0, 1) := by decide +kernel
theorem dX0_compare_55 : decode cX0_compare 55 = .ok (.getfield 20, 3) := by decide +kernel
theorem dX0_compare_58 : decode cX0_compare 58 = .ok (.iload_n 3, 1) := by decide +kernel
theorem dX0_compare_59 : decode cX0_compare 59 = .ok (.laload, 1) := by decide +kernel
theorem dX0_compare_60 : decode cX0_compare 60 = .ok (.aload_n 0, 1) := by decide +kernel
theorem dX0_compare_61 : decode cX0_compare 61 = .ok (.getfield 72, 3) := by decide +kernel
theorem dX0_compare_64 : decode cX0_compare 64 = .ok (.lmul, 1) := by decide +kernel
theorem dX0_compare_65 : decode cX0_compare 65 = .ok (.lstore 6, 2) := by decide +kernel
theorem dX0_compare_67 : decode cX0_compare 67 = .ok (.lload 4, 2) := by decide +kernel
theorem dX0_compare_69 : decode cX0_compare 69 = .ok (.lload 6, 2) := by decide +kernel
theorem dX0_compare_71 : decode cX0_compare 71 = .ok (.lcmp, 1) := by decide +kernel
theorem dX0_compare_72 : decode cX0_compare 72 = .ok (.ifCond .ge 7, 3) := by decide +kernel
theorem dX0_compare_75 : decode cX0_compare 75 = .ok (.iconst (-1), 1) := by decide +kernel
theorem dX0_compare_76 : decode cX0_compare 76 = .ok (.goto 16, 3) := by decide +kernel
theorem dX0_compare_79 : decode cX0_compare 79 = .ok (.lload 4, 2) := by decide +kernel
theorem dX0_compare_81 : decode cX0_compare 81 = .ok (.lload 6, 2) := by decide +kernel
theorem dX0_compare_83 : decode cX0_compare 83 = .ok (.lcmp, 1) := by decide +kernel
theorem dX0_compare_84 : decode cX0_compare 84 = .ok (.ifCond .le 7, 3) := by decide +kernel
theorem dX0_compare_87 : decode cX0_compare 87 = .ok (.iconst 1, 1) := by decide +kernel
theorem dX0_compare_88 : decode cX0_compare 88 = .ok (.goto 4, 3) := by decide +kernel
theorem dX0_compare_91 : decode cX0_compare 91 = .ok (.iconst 0, 1) := by decide +kernel
theorem dX0_compare_92 : decode cX0_compare 92 = .ok (.ireturn, 1) := by decide +kernel
abbrev cX0_keepValues : ByteArray := prog_1_method_16_code
def yX0_keepValues : MethodName := ⟨RX0, "keepValues", "()V"⟩
theorem dX0_keepValues_0 : decode cX0_keepValues 0 = .ok (.iconst 0, 1) := by decide +kernel
theorem dX0_keepValues_1 : decode cX0_keepValues 1 = .ok (.istore_n 1, 1) := by decide +kernel
theorem dX0_keepValues_2 : decode cX0_keepValues 2 = .ok (.iload_n 1, 1) := by decide +kernel
theorem dX0_keepValues_3 : decode cX0_keepValues 3 = .ok (.iconst 4, 1) := by decide +kernel
theorem dX0_keepValues_4 : decode cX0_keepValues 4 = .ok (.if_icmp .ge 21, 3) := by decide +kernel
theorem dX0_keepValues_7 : decode cX0_keepValues 7 = .ok (.aload_n 0, 1) := by decide +kernel
theorem dX0_keepValues_8 : decode cX0_keepValues 8 = .ok (.getfield 23, 3) := by decide +kernel
theorem dX0_keepValues_11 : decode cX0_keepValues 11 = .ok (.iload_n 1, 1) := by decide +kernel
theorem dX0_keepValues_12 : decode cX0_keepValues 12 = .ok (.aload_n 0, 1) := by decide +kernel
theorem dX0_keepValues_13 : decode cX0_keepValues 13 = .ok (.getfield 20, 3) := by decide +kernel
theorem dX0_keepValues_16 : decode cX0_keepValues 16 = .ok (.iload_n 1, 1) := by decide +kernel
theorem dX0_keepValues_17 : decode cX0_keepValues 17 = .ok (.laload, 1) := by decide +kernel
theorem dX0_keepValues_18 : decode cX0_keepValues 18 = .ok (.lastore, 1) := by decide +kernel
theorem dX0_keepValues_19 : decode cX0_keepValues 19 = .ok (.iinc 1 1, 3) := by decide +kernel
theorem dX0_keepValues_22 : decode cX0_keepValues 22 = .ok (.goto (-20), 3) := by decide +kernel
theorem dX0_keepValues_25 : decode cX0_keepValues 25 = .ok (.aload_n 0, 1) := by decide +kernel
theorem dX0_keepValues_26 : decode cX0_keepValues 26 = .ok (.aload_n 0, 1) := by decide +kernel
theorem dX0_keepValues_27 : decode cX0_keepValues 27 = .ok (.getfield 48, 3) := by decide +kernel
theorem dX0_keepValues_30 : decode cX0_keepValues 30 = .ok (.putfield 72, 3) := by decide +kernel
theorem dX0_keepValues_33 : decode cX0_keepValues 33 = .ok (.return_, 1) := by decide +kernel
theorem q27 : (Jvm.Cond.initialized "PolicySolver") ∈ lw_all := lw_g (lw_at lw_m1 1 rfl) rfl
theorem q30 : (Jvm.Cond.instantiable "PolicySolver" (12 : Nat)) ∈ lw_all := lw_g (lw_at lw_m1 4 rfl) rfl
theorem q32 : (Jvm.Cond.instanceMethod ({ cls := "PolicySolver", name := "<init>", desc := "()V" } : Jvm.MethodName)) ∈ lw_all := lw_g (lw_at lw_m1 6 rfl) rfl
theorem q33 : (Jvm.Cond.code ({ cls := "PolicySolver", name := "<init>", desc := "()V" } : Jvm.MethodName) prog_1_method_1_code (3 : Nat) (Option.none : Option Jvm.ClassFile.FieldType)) ∈ lw_all := lw_g (lw_at lw_m1 7 rfl) rfl
theorem q34 : (Jvm.Cond.methodLink "PolicySolver" (1 : Nat) ({ cls := "java/lang/Object", name := "<init>", desc := "()V" } : Jvm.MethodName)) ∈ lw_all := lw_g (lw_at lw_m1 8 rfl) rfl
theorem q37 : (Jvm.Cond.fieldLink "PolicySolver" (7 : Nat) "PolicySolver" "rewards" "[B") ∈ lw_all := lw_g (lw_at lw_m1 11 rfl) rfl
theorem q38 : (Jvm.Cond.fieldLink "PolicySolver" (13 : Nat) "PolicySolver" "shareOf" "[B") ∈ lw_all := lw_g (lw_at lw_m1 12 rfl) rfl
theorem q39 : (Jvm.Cond.fieldLink "PolicySolver" (16 : Nat) "PolicySolver" "rows" "[J") ∈ lw_all := lw_g (lw_at lw_m1 13 rfl) rfl
theorem q40 : (Jvm.Cond.fieldLink "PolicySolver" (20 : Nat) "PolicySolver" "tops" "[J") ∈ lw_all := lw_g (lw_at lw_m1 14 rfl) rfl
theorem q41 : (Jvm.Cond.fieldLink "PolicySolver" (48 : Nat) "PolicySolver" "bottom" "J") ∈ lw_all := lw_g (lw_at lw_m1 15 rfl) rfl
theorem q42 : (Jvm.Cond.fieldLink "PolicySolver" (23 : Nat) "PolicySolver" "keptTops" "[J") ∈ lw_all := lw_g (lw_at lw_m1 16 rfl) rfl
theorem q43 : (Jvm.Cond.fieldLink "PolicySolver" (72 : Nat) "PolicySolver" "keptBottom" "J") ∈ lw_all := lw_g (lw_at lw_m1 17 rfl) rfl
theorem q44 : (Jvm.Cond.fieldLink "PolicySolver" (36 : Nat) "PolicySolver" "solved" "Z") ∈ lw_all := lw_g (lw_at lw_m1 18 rfl) rfl
theorem q45 : (Jvm.Cond.fieldLink "PolicySolver" (88 : Nat) "PolicySolver" "bestPolicy" "I") ∈ lw_all := lw_g (lw_at lw_m1 19 rfl) rfl
theorem q46 : (Jvm.Cond.fieldLink "PolicySolver" (26 : Nat) "PolicySolver" "bestTops" "[J") ∈ lw_all := lw_g (lw_at lw_m1 20 rfl) rfl
theorem q47 : (Jvm.Cond.fieldLink "PolicySolver" (62 : Nat) "PolicySolver" "bestDenominator" "J") ∈ lw_all := lw_g (lw_at lw_m1 21 rfl) rfl
theorem q48 : (Jvm.Cond.fieldLink "PolicySolver" (29 : Nat) "PolicySolver" "goodActions" "[B") ∈ lw_all := lw_g (lw_at lw_m1 22 rfl) rfl
theorem q49 : (Jvm.Cond.laysFinal "PolicySolver" "PolicySolver" "rewards" "[B") ∈ lw_all := lw_g (lw_at lw_m1 23 rfl) rfl
theorem q50 : (Jvm.Cond.soleField "PolicySolver" "rewards") ∈ lw_all := lw_g (lw_at lw_m1 24 rfl) rfl
theorem q51 : (Jvm.Cond.laysFinal "PolicySolver" "PolicySolver" "shareOf" "[B") ∈ lw_all := lw_g (lw_at lw_m1 25 rfl) rfl
theorem q52 : (Jvm.Cond.soleField "PolicySolver" "shareOf") ∈ lw_all := lw_g (lw_at lw_m1 26 rfl) rfl
theorem q53 : (Jvm.Cond.laysFinal "PolicySolver" "PolicySolver" "rows" "[J") ∈ lw_all := lw_g (lw_at lw_m1 27 rfl) rfl
theorem q54 : (Jvm.Cond.soleField "PolicySolver" "rows") ∈ lw_all := lw_g (lw_at lw_m1 28 rfl) rfl
theorem q55 : (Jvm.Cond.laysFinal "PolicySolver" "PolicySolver" "tops" "[J") ∈ lw_all := lw_g (lw_at lw_m1 29 rfl) rfl
theorem q56 : (Jvm.Cond.soleField "PolicySolver" "tops") ∈ lw_all := lw_g (lw_at lw_m1 30 rfl) rfl
theorem q57 : (Jvm.Cond.lays "PolicySolver" "PolicySolver" "bottom" "J") ∈ lw_all := lw_g (lw_at lw_m1 31 rfl) rfl
theorem q58 : (Jvm.Cond.soleField "PolicySolver" "bottom") ∈ lw_all := lw_g (lw_at lw_m1 32 rfl) rfl
theorem q59 : (Jvm.Cond.laysFinal "PolicySolver" "PolicySolver" "keptTops" "[J") ∈ lw_all := lw_g (lw_at lw_m1 33 rfl) rfl
theorem q60 : (Jvm.Cond.soleField "PolicySolver" "keptTops") ∈ lw_all := lw_g (lw_at lw_m1 34 rfl) rfl
theorem q61 : (Jvm.Cond.lays "PolicySolver" "PolicySolver" "keptBottom" "J") ∈ lw_all := lw_g (lw_at lw_m1 35 rfl) rfl
theorem q62 : (Jvm.Cond.soleField "PolicySolver" "keptBottom") ∈ lw_all := lw_g (lw_at lw_m1 36 rfl) rfl
theorem q63 : (Jvm.Cond.lays "PolicySolver" "PolicySolver" "solved" "Z") ∈ lw_all := lw_g (lw_at lw_m1 37 rfl) rfl
theorem q64 : (Jvm.Cond.soleField "PolicySolver" "solved") ∈ lw_all := lw_g (lw_at lw_m1 38 rfl) rfl
theorem q65 : (Jvm.Cond.lays "PolicySolver" "PolicySolver" "bestPolicy" "I") ∈ lw_all := lw_g (lw_at lw_m1 39 rfl) rfl
theorem q66 : (Jvm.Cond.soleField "PolicySolver" "bestPolicy") ∈ lw_all := lw_g (lw_at lw_m1 40 rfl) rfl
theorem q67 : (Jvm.Cond.laysFinal "PolicySolver" "PolicySolver" "bestTops" "[J") ∈ lw_all := lw_g (lw_at lw_m1 41 rfl) rfl
theorem q68 : (Jvm.Cond.soleField "PolicySolver" "bestTops") ∈ lw_all := lw_g (lw_at lw_m1 42 rfl) rfl
theorem q69 : (Jvm.Cond.lays "PolicySolver" "PolicySolver" "bestDenominator" "J") ∈ lw_all := lw_g (lw_at lw_m1 43 rfl) rfl
theorem q70 : (Jvm.Cond.soleField "PolicySolver" "bestDenominator") ∈ lw_all := lw_g (lw_at lw_m1 44 rfl) rfl
theorem q71 : (Jvm.Cond.laysFinal "PolicySolver" "PolicySolver" "goodActions" "[B") ∈ lw_all := lw_g (lw_at lw_m1 45 rfl) rfl
theorem q72 : (Jvm.Cond.soleField "PolicySolver" "goodActions") ∈ lw_all := lw_g (lw_at lw_m1 46 rfl) rfl
theorem q73 : (Jvm.Cond.superclass "PolicySolver" "java/lang/Object") ∈ lw_all := lw_g (lw_at lw_m1 47 rfl) rfl
theorem q77 : (Jvm.Cond.instanceMethod ({ cls := "PolicySolver", name := "reward", desc := "(III)Z" } : Jvm.MethodName)) ∈ lw_all := lw_g (lw_at lw_m1 51 rfl) rfl
theorem q78 : (Jvm.Cond.selects "PolicySolver" ({ cls := "PolicySolver", name := "reward", desc := "(III)Z" } : Jvm.MethodName) ({ cls := "PolicySolver", name := "reward", desc := "(III)Z" } : Jvm.MethodName)) ∈ lw_all := lw_g (lw_at lw_m1 52 rfl) rfl
theorem q79 : (Jvm.Cond.code ({ cls := "PolicySolver", name := "reward", desc := "(III)Z" } : Jvm.MethodName) prog_1_method_2_code (4 : Nat) (Option.some Jvm.ClassFile.FieldType.boolean)) ∈ lw_all := lw_g (lw_at lw_m1 53 rfl) rfl
theorem q80 : (Jvm.Cond.methodLink "PolicySolver" (32 : Nat) ({ cls := "PolicySolver", name := "isState", desc := "(I)Z" } : Jvm.MethodName)) ∈ lw_all := lw_g (lw_at lw_m1 54 rfl) rfl
theorem q81 : (Jvm.Cond.privateMethod ({ cls := "PolicySolver", name := "isState", desc := "(I)Z" } : Jvm.MethodName)) ∈ lw_tbl := lw_at lw_m1 55 rfl
theorem q82 : (Jvm.Cond.instanceMethod ({ cls := "PolicySolver", name := "isState", desc := "(I)Z" } : Jvm.MethodName)) ∈ lw_all := lw_g (lw_at lw_m1 56 rfl) rfl
theorem q83 : (Jvm.Cond.code ({ cls := "PolicySolver", name := "isState", desc := "(I)Z" } : Jvm.MethodName) prog_1_method_4_code (2 : Nat) (Option.some Jvm.ClassFile.FieldType.boolean)) ∈ lw_all := lw_g (lw_at lw_m1 57 rfl) rfl
theorem q85 : (Jvm.Cond.instanceMethod ({ cls := "PolicySolver", name := "shares", desc := "(III)Z" } : Jvm.MethodName)) ∈ lw_all := lw_g (lw_at lw_m1 59 rfl) rfl
theorem q86 : (Jvm.Cond.selects "PolicySolver" ({ cls := "PolicySolver", name := "shares", desc := "(III)Z" } : Jvm.MethodName) ({ cls := "PolicySolver", name := "shares", desc := "(III)Z" } : Jvm.MethodName)) ∈ lw_all := lw_g (lw_at lw_m1 60 rfl) rfl
theorem q87 : (Jvm.Cond.code ({ cls := "PolicySolver", name := "shares", desc := "(III)Z" } : Jvm.MethodName) prog_1_method_3_code (7 : Nat) (Option.some Jvm.ClassFile.FieldType.boolean)) ∈ lw_all := lw_g (lw_at lw_m1 61 rfl) rfl
theorem q89 : (Jvm.Cond.instanceMethod ({ cls := "PolicySolver", name := "valueTop", desc := "(II)I" } : Jvm.MethodName)) ∈ lw_all := lw_g (lw_at lw_m1 63 rfl) rfl
theorem q90 : (Jvm.Cond.selects "PolicySolver" ({ cls := "PolicySolver", name := "valueTop", desc := "(II)I" } : Jvm.MethodName) ({ cls := "PolicySolver", name := "valueTop", desc := "(II)I" } : Jvm.MethodName)) ∈ lw_all := lw_g (lw_at lw_m1 64 rfl) rfl
theorem q91 : (Jvm.Cond.code ({ cls := "PolicySolver", name := "valueTop", desc := "(II)I" } : Jvm.MethodName) prog_1_method_6_code (3 : Nat) (Option.some Jvm.ClassFile.FieldType.int)) ∈ lw_all := lw_g (lw_at lw_m1 65 rfl) rfl
theorem q92 : (Jvm.Cond.methodLink "PolicySolver" (40 : Nat) ({ cls := "PolicySolver", name := "isPolicy", desc := "(I)Z" } : Jvm.MethodName)) ∈ lw_all := lw_g (lw_at lw_m1 66 rfl) rfl
theorem q93 : (Jvm.Cond.privateMethod ({ cls := "PolicySolver", name := "isPolicy", desc := "(I)Z" } : Jvm.MethodName)) ∈ lw_tbl := lw_at lw_m1 67 rfl
theorem q94 : (Jvm.Cond.instanceMethod ({ cls := "PolicySolver", name := "isPolicy", desc := "(I)Z" } : Jvm.MethodName)) ∈ lw_all := lw_g (lw_at lw_m1 68 rfl) rfl
theorem q95 : (Jvm.Cond.code ({ cls := "PolicySolver", name := "isPolicy", desc := "(I)Z" } : Jvm.MethodName) prog_1_method_5_code (2 : Nat) (Option.some Jvm.ClassFile.FieldType.boolean)) ∈ lw_all := lw_g (lw_at lw_m1 69 rfl) rfl
theorem q96 : (Jvm.Cond.constant "PolicySolver" (43 : Nat) (-1000000 : Int32)) ∈ lw_all := lw_g (lw_at lw_m1 70 rfl) rfl
theorem q97 : (Jvm.Cond.methodLink "PolicySolver" (44 : Nat) ({ cls := "PolicySolver", name := "evaluate", desc := "(I)V" } : Jvm.MethodName)) ∈ lw_all := lw_g (lw_at lw_m1 71 rfl) rfl
theorem q98 : (Jvm.Cond.privateMethod ({ cls := "PolicySolver", name := "evaluate", desc := "(I)V" } : Jvm.MethodName)) ∈ lw_tbl := lw_at lw_m1 72 rfl
theorem q99 : (Jvm.Cond.instanceMethod ({ cls := "PolicySolver", name := "evaluate", desc := "(I)V" } : Jvm.MethodName)) ∈ lw_all := lw_g (lw_at lw_m1 73 rfl) rfl
theorem q100 : (Jvm.Cond.code ({ cls := "PolicySolver", name := "evaluate", desc := "(I)V" } : Jvm.MethodName) prog_1_method_21_code (6 : Nat) (Option.none : Option Jvm.ClassFile.FieldType)) ∈ lw_all := lw_g (lw_at lw_m1 74 rfl) rfl
theorem q101 : (Jvm.Cond.methodLink "PolicySolver" (81 : Nat) ({ cls := "PolicySolver", name := "fillRows", desc := "(I)V" } : Jvm.MethodName)) ∈ lw_all := lw_g (lw_at lw_m1 75 rfl) rfl
theorem q102 : (Jvm.Cond.privateMethod ({ cls := "PolicySolver", name := "fillRows", desc := "(I)V" } : Jvm.MethodName)) ∈ lw_tbl := lw_at lw_m1 76 rfl
theorem q103 : (Jvm.Cond.instanceMethod ({ cls := "PolicySolver", name := "fillRows", desc := "(I)V" } : Jvm.MethodName)) ∈ lw_all := lw_g (lw_at lw_m1 77 rfl) rfl
theorem q104 : (Jvm.Cond.code ({ cls := "PolicySolver", name := "fillRows", desc := "(I)V" } : Jvm.MethodName) prog_1_method_20_code (5 : Nat) (Option.none : Option Jvm.ClassFile.FieldType)) ∈ lw_all := lw_g (lw_at lw_m1 78 rfl) rfl
theorem q105 : (Jvm.Cond.constantLong "PolicySolver" (79 : Nat) (8 : Int64)) ∈ lw_all := lw_g (lw_at lw_m1 79 rfl) rfl
theorem q106 : (Jvm.Cond.methodLink "PolicySolver" (84 : Nat) ({ cls := "PolicySolver", name := "reduce", desc := "(IIJ)V" } : Jvm.MethodName)) ∈ lw_all := lw_g (lw_at lw_m1 80 rfl) rfl
theorem q107 : (Jvm.Cond.privateMethod ({ cls := "PolicySolver", name := "reduce", desc := "(IIJ)V" } : Jvm.MethodName)) ∈ lw_tbl := lw_at lw_m1 81 rfl
theorem q108 : (Jvm.Cond.instanceMethod ({ cls := "PolicySolver", name := "reduce", desc := "(IIJ)V" } : Jvm.MethodName)) ∈ lw_all := lw_g (lw_at lw_m1 82 rfl) rfl
theorem q109 : (Jvm.Cond.code ({ cls := "PolicySolver", name := "reduce", desc := "(IIJ)V" } : Jvm.MethodName) prog_1_method_22_code (10 : Nat) (Option.none : Option Jvm.ClassFile.FieldType)) ∈ lw_all := lw_g (lw_at lw_m1 83 rfl) rfl
theorem q110 : (Jvm.Cond.methodLink "PolicySolver" (52 : Nat) ({ cls := "PolicySolver", name := "lowestTop", desc := "(JJ)I" } : Jvm.MethodName)) ∈ lw_all := lw_g (lw_at lw_m1 84 rfl) rfl
theorem q111 : (Jvm.Cond.privateMethod ({ cls := "PolicySolver", name := "lowestTop", desc := "(JJ)I" } : Jvm.MethodName)) ∈ lw_tbl := lw_at lw_m1 85 rfl
theorem q112 : (Jvm.Cond.instanceMethod ({ cls := "PolicySolver", name := "lowestTop", desc := "(JJ)I" } : Jvm.MethodName)) ∈ lw_all := lw_g (lw_at lw_m1 86 rfl) rfl
theorem q113 : (Jvm.Cond.code ({ cls := "PolicySolver", name := "lowestTop", desc := "(JJ)I" } : Jvm.MethodName) prog_1_method_18_code (7 : Nat) (Option.some Jvm.ClassFile.FieldType.int)) ∈ lw_all := lw_g (lw_at lw_m1 87 rfl) rfl
theorem q114 : (Jvm.Cond.methodLink "PolicySolver" (75 : Nat) ({ cls := "PolicySolver", name := "commonDivisor", desc := "(JJ)J" } : Jvm.MethodName)) ∈ lw_all := lw_g (lw_at lw_m1 88 rfl) rfl
theorem q115 : (Jvm.Cond.privateMethod ({ cls := "PolicySolver", name := "commonDivisor", desc := "(JJ)J" } : Jvm.MethodName)) ∈ lw_tbl := lw_at lw_m1 89 rfl
theorem q116 : (Jvm.Cond.instanceMethod ({ cls := "PolicySolver", name := "commonDivisor", desc := "(JJ)J" } : Jvm.MethodName)) ∈ lw_all := lw_g (lw_at lw_m1 90 rfl) rfl
theorem q117 : (Jvm.Cond.code ({ cls := "PolicySolver", name := "commonDivisor", desc := "(JJ)J" } : Jvm.MethodName) prog_1_method_17_code (11 : Nat) (Option.some Jvm.ClassFile.FieldType.long)) ∈ lw_all := lw_g (lw_at lw_m1 91 rfl) rfl
theorem q119 : (Jvm.Cond.instanceMethod ({ cls := "PolicySolver", name := "valueBottom", desc := "(II)I" } : Jvm.MethodName)) ∈ lw_all := lw_g (lw_at lw_m1 93 rfl) rfl
theorem q120 : (Jvm.Cond.selects "PolicySolver" ({ cls := "PolicySolver", name := "valueBottom", desc := "(II)I" } : Jvm.MethodName) ({ cls := "PolicySolver", name := "valueBottom", desc := "(II)I" } : Jvm.MethodName)) ∈ lw_all := lw_g (lw_at lw_m1 94 rfl) rfl
theorem q121 : (Jvm.Cond.code ({ cls := "PolicySolver", name := "valueBottom", desc := "(II)I" } : Jvm.MethodName) prog_1_method_7_code (3 : Nat) (Option.some Jvm.ClassFile.FieldType.int)) ∈ lw_all := lw_g (lw_at lw_m1 95 rfl) rfl
theorem q122 : (Jvm.Cond.methodLink "PolicySolver" (56 : Nat) ({ cls := "PolicySolver", name := "lowestBottom", desc := "(JJ)I" } : Jvm.MethodName)) ∈ lw_all := lw_g (lw_at lw_m1 96 rfl) rfl
theorem q123 : (Jvm.Cond.privateMethod ({ cls := "PolicySolver", name := "lowestBottom", desc := "(JJ)I" } : Jvm.MethodName)) ∈ lw_tbl := lw_at lw_m1 97 rfl
theorem q124 : (Jvm.Cond.instanceMethod ({ cls := "PolicySolver", name := "lowestBottom", desc := "(JJ)I" } : Jvm.MethodName)) ∈ lw_all := lw_g (lw_at lw_m1 98 rfl) rfl
theorem q125 : (Jvm.Cond.code ({ cls := "PolicySolver", name := "lowestBottom", desc := "(JJ)I" } : Jvm.MethodName) prog_1_method_19_code (7 : Nat) (Option.some Jvm.ClassFile.FieldType.int)) ∈ lw_all := lw_g (lw_at lw_m1 99 rfl) rfl
theorem q127 : (Jvm.Cond.instanceMethod ({ cls := "PolicySolver", name := "bestTop", desc := "(I)I" } : Jvm.MethodName)) ∈ lw_all := lw_g (lw_at lw_m1 101 rfl) rfl
theorem q128 : (Jvm.Cond.selects "PolicySolver" ({ cls := "PolicySolver", name := "bestTop", desc := "(I)I" } : Jvm.MethodName) ({ cls := "PolicySolver", name := "bestTop", desc := "(I)I" } : Jvm.MethodName)) ∈ lw_all := lw_g (lw_at lw_m1 102 rfl) rfl
theorem q129 : (Jvm.Cond.code ({ cls := "PolicySolver", name := "bestTop", desc := "(I)I" } : Jvm.MethodName) prog_1_method_8_code (2 : Nat) (Option.some Jvm.ClassFile.FieldType.int)) ∈ lw_all := lw_g (lw_at lw_m1 103 rfl) rfl
theorem q130 : (Jvm.Cond.methodLink "PolicySolver" (59 : Nat) ({ cls := "PolicySolver", name := "solve", desc := "()V" } : Jvm.MethodName)) ∈ lw_all := lw_g (lw_at lw_m1 104 rfl) rfl
theorem q131 : (Jvm.Cond.privateMethod ({ cls := "PolicySolver", name := "solve", desc := "()V" } : Jvm.MethodName)) ∈ lw_tbl := lw_at lw_m1 105 rfl
theorem q132 : (Jvm.Cond.instanceMethod ({ cls := "PolicySolver", name := "solve", desc := "()V" } : Jvm.MethodName)) ∈ lw_all := lw_g (lw_at lw_m1 106 rfl) rfl
theorem q133 : (Jvm.Cond.code ({ cls := "PolicySolver", name := "solve", desc := "()V" } : Jvm.MethodName) prog_1_method_24_code (4 : Nat) (Option.none : Option Jvm.ClassFile.FieldType)) ∈ lw_all := lw_g (lw_at lw_m1 107 rfl) rfl
theorem q134 : (Jvm.Cond.methodLink "PolicySolver" (92 : Nat) ({ cls := "PolicySolver", name := "improve", desc := "()Z" } : Jvm.MethodName)) ∈ lw_all := lw_g (lw_at lw_m1 108 rfl) rfl
theorem q135 : (Jvm.Cond.privateMethod ({ cls := "PolicySolver", name := "improve", desc := "()Z" } : Jvm.MethodName)) ∈ lw_tbl := lw_at lw_m1 109 rfl
theorem q136 : (Jvm.Cond.instanceMethod ({ cls := "PolicySolver", name := "improve", desc := "()Z" } : Jvm.MethodName)) ∈ lw_all := lw_g (lw_at lw_m1 110 rfl) rfl
theorem q137 : (Jvm.Cond.code ({ cls := "PolicySolver", name := "improve", desc := "()Z" } : Jvm.MethodName) prog_1_method_25_code (8 : Nat) (Option.some Jvm.ClassFile.FieldType.boolean)) ∈ lw_all := lw_g (lw_at lw_m1 111 rfl) rfl
theorem q138 : (Jvm.Cond.methodLink "PolicySolver" (96 : Nat) ({ cls := "PolicySolver", name := "gainOf", desc := "(II)J" } : Jvm.MethodName)) ∈ lw_all := lw_g (lw_at lw_m1 112 rfl) rfl
theorem q139 : (Jvm.Cond.privateMethod ({ cls := "PolicySolver", name := "gainOf", desc := "(II)J" } : Jvm.MethodName)) ∈ lw_tbl := lw_at lw_m1 113 rfl
theorem q140 : (Jvm.Cond.instanceMethod ({ cls := "PolicySolver", name := "gainOf", desc := "(II)J" } : Jvm.MethodName)) ∈ lw_all := lw_g (lw_at lw_m1 114 rfl) rfl
theorem q141 : (Jvm.Cond.code ({ cls := "PolicySolver", name := "gainOf", desc := "(II)J" } : Jvm.MethodName) prog_1_method_23_code (7 : Nat) (Option.some Jvm.ClassFile.FieldType.long)) ∈ lw_all := lw_g (lw_at lw_m1 115 rfl) rfl
theorem q143 : (Jvm.Cond.instanceMethod ({ cls := "PolicySolver", name := "bestBottom", desc := "(I)I" } : Jvm.MethodName)) ∈ lw_all := lw_g (lw_at lw_m1 117 rfl) rfl
theorem q144 : (Jvm.Cond.selects "PolicySolver" ({ cls := "PolicySolver", name := "bestBottom", desc := "(I)I" } : Jvm.MethodName) ({ cls := "PolicySolver", name := "bestBottom", desc := "(I)I" } : Jvm.MethodName)) ∈ lw_all := lw_g (lw_at lw_m1 118 rfl) rfl
theorem q145 : (Jvm.Cond.code ({ cls := "PolicySolver", name := "bestBottom", desc := "(I)I" } : Jvm.MethodName) prog_1_method_9_code (2 : Nat) (Option.some Jvm.ClassFile.FieldType.int)) ∈ lw_all := lw_g (lw_at lw_m1 119 rfl) rfl
theorem q147 : (Jvm.Cond.instanceMethod ({ cls := "PolicySolver", name := "policy", desc := "()I" } : Jvm.MethodName)) ∈ lw_all := lw_g (lw_at lw_m1 121 rfl) rfl
theorem q148 : (Jvm.Cond.selects "PolicySolver" ({ cls := "PolicySolver", name := "policy", desc := "()I" } : Jvm.MethodName) ({ cls := "PolicySolver", name := "policy", desc := "()I" } : Jvm.MethodName)) ∈ lw_all := lw_g (lw_at lw_m1 122 rfl) rfl
theorem q149 : (Jvm.Cond.code ({ cls := "PolicySolver", name := "policy", desc := "()I" } : Jvm.MethodName) prog_1_method_10_code (3 : Nat) (Option.some Jvm.ClassFile.FieldType.int)) ∈ lw_all := lw_g (lw_at lw_m1 123 rfl) rfl
theorem q151 : (Jvm.Cond.instanceMethod ({ cls := "PolicySolver", name := "policies", desc := "()I" } : Jvm.MethodName)) ∈ lw_all := lw_g (lw_at lw_m1 125 rfl) rfl
theorem q152 : (Jvm.Cond.selects "PolicySolver" ({ cls := "PolicySolver", name := "policies", desc := "()I" } : Jvm.MethodName) ({ cls := "PolicySolver", name := "policies", desc := "()I" } : Jvm.MethodName)) ∈ lw_all := lw_g (lw_at lw_m1 126 rfl) rfl
theorem q153 : (Jvm.Cond.code ({ cls := "PolicySolver", name := "policies", desc := "()I" } : Jvm.MethodName) prog_1_method_11_code (3 : Nat) (Option.some Jvm.ClassFile.FieldType.int)) ∈ lw_all := lw_g (lw_at lw_m1 127 rfl) rfl
theorem q155 : (Jvm.Cond.instanceMethod ({ cls := "PolicySolver", name := "good", desc := "(II)Z" } : Jvm.MethodName)) ∈ lw_all := lw_g (lw_at lw_m1 129 rfl) rfl
theorem q156 : (Jvm.Cond.selects "PolicySolver" ({ cls := "PolicySolver", name := "good", desc := "(II)Z" } : Jvm.MethodName) ({ cls := "PolicySolver", name := "good", desc := "(II)Z" } : Jvm.MethodName)) ∈ lw_all := lw_g (lw_at lw_m1 130 rfl) rfl
theorem q157 : (Jvm.Cond.code ({ cls := "PolicySolver", name := "good", desc := "(II)Z" } : Jvm.MethodName) prog_1_method_12_code (3 : Nat) (Option.some Jvm.ClassFile.FieldType.boolean)) ∈ lw_all := lw_g (lw_at lw_m1 131 rfl) rfl
theorem q159 : (Jvm.Cond.instanceMethod ({ cls := "PolicySolver", name := "prune", desc := "()I" } : Jvm.MethodName)) ∈ lw_all := lw_g (lw_at lw_m1 133 rfl) rfl
theorem q160 : (Jvm.Cond.selects "PolicySolver" ({ cls := "PolicySolver", name := "prune", desc := "()I" } : Jvm.MethodName) ({ cls := "PolicySolver", name := "prune", desc := "()I" } : Jvm.MethodName)) ∈ lw_all := lw_g (lw_at lw_m1 134 rfl) rfl
theorem q161 : (Jvm.Cond.code ({ cls := "PolicySolver", name := "prune", desc := "()I" } : Jvm.MethodName) prog_1_method_13_code (4 : Nat) (Option.some Jvm.ClassFile.FieldType.int)) ∈ lw_all := lw_g (lw_at lw_m1 135 rfl) rfl
theorem q162 : (Jvm.Cond.methodLink "PolicySolver" (65 : Nat) ({ cls := "PolicySolver", name := "copyAction", desc := "(III)Z" } : Jvm.MethodName)) ∈ lw_all := lw_g (lw_at lw_m1 136 rfl) rfl
theorem q163 : (Jvm.Cond.privateMethod ({ cls := "PolicySolver", name := "copyAction", desc := "(III)Z" } : Jvm.MethodName)) ∈ lw_tbl := lw_at lw_m1 137 rfl
theorem q164 : (Jvm.Cond.instanceMethod ({ cls := "PolicySolver", name := "copyAction", desc := "(III)Z" } : Jvm.MethodName)) ∈ lw_all := lw_g (lw_at lw_m1 138 rfl) rfl
theorem q165 : (Jvm.Cond.code ({ cls := "PolicySolver", name := "copyAction", desc := "(III)Z" } : Jvm.MethodName) prog_1_method_14_code (8 : Nat) (Option.some Jvm.ClassFile.FieldType.boolean)) ∈ lw_all := lw_g (lw_at lw_m1 139 rfl) rfl
theorem q167 : (Jvm.Cond.instanceMethod ({ cls := "PolicySolver", name := "compare", desc := "(III)I" } : Jvm.MethodName)) ∈ lw_all := lw_g (lw_at lw_m1 141 rfl) rfl
theorem q168 : (Jvm.Cond.selects "PolicySolver" ({ cls := "PolicySolver", name := "compare", desc := "(III)I" } : Jvm.MethodName) ({ cls := "PolicySolver", name := "compare", desc := "(III)I" } : Jvm.MethodName)) ∈ lw_all := lw_g (lw_at lw_m1 142 rfl) rfl
theorem q169 : (Jvm.Cond.code ({ cls := "PolicySolver", name := "compare", desc := "(III)I" } : Jvm.MethodName) prog_1_method_15_code (8 : Nat) (Option.some Jvm.ClassFile.FieldType.int)) ∈ lw_all := lw_g (lw_at lw_m1 143 rfl) rfl
theorem q170 : (Jvm.Cond.methodLink "PolicySolver" (69 : Nat) ({ cls := "PolicySolver", name := "keepValues", desc := "()V" } : Jvm.MethodName)) ∈ lw_all := lw_g (lw_at lw_m1 144 rfl) rfl
theorem q171 : (Jvm.Cond.privateMethod ({ cls := "PolicySolver", name := "keepValues", desc := "()V" } : Jvm.MethodName)) ∈ lw_tbl := lw_at lw_m1 145 rfl
theorem q172 : (Jvm.Cond.instanceMethod ({ cls := "PolicySolver", name := "keepValues", desc := "()V" } : Jvm.MethodName)) ∈ lw_all := lw_g (lw_at lw_m1 146 rfl) rfl
theorem q173 : (Jvm.Cond.code ({ cls := "PolicySolver", name := "keepValues", desc := "()V" } : Jvm.MethodName) prog_1_method_16_code (2 : Nat) (Option.none : Option Jvm.ClassFile.FieldType)) ∈ lw_all := lw_g (lw_at lw_m1 147 rfl) rfl
theorem in_X0 : ∀ w ∈ wsX00, w ∈ lw_all := lw_in wsX00 [49, 51, 53, 55, 57, 59, 61, 63, 65, 67, 69, 71] (by decide +kernel) (by decide +kernel)
end
section
/-! PolicySolverModel -/
set_option maxRecDepth 100000
def RX1 : String := "PolicySolverModel"
def TX1 : u_T := fun k => match k with
  | 0 => ("PolicySolverModel", "rewards", "[I", false)
  | 1 => ("PolicySolverModel", "shares", "[I", false)
  | 2 => ("PolicySolverModel", "row", "[J", false)
  | 3 => ("PolicySolverModel", "tops", "[J", false)
  | _ => ("PolicySolverModel", "bottoms", "[J", false)
def tyX1 : Nat → FieldType := fun k => match k with
  | 0 => .array .int
  | 1 => .array .int
  | 2 => .array .long
  | 3 => .array .long
  | _ => .array .long
abbrev wsX10 : List Cond := u_ws RX1 TX1 5
theorem nmX1 : ∀ a, a < 5 → ∀ b, b < 5 → a ≠ b → (TX1 a).2.1 ≠ (TX1 b).2.1 := by decide +kernel
theorem tyX1_ok : ∀ k, k < 5 → parseFieldDescriptor (TX1 k).2.2.1 = some (tyX1 k) := by decide +kernel
abbrev cX1_init : ByteArray := prog_3_method_1_code
def yX1_init : MethodName := ⟨RX1, "<init>", "()V"⟩
theorem dX1_init_0 : decode cX1_init 0 = .ok (.aload_n 0, 1) := by decide +kernel
theorem dX1_init_1 : decode cX1_init 1 = .ok (.invokespecial 1, 3) := by decide +kernel
theorem dX1_init_4 : decode cX1_init 4 = .ok (.aload_n 0, 1) := by decide +kernel
theorem dX1_init_5 : decode cX1_init 5 = .ok (.bipush 8, 2) := by decide +kernel
theorem dX1_init_7 : decode cX1_init 7 = .ok (.newarray .int, 2) := by decide +kernel
theorem dX1_init_9 : decode cX1_init 9 = .ok (.putfield 7, 3) := by decide +kernel
theorem dX1_init_12 : decode cX1_init 12 = .ok (.aload_n 0, 1) := by decide +kernel
theorem dX1_init_13 : decode cX1_init 13 = .ok (.bipush 32, 2) := by decide +kernel
theorem dX1_init_15 : decode cX1_init 15 = .ok (.newarray .int, 2) := by decide +kernel
theorem dX1_init_17 : decode cX1_init 17 = .ok (.putfield 13, 3) := by decide +kernel
theorem dX1_init_20 : decode cX1_init 20 = .ok (.aload_n 0, 1) := by decide +kernel
theorem dX1_init_21 : decode cX1_init 21 = .ok (.bipush 20, 2) := by decide +kernel
theorem dX1_init_23 : decode cX1_init 23 = .ok (.newarray .long, 2) := by decide +kernel
theorem dX1_init_25 : decode cX1_init 25 = .ok (.putfield 16, 3) := by decide +kernel
theorem dX1_init_28 : decode cX1_init 28 = .ok (.aload_n 0, 1) := by decide +kernel
theorem dX1_init_29 : decode cX1_init 29 = .ok (.bipush 64, 2) := by decide +kernel
theorem dX1_init_31 : decode cX1_init 31 = .ok (.newarray .long, 2) := by decide +kernel
theorem dX1_init_33 : decode cX1_init 33 = .ok (.putfield 20, 3) := by decide +kernel
theorem dX1_init_36 : decode cX1_init 36 = .ok (.aload_n 0, 1) := by decide +kernel
theorem dX1_init_37 : decode cX1_init 37 = .ok (.bipush 64, 2) := by decide +kernel
theorem dX1_init_39 : decode cX1_init 39 = .ok (.newarray .long, 2) := by decide +kernel
theorem dX1_init_41 : decode cX1_init 41 = .ok (.putfield 23, 3) := by decide +kernel
theorem dX1_init_44 : decode cX1_init 44 = .ok (.iconst 0, 1) := by decide +kernel
theorem dX1_init_45 : decode cX1_init 45 = .ok (.istore_n 1, 1) := by decide +kernel
theorem dX1_init_46 : decode cX1_init 46 = .ok (.iload_n 1, 1) := by decide +kernel
theorem dX1_init_47 : decode cX1_init 47 = .ok (.bipush 8, 2) := by decide +kernel
theorem dX1_init_49 : decode cX1_init 49 = .ok (.if_icmp .ge 22, 3) := by decide +kernel
theorem dX1_init_52 : decode cX1_init 52 = .ok (.aload_n 0, 1) := by decide +kernel
theorem dX1_init_53 : decode cX1_init 53 = .ok (.getfield 13, 3) := by decide +kernel
theorem dX1_init_56 : decode cX1_init 56 = .ok (.iconst 4, 1) := by decide +kernel
theorem dX1_init_57 : decode cX1_init 57 = .ok (.iload_n 1, 1) := by decide +kernel
theorem dX1_init_58 : decode cX1_init 58 = .ok (.imul, 1) := by decide +kernel
theorem dX1_init_59 : decode cX1_init 59 = .ok (.iload_n 1, 1) := by decide +kernel
theorem dX1_init_60 : decode cX1_init 60 = .ok (.iconst 2, 1) := by decide +kernel
theorem dX1_init_61 : decode cX1_init 61 = .ok (.idiv, 1) := by decide +kernel
theorem dX1_init_62 : decode cX1_init 62 = .ok (.iadd, 1) := by decide +kernel
theorem dX1_init_63 : decode cX1_init 63 = .ok (.iconst 4, 1) := by decide +kernel
theorem dX1_init_64 : decode cX1_init 64 = .ok (.iastore, 1) := by decide +kernel
theorem dX1_init_65 : decode cX1_init 65 = .ok (.iinc 1 1, 3) := by decide +kernel
theorem dX1_init_68 : decode cX1_init 68 = .ok (.goto (-22), 3) := by decide +kernel
theorem dX1_init_71 : decode cX1_init 71 = .ok (.return_, 1) := by decide +kernel
abbrev cX1_reward : ByteArray := prog_3_method_3_code
def yX1_reward : MethodName := ⟨RX1, "reward", "(III)Z"⟩
theorem dX1_reward_0 : decode cX1_reward 0 = .ok (.aload_n 0, 1) := by decide +kernel
theorem dX1_reward_1 : decode cX1_reward 1 = .ok (.iload_n 1, 1) := by decide +kernel
theorem dX1_reward_2 : decode cX1_reward 2 = .ok (.iload_n 2, 1) := by decide +kernel
theorem dX1_reward_3 : decode cX1_reward 3 = .ok (.invokevirtual 26, 3) := by decide +kernel
theorem dX1_reward_6 : decode cX1_reward 6 = .ok (.ifCond .eq 15, 3) := by decide +kernel
theorem dX1_reward_9 : decode cX1_reward 9 = .ok (.iload_n 3, 1) := by decide +kernel
theorem dX1_reward_10 : decode cX1_reward 10 = .ok (.bipush (-20), 2) := by decide +kernel
theorem dX1_reward_12 : decode cX1_reward 12 = .ok (.if_icmp .lt 9, 3) := by decide +kernel
theorem dX1_reward_15 : decode cX1_reward 15 = .ok (.iload_n 3, 1) := by decide +kernel
theorem dX1_reward_16 : decode cX1_reward 16 = .ok (.bipush 20, 2) := by decide +kernel
theorem dX1_reward_18 : decode cX1_reward 18 = .ok (.if_icmp .le 5, 3) := by decide +kernel
theorem dX1_reward_21 : decode cX1_reward 21 = .ok (.iconst 0, 1) := by decide +kernel
theorem dX1_reward_22 : decode cX1_reward 22 = .ok (.ireturn, 1) := by decide +kernel
theorem dX1_reward_23 : decode cX1_reward 23 = .ok (.aload_n 0, 1) := by decide +kernel
theorem dX1_reward_24 : decode cX1_reward 24 = .ok (.getfield 7, 3) := by decide +kernel
theorem dX1_reward_27 : decode cX1_reward 27 = .ok (.iconst 2, 1) := by decide +kernel
theorem dX1_reward_28 : decode cX1_reward 28 = .ok (.iload_n 1, 1) := by decide +kernel
theorem dX1_reward_29 : decode cX1_reward 29 = .ok (.imul, 1) := by decide +kernel
theorem dX1_reward_30 : decode cX1_reward 30 = .ok (.iload_n 2, 1) := by decide +kernel
theorem dX1_reward_31 : decode cX1_reward 31 = .ok (.iadd, 1) := by decide +kernel
theorem dX1_reward_32 : decode cX1_reward 32 = .ok (.iload_n 3, 1) := by decide +kernel
theorem dX1_reward_33 : decode cX1_reward 33 = .ok (.iastore, 1) := by decide +kernel
theorem dX1_reward_34 : decode cX1_reward 34 = .ok (.iconst 1, 1) := by decide +kernel
theorem dX1_reward_35 : decode cX1_reward 35 = .ok (.ireturn, 1) := by decide +kernel
abbrev cX1_isAction : ByteArray := prog_3_method_2_code
def yX1_isAction : MethodName := ⟨RX1, "isAction", "(II)Z"⟩
theorem dX1_isAction_0 : decode cX1_isAction 0 = .ok (.iload_n 1, 1) := by decide +kernel
theorem dX1_isAction_1 : decode cX1_isAction 1 = .ok (.ifCond .lt 21, 3) := by decide +kernel
theorem dX1_isAction_4 : decode cX1_isAction 4 = .ok (.iload_n 1, 1) := by decide +kernel
theorem dX1_isAction_5 : decode cX1_isAction 5 = .ok (.iconst 3, 1) := by decide +kernel
theorem dX1_isAction_6 : decode cX1_isAction 6 = .ok (.if_icmp .gt 16, 3) := by decide +kernel
theorem dX1_isAction_9 : decode cX1_isAction 9 = .ok (.iload_n 2, 1) := by decide +kernel
theorem dX1_isAction_10 : decode cX1_isAction 10 = .ok (.ifCond .lt 12, 3) := by decide +kernel
theorem dX1_isAction_13 : decode cX1_isAction 13 = .ok (.iload_n 2, 1) := by decide +kernel
theorem dX1_isAction_14 : decode cX1_isAction 14 = .ok (.iconst 1, 1) := by decide +kernel
theorem dX1_isAction_15 : decode cX1_isAction 15 = .ok (.if_icmp .gt 7, 3) := by decide +kernel
theorem dX1_isAction_18 : decode cX1_isAction 18 = .ok (.iconst 1, 1) := by decide +kernel
theorem dX1_isAction_19 : decode cX1_isAction 19 = .ok (.goto 4, 3) := by decide +kernel
theorem dX1_isAction_22 : decode cX1_isAction 22 = .ok (.iconst 0, 1) := by decide +kernel
theorem dX1_isAction_23 : decode cX1_isAction 23 = .ok (.ireturn, 1) := by decide +kernel
abbrev cX1_shares : ByteArray := prog_3_method_4_code
def yX1_shares : MethodName := ⟨RX1, "shares", "(III)Z"⟩
theorem dX1_shares_0 : decode cX1_shares 0 = .ok (.aload_n 0, 1) := by decide +kernel
theorem dX1_shares_1 : decode cX1_shares 1 = .ok (.iload_n 1, 1) := by decide +kernel
theorem dX1_shares_2 : decode cX1_shares 2 = .ok (.iload_n 2, 1) := by decide +kernel
theorem dX1_shares_3 : decode cX1_shares 3 = .ok (.invokevirtual 26, 3) := by decide +kernel
theorem dX1_shares_6 : decode cX1_shares 6 = .ok (.ifCond .eq 14, 3) := by decide +kernel
theorem dX1_shares_9 : decode cX1_shares 9 = .ok (.iload_n 3, 1) := by decide +kernel
theorem dX1_shares_10 : decode cX1_shares 10 = .ok (.ifCond .lt 10, 3) := by decide +kernel
theorem dX1_shares_13 : decode cX1_shares 13 = .ok (.iload_n 3, 1) := by decide +kernel
theorem dX1_shares_14 : decode cX1_shares 14 = .ok (.sipush 624, 3) := by decide +kernel
theorem dX1_shares_17 : decode cX1_shares 17 = .ok (.if_icmp .le 5, 3) := by decide +kernel
theorem dX1_shares_20 : decode cX1_shares 20 = .ok (.iconst 0, 1) := by decide +kernel
theorem dX1_shares_21 : decode cX1_shares 21 = .ok (.ireturn, 1) := by decide +kernel
theorem dX1_shares_22 : decode cX1_shares 22 = .ok (.iload_n 3, 1) := by decide +kernel
theorem dX1_shares_23 : decode cX1_shares 23 = .ok (.bipush 125, 2) := by decide +kernel
theorem dX1_shares_25 : decode cX1_shares 25 = .ok (.idiv, 1) := by decide +kernel
theorem dX1_shares_26 : decode cX1_shares 26 = .ok (.iload_n 3, 1) := by decide +kernel
theorem dX1_shares_27 : decode cX1_shares 27 = .ok (.bipush 25, 2) := by decide +kernel
theorem dX1_shares_29 : decode cX1_shares 29 = .ok (.idiv, 1) := by decide +kernel
theorem dX1_shares_30 : decode cX1_shares 30 = .ok (.iconst 5, 1) := by decide +kernel
theorem dX1_shares_31 : decode cX1_shares 31 = .ok (.irem, 1) := by decide +kernel
theorem dX1_shares_32 : decode cX1_shares 32 = .ok (.iadd, 1) := by decide +kernel
theorem dX1_shares_33 : decode cX1_shares 33 = .ok (.iload_n 3, 1) := by decide +kernel
theorem dX1_shares_34 : decode cX1_shares 34 = .ok (.iconst 5, 1) := by decide +kernel
theorem dX1_shares_35 : decode cX1_shares 35 = .ok (.idiv, 1) := by decide +kernel
theorem dX1_shares_36 : decode cX1_shares 36 = .ok (.iconst 5, 1) := by decide +kernel
theorem dX1_shares_37 : decode cX1_shares 37 = .ok (.irem, 1) := by decide +kernel
theorem dX1_shares_38 : decode cX1_shares 38 = .ok (.iadd, 1) := by decide +kernel
theorem dX1_shares_39 : decode cX1_shares 39 = .ok (.iload_n 3, 1) := by decide +kernel
theorem dX1_shares_40 : decode cX1_shares 40 = .ok (.iconst 5, 1) := by decide +kernel
theorem dX1_shares_41 : decode cX1_shares 41 = .ok (.irem, 1) := by decide +kernel
theorem dX1_shares_42 : decode cX1_shares 42 = .ok (.iadd, 1) := by decide +kernel
theorem dX1_shares_43 : decode cX1_shares 43 = .ok (.istore 4, 2) := by decide +kernel
theorem dX1_shares_45 : decode cX1_shares 45 = .ok (.iload 4, 2) := by decide +kernel
theorem dX1_shares_47 : decode cX1_shares 47 = .ok (.iconst 4, 1) := by decide +kernel
theorem dX1_shares_48 : decode cX1_shares 48 = .ok (.if_icmp .eq 5, 3) := by decide +kernel
theorem dX1_shares_51 : decode cX1_shares 51 = .ok (.iconst 0, 1) := by decide +kernel
theorem dX1_shares_52 : decode cX1_shares 52 = .ok (.ireturn, 1) := by decide +kernel
theorem dX1_shares_53 : decode cX1_shares 53 = .ok (.iconst 4, 1) := by decide +kernel
theorem dX1_shares_54 : decode cX1_shares 54 = .ok (.iconst 2, 1) := by decide +kernel
theorem dX1_shares_55 : decode cX1_shares 55 = .ok (.iload_n 1, 1) := by decide +kernel
theorem dX1_shares_56 : decode cX1_shares 56 = .ok (.imul, 1) := by decide +kernel
theorem dX1_shares_57 : decode cX1_shares 57 = .ok (.iload_n 2, 1) := by decide +kernel
theorem dX1_shares_58 : decode cX1_shares 58 = .ok (.iadd, 1) := by decide +kernel
theorem dX1_shares_59 : decode cX1_shares 59 = .ok (.imul, 1) := by decide +kernel
theorem dX1_shares_60 : decode cX1_shares 60 = .ok (.istore 5, 2) := by decide +kernel
theorem dX1_shares_62 : decode cX1_shares 62 = .ok (.aload_n 0, 1) := by decide +kernel
theorem dX1_shares_63 : decode cX1_shares 63 = .ok (.getfield 13, 3) := by decide +kernel
theorem dX1_shares_66 : decode cX1_shares 66 = .ok (.iload 5, 2) := by decide +kernel
theorem dX1_shares_68 : decode cX1_shares 68 = .ok (.iload_n 3, 1) := by decide +kernel
theorem dX1_shares_69 : decode cX1_shares 69 = .ok (.bipush 125, 2) := by decide +kernel
theorem dX1_shares_71 : decode cX1_shares 71 = .ok (.idiv, 1) := by decide +kernel
theorem dX1_shares_72 : decode cX1_shares 72 = .ok (.iastore, 1) := by decide +kernel
theorem dX1_shares_73 : decode cX1_shares 73 = .ok (.aload_n 0, 1) := by decide +kernel
theorem dX1_shares_74 : decode cX1_shares 74 = .ok (.getfield 13, 3) := by decide +kernel
theorem dX1_shares_77 : decode cX1_shares 77 = .ok (.iload 5, 2) := by decide +kernel
theorem dX1_shares_79 : decode cX1_shares 79 = .ok (.iconst 1, 1) := by decide +kernel
theorem dX1_shares_80 : decode cX1_shares 80 = .ok (.iadd, 1) := by decide +kernel
theorem dX1_shares_81 : decode cX1_shares 81 = .ok (.iload_n 3, 1) := by decide +kernel
theorem dX1_shares_82 : decode cX1_shares 82 = .ok (.bipush 25, 2) := by decide +kernel
theorem dX1_shares_84 : decode cX1_shares 84 = .ok (.idiv, 1) := by decide +kernel
theorem dX1_shares_85 : decode cX1_shares 85 = .ok (.iconst 5, 1) := by decide +kernel
theorem dX1_shares_86 : decode cX1_shares 86 = .ok (.irem, 1) := by decide +kernel
theorem dX1_shares_87 : decode cX1_shares 87 = .ok (.iastore, 1) := by decide +kernel
theorem dX1_shares_88 : decode cX1_shares 88 = .ok (.aload_n 0, 1) := by decide +kernel
theorem dX1_shares_89 : decode cX1_shares 89 = .ok (.getfield 13, 3) := by decide +kernel
theorem dX1_shares_92 : decode cX1_shares 92 = .ok (.iload 5, 2) := by decide +kernel
theorem dX1_shares_94 : decode cX1_shares 94 = .ok (.iconst 2, 1) := by decide +kernel
theorem dX1_shares_95 : decode cX1_shares 95 = .ok (.iadd, 1) := by decide +kernel
theorem dX1_shares_96 : decode cX1_shares 96 = .ok (.iload_n 3, 1) := by decide +kernel
theorem dX1_shares_97 : decode cX1_shares 97 = .ok (.iconst 5, 1) := by decide +kernel
theorem dX1_shares_98 : decode cX1_shares 98 = .ok (.idiv, 1) := by decide +kernel
theorem dX1_shares_99 : decode cX1_shares 99 = .ok (.iconst 5, 1) := by decide +kernel
theorem dX1_shares_100 : decode cX1_shares 100 = .ok (.irem, 1) := by decide +kernel
theorem dX1_shares_101 : decode cX1_shares 101 = .ok (.iastore, 1) := by decide +kernel
theorem dX1_shares_102 : decode cX1_shares 102 = .ok (.aload_n 0, 1) := by decide +kernel
theorem dX1_shares_103 : decode cX1_shares 103 = .ok (.getfield 13, 3) := by decide +kernel
theorem dX1_shares_106 : decode cX1_shares 106 = .ok (.iload 5, 2) := by decide +kernel
theorem dX1_shares_108 : decode cX1_shares 108 = .ok (.iconst 3, 1) := by decide +kernel
theorem dX1_shares_109 : decode cX1_shares 109 = .ok (.iadd, 1) := by decide +kernel
theorem dX1_shares_110 : decode cX1_shares 110 = .ok (.iload_n 3, 1) := by decide +kernel
theorem dX1_shares_111 : decode cX1_shares 111 = .ok (.iconst 5, 1) := by decide +kernel
theorem dX1_shares_112 : decode cX1_shares 112 = .ok (.irem, 1) := by decide +kernel
theorem dX1_shares_113 : decode cX1_shares 113 = .ok (.iastore, 1) := by decide +kernel
theorem dX1_shares_114 : decode cX1_shares 114 = .ok (.iconst 1, 1) := by decide +kernel
theorem dX1_shares_115 : decode cX1_shares 115 = .ok (.ireturn, 1) := by decide +kernel
abbrev cX1_valueTop : ByteArray := prog_3_method_13_code
def yX1_valueTop : MethodName := ⟨RX1, "valueTop", "(II)I"⟩
theorem dX1_valueTop_0 : decode cX1_valueTop 0 = .ok (.aload_n 0, 1) := by decide +kernel
theorem dX1_valueTop_1 : decode cX1_valueTop 1 = .ok (.iload_n 1, 1) := by decide +kernel
theorem dX1_valueTop_2 : decode cX1_valueTop 2 = .ok (.invokevirtual 48, 3) := by decide +kernel
theorem dX1_valueTop_5 : decode cX1_valueTop 5 = .ok (.ifCond .eq 11, 3) := by decide +kernel
theorem dX1_valueTop_8 : decode cX1_valueTop 8 = .ok (.aload_n 0, 1) := by decide +kernel
theorem dX1_valueTop_9 : decode cX1_valueTop 9 = .ok (.iload_n 2, 1) := by decide +kernel
theorem dX1_valueTop_10 : decode cX1_valueTop 10 = .ok (.invokevirtual 52, 3) := by decide +kernel
theorem dX1_valueTop_13 : decode cX1_valueTop 13 = .ok (.ifCond .ne 6, 3) := by decide +kernel
theorem dX1_valueTop_16 : decode cX1_valueTop 16 = .ok (.ldc 55, 2) := by decide +kernel
theorem dX1_valueTop_18 : decode cX1_valueTop 18 = .ok (.ireturn, 1) := by decide +kernel
theorem dX1_valueTop_19 : decode cX1_valueTop 19 = .ok (.aload_n 0, 1) := by decide +kernel
theorem dX1_valueTop_20 : decode cX1_valueTop 20 = .ok (.invokevirtual 56, 3) := by decide +kernel
theorem dX1_valueTop_23 : decode cX1_valueTop 23 = .ok (.aload_n 0, 1) := by decide +kernel
theorem dX1_valueTop_24 : decode cX1_valueTop 24 = .ok (.iconst 4, 1) := by decide +kernel
theorem dX1_valueTop_25 : decode cX1_valueTop 25 = .ok (.iload_n 1, 1) := by decide +kernel
theorem dX1_valueTop_26 : decode cX1_valueTop 26 = .ok (.imul, 1) := by decide +kernel
theorem dX1_valueTop_27 : decode cX1_valueTop 27 = .ok (.iload_n 2, 1) := by decide +kernel
theorem dX1_valueTop_28 : decode cX1_valueTop 28 = .ok (.iadd, 1) := by decide +kernel
theorem dX1_valueTop_29 : decode cX1_valueTop 29 = .ok (.invokevirtual 59, 3) := by decide +kernel
theorem dX1_valueTop_32 : decode cX1_valueTop 32 = .ok (.lstore_n 3, 1) := by decide +kernel
theorem dX1_valueTop_33 : decode cX1_valueTop 33 = .ok (.aload_n 0, 1) := by decide +kernel
theorem dX1_valueTop_34 : decode cX1_valueTop 34 = .ok (.getfield 20, 3) := by decide +kernel
theorem dX1_valueTop_37 : decode cX1_valueTop 37 = .ok (.iconst 4, 1) := by decide +kernel
theorem dX1_valueTop_38 : decode cX1_valueTop 38 = .ok (.iload_n 1, 1) := by decide +kernel
theorem dX1_valueTop_39 : decode cX1_valueTop 39 = .ok (.imul, 1) := by decide +kernel
theorem dX1_valueTop_40 : decode cX1_valueTop 40 = .ok (.iload_n 2, 1) := by decide +kernel
theorem dX1_valueTop_41 : decode cX1_valueTop 41 = .ok (.iadd, 1) := by decide +kernel
theorem dX1_valueTop_42 : decode cX1_valueTop 42 = .ok (.laload, 1) := by decide +kernel
theorem dX1_valueTop_43 : decode cX1_valueTop 43 = .ok (.lload_n 3, 1) := by decide +kernel
theorem dX1_valueTop_44 : decode cX1_valueTop 44 = .ok (.ldiv, 1) := by decide +kernel
theorem dX1_valueTop_45 : decode cX1_valueTop 45 = .ok (.l2i, 1) := by decide +kernel
theorem dX1_valueTop_46 : decode cX1_valueTop 46 = .ok (.ireturn, 1) := by decide +kernel
abbrev cX1_isPolicy : ByteArray := prog_3_method_12_code
def yX1_isPolicy : MethodName := ⟨RX1, "isPolicy", "(I)Z"⟩
theorem dX1_isPolicy_0 : decode cX1_isPolicy 0 = .ok (.iload_n 1, 1) := by decide +kernel
theorem dX1_isPolicy_1 : decode cX1_isPolicy 1 = .ok (.ifCond .lt 13, 3) := by decide +kernel
theorem dX1_isPolicy_4 : decode cX1_isPolicy 4 = .ok (.iload_n 1, 1) := by decide +kernel
theorem dX1_isPolicy_5 : decode cX1_isPolicy 5 = .ok (.bipush 15, 2) := by decide +kernel
theorem dX1_isPolicy_7 : decode cX1_isPolicy 7 = .ok (.if_icmp .gt 7, 3) := by decide +kernel
theorem dX1_isPolicy_10 : decode cX1_isPolicy 10 = .ok (.iconst 1, 1) := by decide +kernel
theorem dX1_isPolicy_11 : decode cX1_isPolicy 11 = .ok (.goto 4, 3) := by decide +kernel
theorem dX1_isPolicy_14 : decode cX1_isPolicy 14 = .ok (.iconst 0, 1) := by decide +kernel
theorem dX1_isPolicy_15 : decode cX1_isPolicy 15 = .ok (.ireturn, 1) := by decide +kernel
abbrev cX1_isState : ByteArray := prog_3_method_11_code
def yX1_isState : MethodName := ⟨RX1, "isState", "(I)Z"⟩
theorem dX1_isState_0 : decode cX1_isState 0 = .ok (.iload_n 1, 1) := by decide +kernel
theorem dX1_isState_1 : decode cX1_isState 1 = .ok (.ifCond .lt 12, 3) := by decide +kernel
theorem dX1_isState_4 : decode cX1_isState 4 = .ok (.iload_n 1, 1) := by decide +kernel
theorem dX1_isState_5 : decode cX1_isState 5 = .ok (.iconst 3, 1) := by decide +kernel
theorem dX1_isState_6 : decode cX1_isState 6 = .ok (.if_icmp .gt 7, 3) := by decide +kernel
theorem dX1_isState_9 : decode cX1_isState 9 = .ok (.iconst 1, 1) := by decide +kernel
theorem dX1_isState_10 : decode cX1_isState 10 = .ok (.goto 4, 3) := by decide +kernel
theorem dX1_isState_13 : decode cX1_isState 13 = .ok (.iconst 0, 1) := by decide +kernel
theorem dX1_isState_14 : decode cX1_isState 14 = .ok (.ireturn, 1) := by decide +kernel
abbrev cX1_solve : ByteArray := prog_3_method_9_code
def yX1_solve : MethodName := ⟨RX1, "solve", "()V"⟩
theorem dX1_solve_0 : decode cX1_solve 0 = .ok (.iconst 0, 1) := by decide +kernel
theorem dX1_solve_1 : decode cX1_solve 1 = .ok (.istore_n 1, 1) := by decide +kernel
theorem dX1_solve_2 : decode cX1_solve 2 = .ok (.iload_n 1, 1) := by decide +kernel
theorem dX1_solve_3 : decode cX1_solve 3 = .ok (.bipush 16, 2) := by decide +kernel
theorem dX1_solve_5 : decode cX1_solve 5 = .ok (.if_icmp .ge 64, 3) := by decide +kernel
theorem dX1_solve_8 : decode cX1_solve 8 = .ok (.aload_n 0, 1) := by decide +kernel
theorem dX1_solve_9 : decode cX1_solve 9 = .ok (.iload_n 1, 1) := by decide +kernel
theorem dX1_solve_10 : decode cX1_solve 10 = .ok (.invokevirtual 40, 3) := by decide +kernel
theorem dX1_solve_13 : decode cX1_solve 13 = .ok (.aload_n 0, 1) := by decide +kernel
theorem dX1_solve_14 : decode cX1_solve 14 = .ok (.iconst 4, 1) := by decide +kernel
theorem dX1_solve_15 : decode cX1_solve 15 = .ok (.invokevirtual 44, 3) := by decide +kernel
theorem dX1_solve_18 : decode cX1_solve 18 = .ok (.lstore_n 2, 1) := by decide +kernel
theorem dX1_solve_19 : decode cX1_solve 19 = .ok (.iconst 0, 1) := by decide +kernel
theorem dX1_solve_20 : decode cX1_solve 20 = .ok (.istore 4, 2) := by decide +kernel
theorem dX1_solve_22 : decode cX1_solve 22 = .ok (.iload 4, 2) := by decide +kernel
theorem dX1_solve_24 : decode cX1_solve 24 = .ok (.iconst 4, 1) := by decide +kernel
theorem dX1_solve_25 : decode cX1_solve 25 = .ok (.if_icmp .ge 38, 3) := by decide +kernel
theorem dX1_solve_28 : decode cX1_solve 28 = .ok (.aload_n 0, 1) := by decide +kernel
theorem dX1_solve_29 : decode cX1_solve 29 = .ok (.getfield 20, 3) := by decide +kernel
theorem dX1_solve_32 : decode cX1_solve 32 = .ok (.iconst 4, 1) := by decide +kernel
theorem dX1_solve_33 : decode cX1_solve 33 = .ok (.iload_n 1, 1) := by decide +kernel
theorem dX1_solve_34 : decode cX1_solve 34 = .ok (.imul, 1) := by decide +kernel
theorem dX1_solve_35 : decode cX1_solve 35 = .ok (.iload 4, 2) := by decide +kernel
theorem dX1_solve_37 : decode cX1_solve 37 = .ok (.iadd, 1) := by decide +kernel
theorem dX1_solve_38 : decode cX1_solve 38 = .ok (.aload_n 0, 1) := by decide +kernel
theorem dX1_solve_39 : decode cX1_solve 39 = .ok (.iload 4, 2) := by decide +kernel
theorem dX1_solve_41 : decode cX1_solve 41 = .ok (.invokevirtual 44, 3) := by decide +kernel
theorem dX1_solve_44 : decode cX1_solve 44 = .ok (.lastore, 1) := by decide +kernel
theorem dX1_solve_45 : decode cX1_solve 45 = .ok (.aload_n 0, 1) := by decide +kernel
theorem dX1_solve_46 : decode cX1_solve 46 = .ok (.getfield 23, 3) := by decide +kernel
theorem dX1_solve_49 : decode cX1_solve 49 = .ok (.iconst 4, 1) := by decide +kernel
theorem dX1_solve_50 : decode cX1_solve 50 = .ok (.iload_n 1, 1) := by decide +kernel
theorem dX1_solve_51 : decode cX1_solve 51 = .ok (.imul, 1) := by decide +kernel
theorem dX1_solve_52 : decode cX1_solve 52 = .ok (.iload 4, 2) := by decide +kernel
theorem dX1_solve_54 : decode cX1_solve 54 = .ok (.iadd, 1) := by decide +kernel
theorem dX1_solve_55 : decode cX1_solve 55 = .ok (.lload_n 2, 1) := by decide +kernel
theorem dX1_solve_56 : decode cX1_solve 56 = .ok (.lastore, 1) := by decide +kernel
theorem dX1_solve_57 : decode cX1_solve 57 = .ok (.iinc 4 1, 3) := by decide +kernel
theorem dX1_solve_60 : decode cX1_solve 60 = .ok (.goto (-38), 3) := by decide +kernel
theorem dX1_solve_63 : decode cX1_solve 63 = .ok (.iinc 1 1, 3) := by decide +kernel
theorem dX1_solve_66 : decode cX1_solve 66 = .ok (.goto (-64), 3) := by decide +kernel
theorem dX1_solve_69 : decode cX1_solve 69 = .ok (.return_, 1) := by decide +kernel
abbrev cX1_write : ByteArray := prog_3_method_5_code
def yX1_write : MethodName := ⟨RX1, "write", "(I)V"⟩
theorem dX1_write_0 : decode cX1_write 0 = .ok (.iconst 0, 1) := by decide +kernel
theorem dX1_write_1 : decode cX1_write 1 = .ok (.istore_n 2, 1) := by decide +kernel
theorem dX1_write_2 : decode cX1_write 2 = .ok (.iload_n 2, 1) := by decide +kernel
theorem dX1_write_3 : decode cX1_write 3 = .ok (.iconst 4, 1) := by decide +kernel
theorem dX1_write_4 : decode cX1_write 4 = .ok (.if_icmp .ge 91, 3) := by decide +kernel
theorem dX1_write_7 : decode cX1_write 7 = .ok (.iconst 2, 1) := by decide +kernel
theorem dX1_write_8 : decode cX1_write 8 = .ok (.iload_n 2, 1) := by decide +kernel
theorem dX1_write_9 : decode cX1_write 9 = .ok (.imul, 1) := by decide +kernel
theorem dX1_write_10 : decode cX1_write 10 = .ok (.iload_n 1, 1) := by decide +kernel
theorem dX1_write_11 : decode cX1_write 11 = .ok (.iload_n 2, 1) := by decide +kernel
theorem dX1_write_12 : decode cX1_write 12 = .ok (.ishr, 1) := by decide +kernel
theorem dX1_write_13 : decode cX1_write 13 = .ok (.iconst 1, 1) := by decide +kernel
theorem dX1_write_14 : decode cX1_write 14 = .ok (.iand, 1) := by decide +kernel
theorem dX1_write_15 : decode cX1_write 15 = .ok (.iadd, 1) := by decide +kernel
theorem dX1_write_16 : decode cX1_write 16 = .ok (.istore_n 3, 1) := by decide +kernel
theorem dX1_write_17 : decode cX1_write 17 = .ok (.iconst 0, 1) := by decide +kernel
theorem dX1_write_18 : decode cX1_write 18 = .ok (.istore 4, 2) := by decide +kernel
theorem dX1_write_20 : decode cX1_write 20 = .ok (.iload 4, 2) := by decide +kernel
theorem dX1_write_22 : decode cX1_write 22 = .ok (.iconst 4, 1) := by decide +kernel
theorem dX1_write_23 : decode cX1_write 23 = .ok (.if_icmp .ge 45, 3) := by decide +kernel
theorem dX1_write_26 : decode cX1_write 26 = .ok (.aload_n 0, 1) := by decide +kernel
theorem dX1_write_27 : decode cX1_write 27 = .ok (.getfield 16, 3) := by decide +kernel
theorem dX1_write_30 : decode cX1_write 30 = .ok (.iconst 5, 1) := by decide +kernel
theorem dX1_write_31 : decode cX1_write 31 = .ok (.iload_n 2, 1) := by decide +kernel
theorem dX1_write_32 : decode cX1_write 32 = .ok (.imul, 1) := by decide +kernel
theorem dX1_write_33 : decode cX1_write 33 = .ok (.iload 4, 2) := by decide +kernel
theorem dX1_write_35 : decode cX1_write 35 = .ok (.iadd, 1) := by decide +kernel
theorem dX1_write_36 : decode cX1_write 36 = .ok (.iload_n 2, 1) := by decide +kernel
theorem dX1_write_37 : decode cX1_write 37 = .ok (.iload 4, 2) := by decide +kernel
theorem dX1_write_39 : decode cX1_write 39 = .ok (.if_icmp .ne 8, 3) := by decide +kernel
theorem dX1_write_42 : decode cX1_write 42 = .ok (.bipush 8, 2) := by decide +kernel
theorem dX1_write_44 : decode cX1_write 44 = .ok (.goto 4, 3) := by decide +kernel
theorem dX1_write_47 : decode cX1_write 47 = .ok (.iconst 0, 1) := by decide +kernel
theorem dX1_write_48 : decode cX1_write 48 = .ok (.aload_n 0, 1) := by decide +kernel
theorem dX1_write_49 : decode cX1_write 49 = .ok (.getfield 13, 3) := by decide +kernel
theorem dX1_write_52 : decode cX1_write 52 = .ok (.iconst 4, 1) := by decide +kernel
theorem dX1_write_53 : decode cX1_write 53 = .ok (.iload_n 3, 1) := by decide +kernel
theorem dX1_write_54 : decode cX1_write 54 = .ok (.imul, 1) := by decide +kernel
theorem dX1_write_55 : decode cX1_write 55 = .ok (.iload 4, 2) := by decide +kernel
theorem dX1_write_57 : decode cX1_write 57 = .ok (.iadd, 1) := by decide +kernel
theorem dX1_write_58 : decode cX1_write 58 = .ok (.iaload, 1) := by decide +kernel
theorem dX1_write_59 : decode cX1_write 59 = .ok (.isub, 1) := by decide +kernel
theorem dX1_write_60 : decode cX1_write 60 = .ok (.i2l, 1) := by decide +kernel
theorem dX1_write_61 : decode cX1_write 61 = .ok (.lastore, 1) := by decide +kernel
theorem dX1_write_62 : decode cX1_write 62 = .ok (.iinc 4 1, 3) := by decide +kernel
theorem dX1_write_65 : decode cX1_write 65 = .ok (.goto (-45), 3) := by decide +kernel
theorem dX1_write_68 : decode cX1_write 68 = .ok (.aload_n 0, 1) := by decide +kernel
theorem dX1_write_69 : decode cX1_write 69 = .ok (.getfield 16, 3) := by decide +kernel
theorem dX1_write_72 : decode cX1_write 72 = .ok (.iconst 5, 1) := by decide +kernel
theorem dX1_write_73 : decode cX1_write 73 = .ok (.iload_n 2, 1) := by decide +kernel
theorem dX1_write_74 : decode cX1_write 74 = .ok (.imul, 1) := by decide +kernel
theorem dX1_write_75 : decode cX1_write 75 = .ok (.iconst 4, 1) := by decide +kernel
theorem dX1_write_76 : decode cX1_write 76 = .ok (.iadd, 1) := by decide +kernel
end
section
set_option maxRecDepth 100000
theorem dX1_write_77 : decode cX1_write 77 = .ok (.ldc2_w 30, 3) := by decide +kernel
theorem dX1_write_80 : decode cX1_write 80 = .ok (.aload_n 0, 1) := by decide +kernel
theorem dX1_write_81 : decode cX1_write 81 = .ok (.getfield 7, 3) := by decide +kernel
theorem dX1_write_84 : decode cX1_write 84 = .ok (.iload_n 3, 1) := by decide +kernel
theorem dX1_write_85 : decode cX1_write 85 = .ok (.iaload, 1) := by decide +kernel
theorem dX1_write_86 : decode cX1_write 86 = .ok (.i2l, 1) := by decide +kernel
theorem dX1_write_87 : decode cX1_write 87 = .ok (.lmul, 1) := by decide +kernel
theorem dX1_write_88 : decode cX1_write 88 = .ok (.lastore, 1) := by decide +kernel
theorem dX1_write_89 : decode cX1_write 89 = .ok (.iinc 2 1, 3) := by decide +kernel
theorem dX1_write_92 : decode cX1_write 92 = .ok (.goto (-90), 3) := by decide +kernel
theorem dX1_write_95 : decode cX1_write 95 = .ok (.return_, 1) := by decide +kernel
abbrev cX1_determinant : ByteArray := prog_3_method_8_code
def yX1_determinant : MethodName := ⟨RX1, "determinant", "(I)J"⟩
theorem dX1_determinant_0 : decode cX1_determinant 0 = .ok (.lconst 0, 1) := by decide +kernel
theorem dX1_determinant_1 : decode cX1_determinant 1 = .ok (.lstore_n 2, 1) := by decide +kernel
theorem dX1_determinant_2 : decode cX1_determinant 2 = .ok (.iconst 0, 1) := by decide +kernel
theorem dX1_determinant_3 : decode cX1_determinant 3 = .ok (.istore 4, 2) := by decide +kernel
theorem dX1_determinant_5 : decode cX1_determinant 5 = .ok (.iload 4, 2) := by decide +kernel
theorem dX1_determinant_7 : decode cX1_determinant 7 = .ok (.iconst 4, 1) := by decide +kernel
theorem dX1_determinant_8 : decode cX1_determinant 8 = .ok (.if_icmp .ge 45, 3) := by decide +kernel
theorem dX1_determinant_11 : decode cX1_determinant 11 = .ok (.aload_n 0, 1) := by decide +kernel
theorem dX1_determinant_12 : decode cX1_determinant 12 = .ok (.iconst 0, 1) := by decide +kernel
theorem dX1_determinant_13 : decode cX1_determinant 13 = .ok (.iload 4, 2) := by decide +kernel
theorem dX1_determinant_15 : decode cX1_determinant 15 = .ok (.iload_n 1, 1) := by decide +kernel
theorem dX1_determinant_16 : decode cX1_determinant 16 = .ok (.invokevirtual 32, 3) := by decide +kernel
theorem dX1_determinant_19 : decode cX1_determinant 19 = .ok (.aload_n 0, 1) := by decide +kernel
theorem dX1_determinant_20 : decode cX1_determinant 20 = .ok (.iload 4, 2) := by decide +kernel
theorem dX1_determinant_22 : decode cX1_determinant 22 = .ok (.iload_n 1, 1) := by decide +kernel
theorem dX1_determinant_23 : decode cX1_determinant 23 = .ok (.invokevirtual 36, 3) := by decide +kernel
theorem dX1_determinant_26 : decode cX1_determinant 26 = .ok (.lmul, 1) := by decide +kernel
theorem dX1_determinant_27 : decode cX1_determinant 27 = .ok (.lstore 5, 2) := by decide +kernel
theorem dX1_determinant_29 : decode cX1_determinant 29 = .ok (.lload_n 2, 1) := by decide +kernel
theorem dX1_determinant_30 : decode cX1_determinant 30 = .ok (.iload 4, 2) := by decide +kernel
theorem dX1_determinant_32 : decode cX1_determinant 32 = .ok (.iconst 2, 1) := by decide +kernel
theorem dX1_determinant_33 : decode cX1_determinant 33 = .ok (.irem, 1) := by decide +kernel
theorem dX1_determinant_34 : decode cX1_determinant 34 = .ok (.ifCond .ne 8, 3) := by decide +kernel
theorem dX1_determinant_37 : decode cX1_determinant 37 = .ok (.lload 5, 2) := by decide +kernel
theorem dX1_determinant_39 : decode cX1_determinant 39 = .ok (.goto 6, 3) := by decide +kernel
theorem dX1_determinant_42 : decode cX1_determinant 42 = .ok (.lload 5, 2) := by decide +kernel
theorem dX1_determinant_44 : decode cX1_determinant 44 = .ok (.lneg, 1) := by decide +kernel
theorem dX1_determinant_45 : decode cX1_determinant 45 = .ok (.ladd, 1) := by decide +kernel
theorem dX1_determinant_46 : decode cX1_determinant 46 = .ok (.lstore_n 2, 1) := by decide +kernel
theorem dX1_determinant_47 : decode cX1_determinant 47 = .ok (.iinc 4 1, 3) := by decide +kernel
theorem dX1_determinant_50 : decode cX1_determinant 50 = .ok (.goto (-45), 3) := by decide +kernel
theorem dX1_determinant_53 : decode cX1_determinant 53 = .ok (.lload_n 2, 1) := by decide +kernel
theorem dX1_determinant_54 : decode cX1_determinant 54 = .ok (.lreturn, 1) := by decide +kernel
abbrev cX1_at : ByteArray := prog_3_method_6_code
def yX1_at : MethodName := ⟨RX1, "at", "(III)J"⟩
theorem dX1_at_0 : decode cX1_at 0 = .ok (.aload_n 0, 1) := by decide +kernel
theorem dX1_at_1 : decode cX1_at 1 = .ok (.getfield 16, 3) := by decide +kernel
theorem dX1_at_4 : decode cX1_at 4 = .ok (.iconst 5, 1) := by decide +kernel
theorem dX1_at_5 : decode cX1_at 5 = .ok (.iload_n 1, 1) := by decide +kernel
theorem dX1_at_6 : decode cX1_at 6 = .ok (.imul, 1) := by decide +kernel
theorem dX1_at_7 : decode cX1_at 7 = .ok (.iload_n 2, 1) := by decide +kernel
theorem dX1_at_8 : decode cX1_at 8 = .ok (.iload_n 3, 1) := by decide +kernel
theorem dX1_at_9 : decode cX1_at 9 = .ok (.if_icmp .ne 7, 3) := by decide +kernel
theorem dX1_at_12 : decode cX1_at 12 = .ok (.iconst 4, 1) := by decide +kernel
theorem dX1_at_13 : decode cX1_at 13 = .ok (.goto 4, 3) := by decide +kernel
theorem dX1_at_16 : decode cX1_at 16 = .ok (.iload_n 2, 1) := by decide +kernel
theorem dX1_at_17 : decode cX1_at 17 = .ok (.iadd, 1) := by decide +kernel
theorem dX1_at_18 : decode cX1_at 18 = .ok (.laload, 1) := by decide +kernel
theorem dX1_at_19 : decode cX1_at 19 = .ok (.lreturn, 1) := by decide +kernel
abbrev cX1_minor : ByteArray := prog_3_method_7_code
def yX1_minor : MethodName := ⟨RX1, "minor", "(II)J"⟩
theorem dX1_minor_0 : decode cX1_minor 0 = .ok (.iload_n 1, 1) := by decide +kernel
theorem dX1_minor_1 : decode cX1_minor 1 = .ok (.ifCond .ne 7, 3) := by decide +kernel
theorem dX1_minor_4 : decode cX1_minor 4 = .ok (.iconst 1, 1) := by decide +kernel
theorem dX1_minor_5 : decode cX1_minor 5 = .ok (.goto 4, 3) := by decide +kernel
theorem dX1_minor_8 : decode cX1_minor 8 = .ok (.iconst 0, 1) := by decide +kernel
theorem dX1_minor_9 : decode cX1_minor 9 = .ok (.istore_n 3, 1) := by decide +kernel
theorem dX1_minor_10 : decode cX1_minor 10 = .ok (.iload_n 1, 1) := by decide +kernel
theorem dX1_minor_11 : decode cX1_minor 11 = .ok (.iconst 1, 1) := by decide +kernel
theorem dX1_minor_12 : decode cX1_minor 12 = .ok (.if_icmp .gt 7, 3) := by decide +kernel
theorem dX1_minor_15 : decode cX1_minor 15 = .ok (.iconst 2, 1) := by decide +kernel
theorem dX1_minor_16 : decode cX1_minor 16 = .ok (.goto 4, 3) := by decide +kernel
theorem dX1_minor_19 : decode cX1_minor 19 = .ok (.iconst 1, 1) := by decide +kernel
theorem dX1_minor_20 : decode cX1_minor 20 = .ok (.istore 4, 2) := by decide +kernel
theorem dX1_minor_22 : decode cX1_minor 22 = .ok (.iload_n 1, 1) := by decide +kernel
theorem dX1_minor_23 : decode cX1_minor 23 = .ok (.iconst 2, 1) := by decide +kernel
theorem dX1_minor_24 : decode cX1_minor 24 = .ok (.if_icmp .gt 7, 3) := by decide +kernel
theorem dX1_minor_27 : decode cX1_minor 27 = .ok (.iconst 3, 1) := by decide +kernel
theorem dX1_minor_28 : decode cX1_minor 28 = .ok (.goto 4, 3) := by decide +kernel
theorem dX1_minor_31 : decode cX1_minor 31 = .ok (.iconst 2, 1) := by decide +kernel
theorem dX1_minor_32 : decode cX1_minor 32 = .ok (.istore 5, 2) := by decide +kernel
theorem dX1_minor_34 : decode cX1_minor 34 = .ok (.aload_n 0, 1) := by decide +kernel
theorem dX1_minor_35 : decode cX1_minor 35 = .ok (.iconst 2, 1) := by decide +kernel
theorem dX1_minor_36 : decode cX1_minor 36 = .ok (.iload 4, 2) := by decide +kernel
theorem dX1_minor_38 : decode cX1_minor 38 = .ok (.iload_n 2, 1) := by decide +kernel
theorem dX1_minor_39 : decode cX1_minor 39 = .ok (.invokevirtual 32, 3) := by decide +kernel
theorem dX1_minor_42 : decode cX1_minor 42 = .ok (.aload_n 0, 1) := by decide +kernel
theorem dX1_minor_43 : decode cX1_minor 43 = .ok (.iconst 3, 1) := by decide +kernel
theorem dX1_minor_44 : decode cX1_minor 44 = .ok (.iload 5, 2) := by decide +kernel
theorem dX1_minor_46 : decode cX1_minor 46 = .ok (.iload_n 2, 1) := by decide +kernel
theorem dX1_minor_47 : decode cX1_minor 47 = .ok (.invokevirtual 32, 3) := by decide +kernel
theorem dX1_minor_50 : decode cX1_minor 50 = .ok (.lmul, 1) := by decide +kernel
theorem dX1_minor_51 : decode cX1_minor 51 = .ok (.aload_n 0, 1) := by decide +kernel
theorem dX1_minor_52 : decode cX1_minor 52 = .ok (.iconst 2, 1) := by decide +kernel
theorem dX1_minor_53 : decode cX1_minor 53 = .ok (.iload 5, 2) := by decide +kernel
theorem dX1_minor_55 : decode cX1_minor 55 = .ok (.iload_n 2, 1) := by decide +kernel
theorem dX1_minor_56 : decode cX1_minor 56 = .ok (.invokevirtual 32, 3) := by decide +kernel
theorem dX1_minor_59 : decode cX1_minor 59 = .ok (.aload_n 0, 1) := by decide +kernel
theorem dX1_minor_60 : decode cX1_minor 60 = .ok (.iconst 3, 1) := by decide +kernel
theorem dX1_minor_61 : decode cX1_minor 61 = .ok (.iload 4, 2) := by decide +kernel
theorem dX1_minor_63 : decode cX1_minor 63 = .ok (.iload_n 2, 1) := by decide +kernel
theorem dX1_minor_64 : decode cX1_minor 64 = .ok (.invokevirtual 32, 3) := by decide +kernel
theorem dX1_minor_67 : decode cX1_minor 67 = .ok (.lmul, 1) := by decide +kernel
theorem dX1_minor_68 : decode cX1_minor 68 = .ok (.lsub, 1) := by decide +kernel
theorem dX1_minor_69 : decode cX1_minor 69 = .ok (.lstore 6, 2) := by decide +kernel
theorem dX1_minor_71 : decode cX1_minor 71 = .ok (.aload_n 0, 1) := by decide +kernel
theorem dX1_minor_72 : decode cX1_minor 72 = .ok (.iconst 2, 1) := by decide +kernel
theorem dX1_minor_73 : decode cX1_minor 73 = .ok (.iload_n 3, 1) := by decide +kernel
theorem dX1_minor_74 : decode cX1_minor 74 = .ok (.iload_n 2, 1) := by decide +kernel
theorem dX1_minor_75 : decode cX1_minor 75 = .ok (.invokevirtual 32, 3) := by decide +kernel
theorem dX1_minor_78 : decode cX1_minor 78 = .ok (.aload_n 0, 1) := by decide +kernel
theorem dX1_minor_79 : decode cX1_minor 79 = .ok (.iconst 3, 1) := by decide +kernel
theorem dX1_minor_80 : decode cX1_minor 80 = .ok (.iload 5, 2) := by decide +kernel
theorem dX1_minor_82 : decode cX1_minor 82 = .ok (.iload_n 2, 1) := by decide +kernel
theorem dX1_minor_83 : decode cX1_minor 83 = .ok (.invokevirtual 32, 3) := by decide +kernel
theorem dX1_minor_86 : decode cX1_minor 86 = .ok (.lmul, 1) := by decide +kernel
theorem dX1_minor_87 : decode cX1_minor 87 = .ok (.aload_n 0, 1) := by decide +kernel
theorem dX1_minor_88 : decode cX1_minor 88 = .ok (.iconst 2, 1) := by decide +kernel
theorem dX1_minor_89 : decode cX1_minor 89 = .ok (.iload 5, 2) := by decide +kernel
theorem dX1_minor_91 : decode cX1_minor 91 = .ok (.iload_n 2, 1) := by decide +kernel
theorem dX1_minor_92 : decode cX1_minor 92 = .ok (.invokevirtual 32, 3) := by decide +kernel
theorem dX1_minor_95 : decode cX1_minor 95 = .ok (.aload_n 0, 1) := by decide +kernel
theorem dX1_minor_96 : decode cX1_minor 96 = .ok (.iconst 3, 1) := by decide +kernel
theorem dX1_minor_97 : decode cX1_minor 97 = .ok (.iload_n 3, 1) := by decide +kernel
theorem dX1_minor_98 : decode cX1_minor 98 = .ok (.iload_n 2, 1) := by decide +kernel
theorem dX1_minor_99 : decode cX1_minor 99 = .ok (.invokevirtual 32, 3) := by decide +kernel
theorem dX1_minor_102 : decode cX1_minor 102 = .ok (.lmul, 1) := by decide +kernel
theorem dX1_minor_103 : decode cX1_minor 103 = .ok (.lsub, 1) := by decide +kernel
theorem dX1_minor_104 : decode cX1_minor 104 = .ok (.lstore 8, 2) := by decide +kernel
theorem dX1_minor_106 : decode cX1_minor 106 = .ok (.aload_n 0, 1) := by decide +kernel
theorem dX1_minor_107 : decode cX1_minor 107 = .ok (.iconst 2, 1) := by decide +kernel
theorem dX1_minor_108 : decode cX1_minor 108 = .ok (.iload_n 3, 1) := by decide +kernel
theorem dX1_minor_109 : decode cX1_minor 109 = .ok (.iload_n 2, 1) := by decide +kernel
theorem dX1_minor_110 : decode cX1_minor 110 = .ok (.invokevirtual 32, 3) := by decide +kernel
theorem dX1_minor_113 : decode cX1_minor 113 = .ok (.aload_n 0, 1) := by decide +kernel
theorem dX1_minor_114 : decode cX1_minor 114 = .ok (.iconst 3, 1) := by decide +kernel
theorem dX1_minor_115 : decode cX1_minor 115 = .ok (.iload 4, 2) := by decide +kernel
theorem dX1_minor_117 : decode cX1_minor 117 = .ok (.iload_n 2, 1) := by decide +kernel
theorem dX1_minor_118 : decode cX1_minor 118 = .ok (.invokevirtual 32, 3) := by decide +kernel
theorem dX1_minor_121 : decode cX1_minor 121 = .ok (.lmul, 1) := by decide +kernel
theorem dX1_minor_122 : decode cX1_minor 122 = .ok (.aload_n 0, 1) := by decide +kernel
theorem dX1_minor_123 : decode cX1_minor 123 = .ok (.iconst 2, 1) := by decide +kernel
theorem dX1_minor_124 : decode cX1_minor 124 = .ok (.iload 4, 2) := by decide +kernel
theorem dX1_minor_126 : decode cX1_minor 126 = .ok (.iload_n 2, 1) := by decide +kernel
theorem dX1_minor_127 : decode cX1_minor 127 = .ok (.invokevirtual 32, 3) := by decide +kernel
theorem dX1_minor_130 : decode cX1_minor 130 = .ok (.aload_n 0, 1) := by decide +kernel
theorem dX1_minor_131 : decode cX1_minor 131 = .ok (.iconst 3, 1) := by decide +kernel
theorem dX1_minor_132 : decode cX1_minor 132 = .ok (.iload_n 3, 1) := by decide +kernel
theorem dX1_minor_133 : decode cX1_minor 133 = .ok (.iload_n 2, 1) := by decide +kernel
theorem dX1_minor_134 : decode cX1_minor 134 = .ok (.invokevirtual 32, 3) := by decide +kernel
theorem dX1_minor_137 : decode cX1_minor 137 = .ok (.lmul, 1) := by decide +kernel
theorem dX1_minor_138 : decode cX1_minor 138 = .ok (.lsub, 1) := by decide +kernel
theorem dX1_minor_139 : decode cX1_minor 139 = .ok (.lstore 10, 2) := by decide +kernel
theorem dX1_minor_141 : decode cX1_minor 141 = .ok (.aload_n 0, 1) := by decide +kernel
theorem dX1_minor_142 : decode cX1_minor 142 = .ok (.iconst 1, 1) := by decide +kernel
theorem dX1_minor_143 : decode cX1_minor 143 = .ok (.iload_n 3, 1) := by decide +kernel
theorem dX1_minor_144 : decode cX1_minor 144 = .ok (.iload_n 2, 1) := by decide +kernel
theorem dX1_minor_145 : decode cX1_minor 145 = .ok (.invokevirtual 32, 3) := by decide +kernel
theorem dX1_minor_148 : decode cX1_minor 148 = .ok (.lload 6, 2) := by decide +kernel
theorem dX1_minor_150 : decode cX1_minor 150 = .ok (.lmul, 1) := by decide +kernel
theorem dX1_minor_151 : decode cX1_minor 151 = .ok (.aload_n 0, 1) := by decide +kernel
theorem dX1_minor_152 : decode cX1_minor 152 = .ok (.iconst 1, 1) := by decide +kernel
theorem dX1_minor_153 : decode cX1_minor 153 = .ok (.iload 4, 2) := by decide +kernel
theorem dX1_minor_155 : decode cX1_minor 155 = .ok (.iload_n 2, 1) := by decide +kernel
theorem dX1_minor_156 : decode cX1_minor 156 = .ok (.invokevirtual 32, 3) := by decide +kernel
theorem dX1_minor_159 : decode cX1_minor 159 = .ok (.lload 8, 2) := by decide +kernel
theorem dX1_minor_161 : decode cX1_minor 161 = .ok (.lmul, 1) := by decide +kernel
theorem dX1_minor_162 : decode cX1_minor 162 = .ok (.lsub, 1) := by decide +kernel
theorem dX1_minor_163 : decode cX1_minor 163 = .ok (.aload_n 0, 1) := by decide +kernel
theorem dX1_minor_164 : decode cX1_minor 164 = .ok (.iconst 1, 1) := by decide +kernel
theorem dX1_minor_165 : decode cX1_minor 165 = .ok (.iload 5, 2) := by decide +kernel
theorem dX1_minor_167 : decode cX1_minor 167 = .ok (.iload_n 2, 1) := by decide +kernel
theorem dX1_minor_168 : decode cX1_minor 168 = .ok (.invokevirtual 32, 3) := by decide +kernel
theorem dX1_minor_171 : decode cX1_minor 171 = .ok (.lload 10, 2) := by decide +kernel
theorem dX1_minor_173 : decode cX1_minor 173 = .ok (.lmul, 1) := by decide +kernel
theorem dX1_minor_174 : decode cX1_minor 174 = .ok (.ladd, 1) := by decide +kernel
theorem dX1_minor_175 : decode cX1_minor 175 = .ok (.lreturn, 1) := by decide +kernel
abbrev cX1_common : ByteArray := prog_3_method_10_code
def yX1_common : MethodName := ⟨RX1, "common", "(I)J"⟩
theorem dX1_common_0 : decode cX1_common 0 = .ok (.aload_n 0, 1) := by decide +kernel
theorem dX1_common_1 : decode cX1_common 1 = .ok (.getfield 20, 3) := by decide +kernel
theorem dX1_common_4 : decode cX1_common 4 = .ok (.iload_n 1, 1) := by decide +kernel
theorem dX1_common_5 : decode cX1_common 5 = .ok (.laload, 1) := by decide +kernel
theorem dX1_common_6 : decode cX1_common 6 = .ok (.lconst 0, 1) := by decide +kernel
theorem dX1_common_7 : decode cX1_common 7 = .ok (.lcmp, 1) := by decide +kernel
theorem dX1_common_8 : decode cX1_common 8 = .ok (.ifCond .ge 13, 3) := by decide +kernel
theorem dX1_common_11 : decode cX1_common 11 = .ok (.aload_n 0, 1) := by decide +kernel
theorem dX1_common_12 : decode cX1_common 12 = .ok (.getfield 20, 3) := by decide +kernel
theorem dX1_common_15 : decode cX1_common 15 = .ok (.iload_n 1, 1) := by decide +kernel
theorem dX1_common_16 : decode cX1_common 16 = .ok (.laload, 1) := by decide +kernel
theorem dX1_common_17 : decode cX1_common 17 = .ok (.lneg, 1) := by decide +kernel
theorem dX1_common_18 : decode cX1_common 18 = .ok (.goto 9, 3) := by decide +kernel
theorem dX1_common_21 : decode cX1_common 21 = .ok (.aload_n 0, 1) := by decide +kernel
theorem dX1_common_22 : decode cX1_common 22 = .ok (.getfield 20, 3) := by decide +kernel
theorem dX1_common_25 : decode cX1_common 25 = .ok (.iload_n 1, 1) := by decide +kernel
theorem dX1_common_26 : decode cX1_common 26 = .ok (.laload, 1) := by decide +kernel
theorem dX1_common_27 : decode cX1_common 27 = .ok (.lstore_n 2, 1) := by decide +kernel
theorem dX1_common_28 : decode cX1_common 28 = .ok (.aload_n 0, 1) := by decide +kernel
theorem dX1_common_29 : decode cX1_common 29 = .ok (.getfield 23, 3) := by decide +kernel
theorem dX1_common_32 : decode cX1_common 32 = .ok (.iload_n 1, 1) := by decide +kernel
theorem dX1_common_33 : decode cX1_common 33 = .ok (.laload, 1) := by decide +kernel
theorem dX1_common_34 : decode cX1_common 34 = .ok (.lstore 4, 2) := by decide +kernel
theorem dX1_common_36 : decode cX1_common 36 = .ok (.iconst 0, 1) := by decide +kernel
theorem dX1_common_37 : decode cX1_common 37 = .ok (.istore 6, 2) := by decide +kernel
theorem dX1_common_39 : decode cX1_common 39 = .ok (.iload 6, 2) := by decide +kernel
theorem dX1_common_41 : decode cX1_common 41 = .ok (.bipush 90, 2) := by decide +kernel
theorem dX1_common_43 : decode cX1_common 43 = .ok (.if_icmp .ge 37, 3) := by decide +kernel
theorem dX1_common_46 : decode cX1_common 46 = .ok (.lload_n 2, 1) := by decide +kernel
theorem dX1_common_47 : decode cX1_common 47 = .ok (.lconst 0, 1) := by decide +kernel
theorem dX1_common_48 : decode cX1_common 48 = .ok (.lcmp, 1) := by decide +kernel
theorem dX1_common_49 : decode cX1_common 49 = .ok (.ifCond .eq 25, 3) := by decide +kernel
theorem dX1_common_52 : decode cX1_common 52 = .ok (.lload 4, 2) := by decide +kernel
theorem dX1_common_54 : decode cX1_common 54 = .ok (.lload_n 2, 1) := by decide +kernel
theorem dX1_common_55 : decode cX1_common 55 = .ok (.lconst 0, 1) := by decide +kernel
theorem dX1_common_56 : decode cX1_common 56 = .ok (.lcmp, 1) := by decide +kernel
theorem dX1_common_57 : decode cX1_common 57 = .ok (.ifCond .ne 7, 3) := by decide +kernel
theorem dX1_common_60 : decode cX1_common 60 = .ok (.lconst 1, 1) := by decide +kernel
theorem dX1_common_61 : decode cX1_common 61 = .ok (.goto 4, 3) := by decide +kernel
theorem dX1_common_64 : decode cX1_common 64 = .ok (.lload_n 2, 1) := by decide +kernel
theorem dX1_common_65 : decode cX1_common 65 = .ok (.lrem, 1) := by decide +kernel
theorem dX1_common_66 : decode cX1_common 66 = .ok (.lstore 7, 2) := by decide +kernel
theorem dX1_common_68 : decode cX1_common 68 = .ok (.lload_n 2, 1) := by decide +kernel
theorem dX1_common_69 : decode cX1_common 69 = .ok (.lstore 4, 2) := by decide +kernel
theorem dX1_common_71 : decode cX1_common 71 = .ok (.lload 7, 2) := by decide +kernel
theorem dX1_common_73 : decode cX1_common 73 = .ok (.lstore_n 2, 1) := by decide +kernel
theorem dX1_common_74 : decode cX1_common 74 = .ok (.iinc 6 1, 3) := by decide +kernel
theorem dX1_common_77 : decode cX1_common 77 = .ok (.goto (-38), 3) := by decide +kernel
theorem dX1_common_80 : decode cX1_common 80 = .ok (.lload 4, 2) := by decide +kernel
theorem dX1_common_82 : decode cX1_common 82 = .ok (.lconst 1, 1) := by decide +kernel
theorem dX1_common_83 : decode cX1_common 83 = .ok (.lcmp, 1) := by decide +kernel
theorem dX1_common_84 : decode cX1_common 84 = .ok (.ifCond .ge 7, 3) := by decide +kernel
theorem dX1_common_87 : decode cX1_common 87 = .ok (.lconst 1, 1) := by decide +kernel
theorem dX1_common_88 : decode cX1_common 88 = .ok (.goto 5, 3) := by decide +kernel
theorem dX1_common_91 : decode cX1_common 91 = .ok (.lload 4, 2) := by decide +kernel
theorem dX1_common_93 : decode cX1_common 93 = .ok (.lreturn, 1) := by decide +kernel
abbrev cX1_valueBottom : ByteArray := prog_3_method_14_code
def yX1_valueBottom : MethodName := ⟨RX1, "valueBottom", "(II)I"⟩
theorem dX1_valueBottom_0 : decode cX1_valueBottom 0 = .ok (.aload_n 0, 1) := by decide +kernel
theorem dX1_valueBottom_1 : decode cX1_valueBottom 1 = .ok (.iload_n 1, 1) := by decide +kernel
theorem dX1_valueBottom_2 : decode cX1_valueBottom 2 = .ok (.invokevirtual 48, 3) := by decide +kernel
theorem dX1_valueBottom_5 : decode cX1_valueBottom 5 = .ok (.ifCond .eq 11, 3) := by decide +kernel
theorem dX1_valueBottom_8 : decode cX1_valueBottom 8 = .ok (.aload_n 0, 1) := by decide +kernel
theorem dX1_valueBottom_9 : decode cX1_valueBottom 9 = .ok (.iload_n 2, 1) := by decide +kernel
theorem dX1_valueBottom_10 : decode cX1_valueBottom 10 = .ok (.invokevirtual 52, 3) := by decide +kernel
theorem dX1_valueBottom_13 : decode cX1_valueBottom 13 = .ok (.ifCond .ne 6, 3) := by decide +kernel
theorem dX1_valueBottom_16 : decode cX1_valueBottom 16 = .ok (.ldc 55, 2) := by decide +kernel
theorem dX1_valueBottom_18 : decode cX1_valueBottom 18 = .ok (.ireturn, 1) := by decide +kernel
theorem dX1_valueBottom_19 : decode cX1_valueBottom 19 = .ok (.aload_n 0, 1) := by decide +kernel
theorem dX1_valueBottom_20 : decode cX1_valueBottom 20 = .ok (.invokevirtual 56, 3) := by decide +kernel
theorem dX1_valueBottom_23 : decode cX1_valueBottom 23 = .ok (.aload_n 0, 1) := by decide +kernel
theorem dX1_valueBottom_24 : decode cX1_valueBottom 24 = .ok (.iconst 4, 1) := by decide +kernel
theorem dX1_valueBottom_25 : decode cX1_valueBottom 25 = .ok (.iload_n 1, 1) := by decide +kernel
theorem dX1_valueBottom_26 : decode cX1_valueBottom 26 = .ok (.imul, 1) := by decide +kernel
theorem dX1_valueBottom_27 : decode cX1_valueBottom 27 = .ok (.iload_n 2, 1) := by decide +kernel
theorem dX1_valueBottom_28 : decode cX1_valueBottom 28 = .ok (.iadd, 1) := by decide +kernel
theorem dX1_valueBottom_29 : decode cX1_valueBottom 29 = .ok (.invokevirtual 59, 3) := by decide +kernel
theorem dX1_valueBottom_32 : decode cX1_valueBottom 32 = .ok (.lstore_n 3, 1) := by decide +kernel
theorem dX1_valueBottom_33 : decode cX1_valueBottom 33 = .ok (.aload_n 0, 1) := by decide +kernel
theorem dX1_valueBottom_34 : decode cX1_valueBottom 34 = .ok (.getfield 23, 3) := by decide +kernel
theorem dX1_valueBottom_37 : decode cX1_valueBottom 37 = .ok (.iconst 4, 1) := by decide +kernel
theorem dX1_valueBottom_38 : decode cX1_valueBottom 38 = .ok (.iload_n 1, 1) := by decide +kernel
theorem dX1_valueBottom_39 : decode cX1_valueBottom 39 = .ok (.imul, 1) := by decide +kernel
theorem dX1_valueBottom_40 : decode cX1_valueBottom 40 = .ok (.iload_n 2, 1) := by decide +kernel
theorem dX1_valueBottom_41 : decode cX1_valueBottom 41 = .ok (.iadd, 1) := by decide +kernel
theorem dX1_valueBottom_42 : decode cX1_valueBottom 42 = .ok (.laload, 1) := by decide +kernel
theorem dX1_valueBottom_43 : decode cX1_valueBottom 43 = .ok (.lload_n 3, 1) := by decide +kernel
theorem dX1_valueBottom_44 : decode cX1_valueBottom 44 = .ok (.ldiv, 1) := by decide +kernel
theorem dX1_valueBottom_45 : decode cX1_valueBottom 45 = .ok (.l2i, 1) := by decide +kernel
theorem dX1_valueBottom_46 : decode cX1_valueBottom 46 = .ok (.ireturn, 1) := by decide +kernel
abbrev cX1_bestTop : ByteArray := prog_3_method_18_code
def yX1_bestTop : MethodName := ⟨RX1, "bestTop", "(I)I"⟩
theorem dX1_bestTop_0 : decode cX1_bestTop 0 = .ok (.aload_n 0, 1) := by decide +kernel
theorem dX1_bestTop_1 : decode cX1_bestTop 1 = .ok (.iload_n 1, 1) := by decide +kernel
theorem dX1_bestTop_2 : decode cX1_bestTop 2 = .ok (.invokevirtual 52, 3) := by decide +kernel
theorem dX1_bestTop_5 : decode cX1_bestTop 5 = .ok (.ifCond .ne 6, 3) := by decide +kernel
theorem dX1_bestTop_8 : decode cX1_bestTop 8 = .ok (.ldc 55, 2) := by decide +kernel
theorem dX1_bestTop_10 : decode cX1_bestTop 10 = .ok (.ireturn, 1) := by decide +kernel
theorem dX1_bestTop_11 : decode cX1_bestTop 11 = .ok (.aload_n 0, 1) := by decide +kernel
theorem dX1_bestTop_12 : decode cX1_bestTop 12 = .ok (.invokevirtual 69, 3) := by decide +kernel
theorem dX1_bestTop_15 : decode cX1_bestTop 15 = .ok (.istore_n 2, 1) := by decide +kernel
theorem dX1_bestTop_16 : decode cX1_bestTop 16 = .ok (.aload_n 0, 1) := by decide +kernel
theorem dX1_bestTop_17 : decode cX1_bestTop 17 = .ok (.iload_n 2, 1) := by decide +kernel
theorem dX1_bestTop_18 : decode cX1_bestTop 18 = .ok (.iload_n 1, 1) := by decide +kernel
theorem dX1_bestTop_19 : decode cX1_bestTop 19 = .ok (.invokevirtual 73, 3) := by decide +kernel
theorem dX1_bestTop_22 : decode cX1_bestTop 22 = .ok (.ireturn, 1) := by decide +kernel
abbrev cX1_firstBest : ByteArray := prog_3_method_17_code
def yX1_firstBest : MethodName := ⟨RX1, "firstBest", "()I"⟩
theorem dX1_firstBest_0 : decode cX1_firstBest 0 = .ok (.aload_n 0, 1) := by decide +kernel
theorem dX1_firstBest_1 : decode cX1_firstBest 1 = .ok (.invokevirtual 56, 3) := by decide +kernel
theorem dX1_firstBest_4 : decode cX1_firstBest 4 = .ok (.iconst 0, 1) := by decide +kernel
theorem dX1_firstBest_5 : decode cX1_firstBest 5 = .ok (.istore_n 1, 1) := by decide +kernel
theorem dX1_firstBest_6 : decode cX1_firstBest 6 = .ok (.iload_n 1, 1) := by decide +kernel
theorem dX1_firstBest_7 : decode cX1_firstBest 7 = .ok (.bipush 16, 2) := by decide +kernel
theorem dX1_firstBest_9 : decode cX1_firstBest 9 = .ok (.if_icmp .ge 19, 3) := by decide +kernel
theorem dX1_firstBest_12 : decode cX1_firstBest 12 = .ok (.aload_n 0, 1) := by decide +kernel
theorem dX1_firstBest_13 : decode cX1_firstBest 13 = .ok (.iload_n 1, 1) := by decide +kernel
theorem dX1_firstBest_14 : decode cX1_firstBest 14 = .ok (.invokevirtual 66, 3) := by decide +kernel
theorem dX1_firstBest_17 : decode cX1_firstBest 17 = .ok (.ifCond .eq 5, 3) := by decide +kernel
theorem dX1_firstBest_20 : decode cX1_firstBest 20 = .ok (.iload_n 1, 1) := by decide +kernel
theorem dX1_firstBest_21 : decode cX1_firstBest 21 = .ok (.ireturn, 1) := by decide +kernel
theorem dX1_firstBest_22 : decode cX1_firstBest 22 = .ok (.iinc 1 1, 3) := by decide +kernel
theorem dX1_firstBest_25 : decode cX1_firstBest 25 = .ok (.goto (-19), 3) := by decide +kernel
theorem dX1_firstBest_28 : decode cX1_firstBest 28 = .ok (.iconst 0, 1) := by decide +kernel
theorem dX1_firstBest_29 : decode cX1_firstBest 29 = .ok (.ireturn, 1) := by decide +kernel
abbrev cX1_isBest : ByteArray := prog_3_method_16_code
def yX1_isBest : MethodName := ⟨RX1, "isBest", "(I)Z"⟩
theorem dX1_isBest_0 : decode cX1_isBest 0 = .ok (.iconst 0, 1) := by decide +kernel
theorem dX1_isBest_1 : decode cX1_isBest 1 = .ok (.istore_n 2, 1) := by decide +kernel
theorem dX1_isBest_2 : decode cX1_isBest 2 = .ok (.iload_n 2, 1) := by decide +kernel
theorem dX1_isBest_3 : decode cX1_isBest 3 = .ok (.bipush 16, 2) := by decide +kernel
theorem dX1_isBest_5 : decode cX1_isBest 5 = .ok (.if_icmp .ge 34, 3) := by decide +kernel
theorem dX1_isBest_8 : decode cX1_isBest 8 = .ok (.iconst 0, 1) := by decide +kernel
theorem dX1_isBest_9 : decode cX1_isBest 9 = .ok (.istore_n 3, 1) := by decide +kernel
theorem dX1_isBest_10 : decode cX1_isBest 10 = .ok (.iload_n 3, 1) := by decide +kernel
theorem dX1_isBest_11 : decode cX1_isBest 11 = .ok (.iconst 4, 1) := by decide +kernel
theorem dX1_isBest_12 : decode cX1_isBest 12 = .ok (.if_icmp .ge 21, 3) := by decide +kernel
theorem dX1_isBest_15 : decode cX1_isBest 15 = .ok (.aload_n 0, 1) := by decide +kernel
theorem dX1_isBest_16 : decode cX1_isBest 16 = .ok (.iload_n 2, 1) := by decide +kernel
theorem dX1_isBest_17 : decode cX1_isBest 17 = .ok (.iload_n 1, 1) := by decide +kernel
theorem dX1_isBest_18 : decode cX1_isBest 18 = .ok (.iload_n 3, 1) := by decide +kernel
theorem dX1_isBest_19 : decode cX1_isBest 19 = .ok (.invokevirtual 62, 3) := by decide +kernel
theorem dX1_isBest_22 : decode cX1_isBest 22 = .ok (.ifCond .le 5, 3) := by decide +kernel
theorem dX1_isBest_25 : decode cX1_isBest 25 = .ok (.iconst 0, 1) := by decide +kernel
theorem dX1_isBest_26 : decode cX1_isBest 26 = .ok (.ireturn, 1) := by decide +kernel
theorem dX1_isBest_27 : decode cX1_isBest 27 = .ok (.iinc 3 1, 3) := by decide +kernel
theorem dX1_isBest_30 : decode cX1_isBest 30 = .ok (.goto (-20), 3) := by decide +kernel
theorem dX1_isBest_33 : decode cX1_isBest 33 = .ok (.iinc 2 1, 3) := by decide +kernel
theorem dX1_isBest_36 : decode cX1_isBest 36 = .ok (.goto (-34), 3) := by decide +kernel
theorem dX1_isBest_39 : decode cX1_isBest 39 = .ok (.iconst 1, 1) := by decide +kernel
theorem dX1_isBest_40 : decode cX1_isBest 40 = .ok (.ireturn, 1) := by decide +kernel
abbrev cX1_order : ByteArray := prog_3_method_15_code
def yX1_order : MethodName := ⟨RX1, "order", "(III)I"⟩
theorem dX1_order_0 : decode cX1_order 0 = .ok (.aload_n 0, 1) := by decide +kernel
theorem dX1_order_1 : decode cX1_order 1 = .ok (.getfield 20, 3) := by decide +kernel
theorem dX1_order_4 : decode cX1_order 4 = .ok (.iconst 4, 1) := by decide +kernel
theorem dX1_order_5 : decode cX1_order 5 = .ok (.iload_n 1, 1) := by decide +kernel
theorem dX1_order_6 : decode cX1_order 6 = .ok (.imul, 1) := by decide +kernel
theorem dX1_order_7 : decode cX1_order 7 = .ok (.iload_n 3, 1) := by decide +kernel
theorem dX1_order_8 : decode cX1_order 8 = .ok (.iadd, 1) := by decide +kernel
theorem dX1_order_9 : decode cX1_order 9 = .ok (.laload, 1) := by decide +kernel
theorem dX1_order_10 : decode cX1_order 10 = .ok (.aload_n 0, 1) := by decide +kernel
theorem dX1_order_11 : decode cX1_order 11 = .ok (.getfield 23, 3) := by decide +kernel
end
section
set_option maxRecDepth 100000
theorem dX1_order_14 : decode cX1_order 14 = .ok (.iconst 4, 1) := by decide +kernel
theorem dX1_order_15 : decode cX1_order 15 = .ok (.iload_n 2, 1) := by decide +kernel
theorem dX1_order_16 : decode cX1_order 16 = .ok (.imul, 1) := by decide +kernel
theorem dX1_order_17 : decode cX1_order 17 = .ok (.iload_n 3, 1) := by decide +kernel
theorem dX1_order_18 : decode cX1_order 18 = .ok (.iadd, 1) := by decide +kernel
theorem dX1_order_19 : decode cX1_order 19 = .ok (.laload, 1) := by decide +kernel
theorem dX1_order_20 : decode cX1_order 20 = .ok (.lmul, 1) := by decide +kernel
theorem dX1_order_21 : decode cX1_order 21 = .ok (.lstore 4, 2) := by decide +kernel
theorem dX1_order_23 : decode cX1_order 23 = .ok (.aload_n 0, 1) := by decide +kernel
theorem dX1_order_24 : decode cX1_order 24 = .ok (.getfield 20, 3) := by decide +kernel
theorem dX1_order_27 : decode cX1_order 27 = .ok (.iconst 4, 1) := by decide +kernel
theorem dX1_order_28 : decode cX1_order 28 = .ok (.iload_n 2, 1) := by decide +kernel
theorem dX1_order_29 : decode cX1_order 29 = .ok (.imul, 1) := by decide +kernel
theorem dX1_order_30 : decode cX1_order 30 = .ok (.iload_n 3, 1) := by decide +kernel
theorem dX1_order_31 : decode cX1_order 31 = .ok (.iadd, 1) := by decide +kernel
theorem dX1_order_32 : decode cX1_order 32 = .ok (.laload, 1) := by decide +kernel
theorem dX1_order_33 : decode cX1_order 33 = .ok (.aload_n 0, 1) := by decide +kernel
theorem dX1_order_34 : decode cX1_order 34 = .ok (.getfield 23, 3) := by decide +kernel
theorem dX1_order_37 : decode cX1_order 37 = .ok (.iconst 4, 1) := by decide +kernel
theorem dX1_order_38 : decode cX1_order 38 = .ok (.iload_n 1, 1) := by decide +kernel
theorem dX1_order_39 : decode cX1_order 39 = .ok (.imul, 1) := by decide +kernel
theorem dX1_order_40 : decode cX1_order 40 = .ok (.iload_n 3, 1) := by decide +kernel
theorem dX1_order_41 : decode cX1_order 41 = .ok (.iadd, 1) := by decide +kernel
theorem dX1_order_42 : decode cX1_order 42 = .ok (.laload, 1) := by decide +kernel
theorem dX1_order_43 : decode cX1_order 43 = .ok (.lmul, 1) := by decide +kernel
theorem dX1_order_44 : decode cX1_order 44 = .ok (.lstore 6, 2) := by decide +kernel
theorem dX1_order_46 : decode cX1_order 46 = .ok (.lload 4, 2) := by decide +kernel
theorem dX1_order_48 : decode cX1_order 48 = .ok (.lload 6, 2) := by decide +kernel
theorem dX1_order_50 : decode cX1_order 50 = .ok (.lcmp, 1) := by decide +kernel
theorem dX1_order_51 : decode cX1_order 51 = .ok (.ifCond .ge 7, 3) := by decide +kernel
theorem dX1_order_54 : decode cX1_order 54 = .ok (.iconst (-1), 1) := by decide +kernel
theorem dX1_order_55 : decode cX1_order 55 = .ok (.goto 16, 3) := by decide +kernel
theorem dX1_order_58 : decode cX1_order 58 = .ok (.lload 4, 2) := by decide +kernel
theorem dX1_order_60 : decode cX1_order 60 = .ok (.lload 6, 2) := by decide +kernel
theorem dX1_order_62 : decode cX1_order 62 = .ok (.lcmp, 1) := by decide +kernel
theorem dX1_order_63 : decode cX1_order 63 = .ok (.ifCond .le 7, 3) := by decide +kernel
theorem dX1_order_66 : decode cX1_order 66 = .ok (.iconst 1, 1) := by decide +kernel
theorem dX1_order_67 : decode cX1_order 67 = .ok (.goto 4, 3) := by decide +kernel
theorem dX1_order_70 : decode cX1_order 70 = .ok (.iconst 0, 1) := by decide +kernel
theorem dX1_order_71 : decode cX1_order 71 = .ok (.ireturn, 1) := by decide +kernel
abbrev cX1_bestBottom : ByteArray := prog_3_method_19_code
def yX1_bestBottom : MethodName := ⟨RX1, "bestBottom", "(I)I"⟩
theorem dX1_bestBottom_0 : decode cX1_bestBottom 0 = .ok (.aload_n 0, 1) := by decide +kernel
theorem dX1_bestBottom_1 : decode cX1_bestBottom 1 = .ok (.iload_n 1, 1) := by decide +kernel
theorem dX1_bestBottom_2 : decode cX1_bestBottom 2 = .ok (.invokevirtual 52, 3) := by decide +kernel
theorem dX1_bestBottom_5 : decode cX1_bestBottom 5 = .ok (.ifCond .ne 6, 3) := by decide +kernel
theorem dX1_bestBottom_8 : decode cX1_bestBottom 8 = .ok (.ldc 55, 2) := by decide +kernel
theorem dX1_bestBottom_10 : decode cX1_bestBottom 10 = .ok (.ireturn, 1) := by decide +kernel
theorem dX1_bestBottom_11 : decode cX1_bestBottom 11 = .ok (.aload_n 0, 1) := by decide +kernel
theorem dX1_bestBottom_12 : decode cX1_bestBottom 12 = .ok (.invokevirtual 69, 3) := by decide +kernel
theorem dX1_bestBottom_15 : decode cX1_bestBottom 15 = .ok (.istore_n 2, 1) := by decide +kernel
theorem dX1_bestBottom_16 : decode cX1_bestBottom 16 = .ok (.aload_n 0, 1) := by decide +kernel
theorem dX1_bestBottom_17 : decode cX1_bestBottom 17 = .ok (.iload_n 2, 1) := by decide +kernel
theorem dX1_bestBottom_18 : decode cX1_bestBottom 18 = .ok (.iload_n 1, 1) := by decide +kernel
theorem dX1_bestBottom_19 : decode cX1_bestBottom 19 = .ok (.invokevirtual 77, 3) := by decide +kernel
theorem dX1_bestBottom_22 : decode cX1_bestBottom 22 = .ok (.ireturn, 1) := by decide +kernel
abbrev cX1_policy : ByteArray := prog_3_method_20_code
def yX1_policy : MethodName := ⟨RX1, "policy", "()I"⟩
theorem dX1_policy_0 : decode cX1_policy 0 = .ok (.aload_n 0, 1) := by decide +kernel
theorem dX1_policy_1 : decode cX1_policy 1 = .ok (.invokevirtual 69, 3) := by decide +kernel
theorem dX1_policy_4 : decode cX1_policy 4 = .ok (.ireturn, 1) := by decide +kernel
abbrev cX1_policies : ByteArray := prog_3_method_21_code
def yX1_policies : MethodName := ⟨RX1, "policies", "()I"⟩
theorem dX1_policies_0 : decode cX1_policies 0 = .ok (.aload_n 0, 1) := by decide +kernel
theorem dX1_policies_1 : decode cX1_policies 1 = .ok (.invokevirtual 56, 3) := by decide +kernel
theorem dX1_policies_4 : decode cX1_policies 4 = .ok (.iconst 0, 1) := by decide +kernel
theorem dX1_policies_5 : decode cX1_policies 5 = .ok (.istore_n 1, 1) := by decide +kernel
theorem dX1_policies_6 : decode cX1_policies 6 = .ok (.iconst 0, 1) := by decide +kernel
theorem dX1_policies_7 : decode cX1_policies 7 = .ok (.istore_n 2, 1) := by decide +kernel
theorem dX1_policies_8 : decode cX1_policies 8 = .ok (.iload_n 2, 1) := by decide +kernel
theorem dX1_policies_9 : decode cX1_policies 9 = .ok (.bipush 16, 2) := by decide +kernel
theorem dX1_policies_11 : decode cX1_policies 11 = .ok (.if_icmp .ge 20, 3) := by decide +kernel
theorem dX1_policies_14 : decode cX1_policies 14 = .ok (.aload_n 0, 1) := by decide +kernel
theorem dX1_policies_15 : decode cX1_policies 15 = .ok (.iload_n 2, 1) := by decide +kernel
theorem dX1_policies_16 : decode cX1_policies 16 = .ok (.invokevirtual 66, 3) := by decide +kernel
theorem dX1_policies_19 : decode cX1_policies 19 = .ok (.ifCond .eq 6, 3) := by decide +kernel
theorem dX1_policies_22 : decode cX1_policies 22 = .ok (.iinc 1 1, 3) := by decide +kernel
theorem dX1_policies_25 : decode cX1_policies 25 = .ok (.iinc 2 1, 3) := by decide +kernel
theorem dX1_policies_28 : decode cX1_policies 28 = .ok (.goto (-20), 3) := by decide +kernel
theorem dX1_policies_31 : decode cX1_policies 31 = .ok (.iload_n 1, 1) := by decide +kernel
theorem dX1_policies_32 : decode cX1_policies 32 = .ok (.ireturn, 1) := by decide +kernel
abbrev cX1_good : ByteArray := prog_3_method_22_code
def yX1_good : MethodName := ⟨RX1, "good", "(II)Z"⟩
theorem dX1_good_0 : decode cX1_good 0 = .ok (.aload_n 0, 1) := by decide +kernel
theorem dX1_good_1 : decode cX1_good 1 = .ok (.iload_n 1, 1) := by decide +kernel
theorem dX1_good_2 : decode cX1_good 2 = .ok (.iload_n 2, 1) := by decide +kernel
theorem dX1_good_3 : decode cX1_good 3 = .ok (.invokevirtual 26, 3) := by decide +kernel
theorem dX1_good_6 : decode cX1_good 6 = .ok (.ifCond .ne 5, 3) := by decide +kernel
theorem dX1_good_9 : decode cX1_good 9 = .ok (.iconst 0, 1) := by decide +kernel
theorem dX1_good_10 : decode cX1_good 10 = .ok (.ireturn, 1) := by decide +kernel
theorem dX1_good_11 : decode cX1_good 11 = .ok (.aload_n 0, 1) := by decide +kernel
theorem dX1_good_12 : decode cX1_good 12 = .ok (.invokevirtual 56, 3) := by decide +kernel
theorem dX1_good_15 : decode cX1_good 15 = .ok (.iconst 0, 1) := by decide +kernel
theorem dX1_good_16 : decode cX1_good 16 = .ok (.istore_n 3, 1) := by decide +kernel
theorem dX1_good_17 : decode cX1_good 17 = .ok (.iload_n 3, 1) := by decide +kernel
theorem dX1_good_18 : decode cX1_good 18 = .ok (.bipush 16, 2) := by decide +kernel
theorem dX1_good_20 : decode cX1_good 20 = .ok (.if_icmp .ge 28, 3) := by decide +kernel
theorem dX1_good_23 : decode cX1_good 23 = .ok (.iload_n 3, 1) := by decide +kernel
theorem dX1_good_24 : decode cX1_good 24 = .ok (.iload_n 1, 1) := by decide +kernel
theorem dX1_good_25 : decode cX1_good 25 = .ok (.ishr, 1) := by decide +kernel
theorem dX1_good_26 : decode cX1_good 26 = .ok (.iconst 1, 1) := by decide +kernel
theorem dX1_good_27 : decode cX1_good 27 = .ok (.iand, 1) := by decide +kernel
theorem dX1_good_28 : decode cX1_good 28 = .ok (.iload_n 2, 1) := by decide +kernel
theorem dX1_good_29 : decode cX1_good 29 = .ok (.if_icmp .ne 13, 3) := by decide +kernel
theorem dX1_good_32 : decode cX1_good 32 = .ok (.aload_n 0, 1) := by decide +kernel
theorem dX1_good_33 : decode cX1_good 33 = .ok (.iload_n 3, 1) := by decide +kernel
theorem dX1_good_34 : decode cX1_good 34 = .ok (.invokevirtual 66, 3) := by decide +kernel
theorem dX1_good_37 : decode cX1_good 37 = .ok (.ifCond .eq 5, 3) := by decide +kernel
theorem dX1_good_40 : decode cX1_good 40 = .ok (.iconst 1, 1) := by decide +kernel
theorem dX1_good_41 : decode cX1_good 41 = .ok (.ireturn, 1) := by decide +kernel
theorem dX1_good_42 : decode cX1_good 42 = .ok (.iinc 3 1, 3) := by decide +kernel
theorem dX1_good_45 : decode cX1_good 45 = .ok (.goto (-28), 3) := by decide +kernel
theorem dX1_good_48 : decode cX1_good 48 = .ok (.iconst 0, 1) := by decide +kernel
theorem dX1_good_49 : decode cX1_good 49 = .ok (.ireturn, 1) := by decide +kernel
abbrev cX1_prune : ByteArray := prog_3_method_24_code
def yX1_prune : MethodName := ⟨RX1, "prune", "()I"⟩
theorem dX1_prune_0 : decode cX1_prune 0 = .ok (.iconst 0, 1) := by decide +kernel
theorem dX1_prune_1 : decode cX1_prune 1 = .ok (.istore_n 1, 1) := by decide +kernel
theorem dX1_prune_2 : decode cX1_prune 2 = .ok (.iconst 0, 1) := by decide +kernel
theorem dX1_prune_3 : decode cX1_prune 3 = .ok (.istore_n 2, 1) := by decide +kernel
theorem dX1_prune_4 : decode cX1_prune 4 = .ok (.iconst 0, 1) := by decide +kernel
theorem dX1_prune_5 : decode cX1_prune 5 = .ok (.istore_n 3, 1) := by decide +kernel
theorem dX1_prune_6 : decode cX1_prune 6 = .ok (.iload_n 3, 1) := by decide +kernel
theorem dX1_prune_7 : decode cX1_prune 7 = .ok (.bipush 8, 2) := by decide +kernel
theorem dX1_prune_9 : decode cX1_prune 9 = .ok (.if_icmp .ge 28, 3) := by decide +kernel
theorem dX1_prune_12 : decode cX1_prune 12 = .ok (.aload_n 0, 1) := by decide +kernel
theorem dX1_prune_13 : decode cX1_prune 13 = .ok (.iload_n 3, 1) := by decide +kernel
theorem dX1_prune_14 : decode cX1_prune 14 = .ok (.iconst 2, 1) := by decide +kernel
theorem dX1_prune_15 : decode cX1_prune 15 = .ok (.idiv, 1) := by decide +kernel
theorem dX1_prune_16 : decode cX1_prune 16 = .ok (.iload_n 3, 1) := by decide +kernel
theorem dX1_prune_17 : decode cX1_prune 17 = .ok (.iconst 2, 1) := by decide +kernel
theorem dX1_prune_18 : decode cX1_prune 18 = .ok (.irem, 1) := by decide +kernel
theorem dX1_prune_19 : decode cX1_prune 19 = .ok (.invokevirtual 80, 3) := by decide +kernel
theorem dX1_prune_22 : decode cX1_prune 22 = .ok (.ifCond .ne 9, 3) := by decide +kernel
theorem dX1_prune_25 : decode cX1_prune 25 = .ok (.iload_n 1, 1) := by decide +kernel
theorem dX1_prune_26 : decode cX1_prune 26 = .ok (.iconst 1, 1) := by decide +kernel
theorem dX1_prune_27 : decode cX1_prune 27 = .ok (.iload_n 3, 1) := by decide +kernel
theorem dX1_prune_28 : decode cX1_prune 28 = .ok (.ishl, 1) := by decide +kernel
theorem dX1_prune_29 : decode cX1_prune 29 = .ok (.ior, 1) := by decide +kernel
theorem dX1_prune_30 : decode cX1_prune 30 = .ok (.istore_n 1, 1) := by decide +kernel
theorem dX1_prune_31 : decode cX1_prune 31 = .ok (.iinc 3 1, 3) := by decide +kernel
theorem dX1_prune_34 : decode cX1_prune 34 = .ok (.goto (-28), 3) := by decide +kernel
theorem dX1_prune_37 : decode cX1_prune 37 = .ok (.iconst 0, 1) := by decide +kernel
theorem dX1_prune_38 : decode cX1_prune 38 = .ok (.istore_n 3, 1) := by decide +kernel
theorem dX1_prune_39 : decode cX1_prune 39 = .ok (.iload_n 3, 1) := by decide +kernel
theorem dX1_prune_40 : decode cX1_prune 40 = .ok (.bipush 8, 2) := by decide +kernel
theorem dX1_prune_42 : decode cX1_prune 42 = .ok (.if_icmp .ge 41, 3) := by decide +kernel
theorem dX1_prune_45 : decode cX1_prune 45 = .ok (.iload_n 1, 1) := by decide +kernel
theorem dX1_prune_46 : decode cX1_prune 46 = .ok (.iload_n 3, 1) := by decide +kernel
theorem dX1_prune_47 : decode cX1_prune 47 = .ok (.ishr, 1) := by decide +kernel
theorem dX1_prune_48 : decode cX1_prune 48 = .ok (.iconst 1, 1) := by decide +kernel
theorem dX1_prune_49 : decode cX1_prune 49 = .ok (.iand, 1) := by decide +kernel
theorem dX1_prune_50 : decode cX1_prune 50 = .ok (.iconst 1, 1) := by decide +kernel
theorem dX1_prune_51 : decode cX1_prune 51 = .ok (.if_icmp .ne 26, 3) := by decide +kernel
theorem dX1_prune_54 : decode cX1_prune 54 = .ok (.aload_n 0, 1) := by decide +kernel
theorem dX1_prune_55 : decode cX1_prune 55 = .ok (.iload_n 3, 1) := by decide +kernel
theorem dX1_prune_56 : decode cX1_prune 56 = .ok (.iconst 2, 1) := by decide +kernel
theorem dX1_prune_57 : decode cX1_prune 57 = .ok (.irem, 1) := by decide +kernel
theorem dX1_prune_58 : decode cX1_prune 58 = .ok (.ifCond .ne 9, 3) := by decide +kernel
theorem dX1_prune_61 : decode cX1_prune 61 = .ok (.iload_n 3, 1) := by decide +kernel
theorem dX1_prune_62 : decode cX1_prune 62 = .ok (.iconst 1, 1) := by decide +kernel
theorem dX1_prune_63 : decode cX1_prune 63 = .ok (.iadd, 1) := by decide +kernel
theorem dX1_prune_64 : decode cX1_prune 64 = .ok (.goto 6, 3) := by decide +kernel
theorem dX1_prune_67 : decode cX1_prune 67 = .ok (.iload_n 3, 1) := by decide +kernel
theorem dX1_prune_68 : decode cX1_prune 68 = .ok (.iconst 1, 1) := by decide +kernel
theorem dX1_prune_69 : decode cX1_prune 69 = .ok (.isub, 1) := by decide +kernel
theorem dX1_prune_70 : decode cX1_prune 70 = .ok (.iload_n 3, 1) := by decide +kernel
theorem dX1_prune_71 : decode cX1_prune 71 = .ok (.invokevirtual 83, 3) := by decide +kernel
theorem dX1_prune_74 : decode cX1_prune 74 = .ok (.iinc 2 1, 3) := by decide +kernel
theorem dX1_prune_77 : decode cX1_prune 77 = .ok (.iinc 3 1, 3) := by decide +kernel
theorem dX1_prune_80 : decode cX1_prune 80 = .ok (.goto (-41), 3) := by decide +kernel
theorem dX1_prune_83 : decode cX1_prune 83 = .ok (.iload_n 2, 1) := by decide +kernel
theorem dX1_prune_84 : decode cX1_prune 84 = .ok (.ireturn, 1) := by decide +kernel
abbrev cX1_copy : ByteArray := prog_3_method_23_code
def yX1_copy : MethodName := ⟨RX1, "copy", "(II)V"⟩
theorem dX1_copy_0 : decode cX1_copy 0 = .ok (.aload_n 0, 1) := by decide +kernel
theorem dX1_copy_1 : decode cX1_copy 1 = .ok (.getfield 7, 3) := by decide +kernel
theorem dX1_copy_4 : decode cX1_copy 4 = .ok (.iload_n 2, 1) := by decide +kernel
theorem dX1_copy_5 : decode cX1_copy 5 = .ok (.aload_n 0, 1) := by decide +kernel
theorem dX1_copy_6 : decode cX1_copy 6 = .ok (.getfield 7, 3) := by decide +kernel
theorem dX1_copy_9 : decode cX1_copy 9 = .ok (.iload_n 1, 1) := by decide +kernel
theorem dX1_copy_10 : decode cX1_copy 10 = .ok (.iaload, 1) := by decide +kernel
theorem dX1_copy_11 : decode cX1_copy 11 = .ok (.iastore, 1) := by decide +kernel
theorem dX1_copy_12 : decode cX1_copy 12 = .ok (.iconst 0, 1) := by decide +kernel
theorem dX1_copy_13 : decode cX1_copy 13 = .ok (.istore_n 3, 1) := by decide +kernel
theorem dX1_copy_14 : decode cX1_copy 14 = .ok (.iload_n 3, 1) := by decide +kernel
theorem dX1_copy_15 : decode cX1_copy 15 = .ok (.iconst 4, 1) := by decide +kernel
theorem dX1_copy_16 : decode cX1_copy 16 = .ok (.if_icmp .ge 29, 3) := by decide +kernel
theorem dX1_copy_19 : decode cX1_copy 19 = .ok (.aload_n 0, 1) := by decide +kernel
theorem dX1_copy_20 : decode cX1_copy 20 = .ok (.getfield 13, 3) := by decide +kernel
theorem dX1_copy_23 : decode cX1_copy 23 = .ok (.iconst 4, 1) := by decide +kernel
theorem dX1_copy_24 : decode cX1_copy 24 = .ok (.iload_n 2, 1) := by decide +kernel
theorem dX1_copy_25 : decode cX1_copy 25 = .ok (.imul, 1) := by decide +kernel
theorem dX1_copy_26 : decode cX1_copy 26 = .ok (.iload_n 3, 1) := by decide +kernel
theorem dX1_copy_27 : decode cX1_copy 27 = .ok (.iadd, 1) := by decide +kernel
theorem dX1_copy_28 : decode cX1_copy 28 = .ok (.aload_n 0, 1) := by decide +kernel
theorem dX1_copy_29 : decode cX1_copy 29 = .ok (.getfield 13, 3) := by decide +kernel
theorem dX1_copy_32 : decode cX1_copy 32 = .ok (.iconst 4, 1) := by decide +kernel
theorem dX1_copy_33 : decode cX1_copy 33 = .ok (.iload_n 1, 1) := by decide +kernel
theorem dX1_copy_34 : decode cX1_copy 34 = .ok (.imul, 1) := by decide +kernel
theorem dX1_copy_35 : decode cX1_copy 35 = .ok (.iload_n 3, 1) := by decide +kernel
theorem dX1_copy_36 : decode cX1_copy 36 = .ok (.iadd, 1) := by decide +kernel
theorem dX1_copy_37 : decode cX1_copy 37 = .ok (.iaload, 1) := by decide +kernel
theorem dX1_copy_38 : decode cX1_copy 38 = .ok (.iastore, 1) := by decide +kernel
theorem dX1_copy_39 : decode cX1_copy 39 = .ok (.iinc 3 1, 3) := by decide +kernel
theorem dX1_copy_42 : decode cX1_copy 42 = .ok (.goto (-28), 3) := by decide +kernel
theorem dX1_copy_45 : decode cX1_copy 45 = .ok (.return_, 1) := by decide +kernel
abbrev cX1_compare : ByteArray := prog_3_method_25_code
def yX1_compare : MethodName := ⟨RX1, "compare", "(III)I"⟩
theorem dX1_compare_0 : decode cX1_compare 0 = .ok (.aload_n 0, 1) := by decide +kernel
theorem dX1_compare_1 : decode cX1_compare 1 = .ok (.iload_n 1, 1) := by decide +kernel
theorem dX1_compare_2 : decode cX1_compare 2 = .ok (.invokevirtual 48, 3) := by decide +kernel
theorem dX1_compare_5 : decode cX1_compare 5 = .ok (.ifCond .eq 19, 3) := by decide +kernel
theorem dX1_compare_8 : decode cX1_compare 8 = .ok (.aload_n 0, 1) := by decide +kernel
theorem dX1_compare_9 : decode cX1_compare 9 = .ok (.iload_n 2, 1) := by decide +kernel
theorem dX1_compare_10 : decode cX1_compare 10 = .ok (.invokevirtual 48, 3) := by decide +kernel
theorem dX1_compare_13 : decode cX1_compare 13 = .ok (.ifCond .eq 11, 3) := by decide +kernel
theorem dX1_compare_16 : decode cX1_compare 16 = .ok (.aload_n 0, 1) := by decide +kernel
theorem dX1_compare_17 : decode cX1_compare 17 = .ok (.iload_n 3, 1) := by decide +kernel
theorem dX1_compare_18 : decode cX1_compare 18 = .ok (.invokevirtual 52, 3) := by decide +kernel
theorem dX1_compare_21 : decode cX1_compare 21 = .ok (.ifCond .ne 6, 3) := by decide +kernel
theorem dX1_compare_24 : decode cX1_compare 24 = .ok (.bipush (-2), 2) := by decide +kernel
theorem dX1_compare_26 : decode cX1_compare 26 = .ok (.ireturn, 1) := by decide +kernel
theorem dX1_compare_27 : decode cX1_compare 27 = .ok (.aload_n 0, 1) := by decide +kernel
theorem dX1_compare_28 : decode cX1_compare 28 = .ok (.invokevirtual 56, 3) := by decide +kernel
theorem dX1_compare_31 : decode cX1_compare 31 = .ok (.aload_n 0, 1) := by decide +kernel
theorem dX1_compare_32 : decode cX1_compare 32 = .ok (.iload_n 1, 1) := by decide +kernel
theorem dX1_compare_33 : decode cX1_compare 33 = .ok (.iload_n 2, 1) := by decide +kernel
theorem dX1_compare_34 : decode cX1_compare 34 = .ok (.iload_n 3, 1) := by decide +kernel
theorem dX1_compare_35 : decode cX1_compare 35 = .ok (.invokevirtual 62, 3) := by decide +kernel
theorem dX1_compare_38 : decode cX1_compare 38 = .ok (.ireturn, 1) := by decide +kernel
theorem q28 : (Jvm.Cond.initialized "PolicySolverModel") ∈ lw_all := lw_g (lw_at lw_m1 2 rfl) rfl
theorem q175 : (Jvm.Cond.instantiable "PolicySolverModel" (5 : Nat)) ∈ lw_all := lw_g (lw_at lw_m1 149 rfl) rfl
theorem q177 : (Jvm.Cond.instanceMethod ({ cls := "PolicySolverModel", name := "<init>", desc := "()V" } : Jvm.MethodName)) ∈ lw_all := lw_g (lw_at lw_m1 151 rfl) rfl
theorem q178 : (Jvm.Cond.code ({ cls := "PolicySolverModel", name := "<init>", desc := "()V" } : Jvm.MethodName) prog_3_method_1_code (2 : Nat) (Option.none : Option Jvm.ClassFile.FieldType)) ∈ lw_all := lw_g (lw_at lw_m1 152 rfl) rfl
theorem q179 : (Jvm.Cond.methodLink "PolicySolverModel" (1 : Nat) ({ cls := "java/lang/Object", name := "<init>", desc := "()V" } : Jvm.MethodName)) ∈ lw_all := lw_g (lw_at lw_m1 153 rfl) rfl
theorem q180 : (Jvm.Cond.fieldLink "PolicySolverModel" (7 : Nat) "PolicySolverModel" "rewards" "[I") ∈ lw_all := lw_g (lw_at lw_m1 154 rfl) rfl
theorem q181 : (Jvm.Cond.fieldLink "PolicySolverModel" (13 : Nat) "PolicySolverModel" "shares" "[I") ∈ lw_all := lw_g (lw_at lw_m1 155 rfl) rfl
theorem q182 : (Jvm.Cond.fieldLink "PolicySolverModel" (16 : Nat) "PolicySolverModel" "row" "[J") ∈ lw_all := lw_g (lw_at lw_m1 156 rfl) rfl
theorem q183 : (Jvm.Cond.fieldLink "PolicySolverModel" (20 : Nat) "PolicySolverModel" "tops" "[J") ∈ lw_all := lw_g (lw_at lw_m1 157 rfl) rfl
theorem q184 : (Jvm.Cond.fieldLink "PolicySolverModel" (23 : Nat) "PolicySolverModel" "bottoms" "[J") ∈ lw_all := lw_g (lw_at lw_m1 158 rfl) rfl
theorem q185 : (Jvm.Cond.lays "PolicySolverModel" "PolicySolverModel" "rewards" "[I") ∈ lw_all := lw_g (lw_at lw_m1 159 rfl) rfl
theorem q186 : (Jvm.Cond.soleField "PolicySolverModel" "rewards") ∈ lw_all := lw_g (lw_at lw_m1 160 rfl) rfl
theorem q187 : (Jvm.Cond.lays "PolicySolverModel" "PolicySolverModel" "shares" "[I") ∈ lw_all := lw_g (lw_at lw_m1 161 rfl) rfl
theorem q188 : (Jvm.Cond.soleField "PolicySolverModel" "shares") ∈ lw_all := lw_g (lw_at lw_m1 162 rfl) rfl
theorem q189 : (Jvm.Cond.lays "PolicySolverModel" "PolicySolverModel" "row" "[J") ∈ lw_all := lw_g (lw_at lw_m1 163 rfl) rfl
theorem q190 : (Jvm.Cond.soleField "PolicySolverModel" "row") ∈ lw_all := lw_g (lw_at lw_m1 164 rfl) rfl
theorem q191 : (Jvm.Cond.lays "PolicySolverModel" "PolicySolverModel" "tops" "[J") ∈ lw_all := lw_g (lw_at lw_m1 165 rfl) rfl
theorem q192 : (Jvm.Cond.soleField "PolicySolverModel" "tops") ∈ lw_all := lw_g (lw_at lw_m1 166 rfl) rfl
theorem q193 : (Jvm.Cond.lays "PolicySolverModel" "PolicySolverModel" "bottoms" "[J") ∈ lw_all := lw_g (lw_at lw_m1 167 rfl) rfl
theorem q194 : (Jvm.Cond.soleField "PolicySolverModel" "bottoms") ∈ lw_all := lw_g (lw_at lw_m1 168 rfl) rfl
theorem q195 : (Jvm.Cond.superclass "PolicySolverModel" "java/lang/Object") ∈ lw_all := lw_g (lw_at lw_m1 169 rfl) rfl
theorem q198 : (Jvm.Cond.instanceMethod ({ cls := "PolicySolverModel", name := "reward", desc := "(III)Z" } : Jvm.MethodName)) ∈ lw_all := lw_g (lw_at lw_m1 172 rfl) rfl
theorem q199 : (Jvm.Cond.selects "PolicySolverModel" ({ cls := "PolicySolverModel", name := "reward", desc := "(III)Z" } : Jvm.MethodName) ({ cls := "PolicySolverModel", name := "reward", desc := "(III)Z" } : Jvm.MethodName)) ∈ lw_all := lw_g (lw_at lw_m1 173 rfl) rfl
theorem q200 : (Jvm.Cond.code ({ cls := "PolicySolverModel", name := "reward", desc := "(III)Z" } : Jvm.MethodName) prog_3_method_3_code (4 : Nat) (Option.some Jvm.ClassFile.FieldType.boolean)) ∈ lw_all := lw_g (lw_at lw_m1 174 rfl) rfl
theorem q201 : (Jvm.Cond.methodLink "PolicySolverModel" (26 : Nat) ({ cls := "PolicySolverModel", name := "isAction", desc := "(II)Z" } : Jvm.MethodName)) ∈ lw_all := lw_g (lw_at lw_m1 175 rfl) rfl
theorem q202 : (Jvm.Cond.privateMethod ({ cls := "PolicySolverModel", name := "isAction", desc := "(II)Z" } : Jvm.MethodName)) ∈ lw_tbl := lw_at lw_m1 176 rfl
theorem q203 : (Jvm.Cond.instanceMethod ({ cls := "PolicySolverModel", name := "isAction", desc := "(II)Z" } : Jvm.MethodName)) ∈ lw_all := lw_g (lw_at lw_m1 177 rfl) rfl
theorem q204 : (Jvm.Cond.code ({ cls := "PolicySolverModel", name := "isAction", desc := "(II)Z" } : Jvm.MethodName) prog_3_method_2_code (3 : Nat) (Option.some Jvm.ClassFile.FieldType.boolean)) ∈ lw_all := lw_g (lw_at lw_m1 178 rfl) rfl
theorem q206 : (Jvm.Cond.instanceMethod ({ cls := "PolicySolverModel", name := "shares", desc := "(III)Z" } : Jvm.MethodName)) ∈ lw_all := lw_g (lw_at lw_m1 180 rfl) rfl
theorem q207 : (Jvm.Cond.selects "PolicySolverModel" ({ cls := "PolicySolverModel", name := "shares", desc := "(III)Z" } : Jvm.MethodName) ({ cls := "PolicySolverModel", name := "shares", desc := "(III)Z" } : Jvm.MethodName)) ∈ lw_all := lw_g (lw_at lw_m1 181 rfl) rfl
theorem q208 : (Jvm.Cond.code ({ cls := "PolicySolverModel", name := "shares", desc := "(III)Z" } : Jvm.MethodName) prog_3_method_4_code (6 : Nat) (Option.some Jvm.ClassFile.FieldType.boolean)) ∈ lw_all := lw_g (lw_at lw_m1 182 rfl) rfl
theorem q210 : (Jvm.Cond.instanceMethod ({ cls := "PolicySolverModel", name := "valueTop", desc := "(II)I" } : Jvm.MethodName)) ∈ lw_all := lw_g (lw_at lw_m1 184 rfl) rfl
theorem q211 : (Jvm.Cond.selects "PolicySolverModel" ({ cls := "PolicySolverModel", name := "valueTop", desc := "(II)I" } : Jvm.MethodName) ({ cls := "PolicySolverModel", name := "valueTop", desc := "(II)I" } : Jvm.MethodName)) ∈ lw_all := lw_g (lw_at lw_m1 185 rfl) rfl
theorem q212 : (Jvm.Cond.code ({ cls := "PolicySolverModel", name := "valueTop", desc := "(II)I" } : Jvm.MethodName) prog_3_method_13_code (5 : Nat) (Option.some Jvm.ClassFile.FieldType.int)) ∈ lw_all := lw_g (lw_at lw_m1 186 rfl) rfl
theorem q213 : (Jvm.Cond.methodLink "PolicySolverModel" (48 : Nat) ({ cls := "PolicySolverModel", name := "isPolicy", desc := "(I)Z" } : Jvm.MethodName)) ∈ lw_all := lw_g (lw_at lw_m1 187 rfl) rfl
theorem q214 : (Jvm.Cond.privateMethod ({ cls := "PolicySolverModel", name := "isPolicy", desc := "(I)Z" } : Jvm.MethodName)) ∈ lw_tbl := lw_at lw_m1 188 rfl
theorem q215 : (Jvm.Cond.instanceMethod ({ cls := "PolicySolverModel", name := "isPolicy", desc := "(I)Z" } : Jvm.MethodName)) ∈ lw_all := lw_g (lw_at lw_m1 189 rfl) rfl
theorem q216 : (Jvm.Cond.code ({ cls := "PolicySolverModel", name := "isPolicy", desc := "(I)Z" } : Jvm.MethodName) prog_3_method_12_code (2 : Nat) (Option.some Jvm.ClassFile.FieldType.boolean)) ∈ lw_all := lw_g (lw_at lw_m1 190 rfl) rfl
theorem q217 : (Jvm.Cond.methodLink "PolicySolverModel" (52 : Nat) ({ cls := "PolicySolverModel", name := "isState", desc := "(I)Z" } : Jvm.MethodName)) ∈ lw_all := lw_g (lw_at lw_m1 191 rfl) rfl
theorem q218 : (Jvm.Cond.privateMethod ({ cls := "PolicySolverModel", name := "isState", desc := "(I)Z" } : Jvm.MethodName)) ∈ lw_tbl := lw_at lw_m1 192 rfl
theorem q219 : (Jvm.Cond.instanceMethod ({ cls := "PolicySolverModel", name := "isState", desc := "(I)Z" } : Jvm.MethodName)) ∈ lw_all := lw_g (lw_at lw_m1 193 rfl) rfl
theorem q220 : (Jvm.Cond.code ({ cls := "PolicySolverModel", name := "isState", desc := "(I)Z" } : Jvm.MethodName) prog_3_method_11_code (2 : Nat) (Option.some Jvm.ClassFile.FieldType.boolean)) ∈ lw_all := lw_g (lw_at lw_m1 194 rfl) rfl
theorem q221 : (Jvm.Cond.constant "PolicySolverModel" (55 : Nat) (-1000000 : Int32)) ∈ lw_all := lw_g (lw_at lw_m1 195 rfl) rfl
theorem q222 : (Jvm.Cond.methodLink "PolicySolverModel" (56 : Nat) ({ cls := "PolicySolverModel", name := "solve", desc := "()V" } : Jvm.MethodName)) ∈ lw_all := lw_g (lw_at lw_m1 196 rfl) rfl
theorem q223 : (Jvm.Cond.privateMethod ({ cls := "PolicySolverModel", name := "solve", desc := "()V" } : Jvm.MethodName)) ∈ lw_tbl := lw_at lw_m1 197 rfl
theorem q224 : (Jvm.Cond.instanceMethod ({ cls := "PolicySolverModel", name := "solve", desc := "()V" } : Jvm.MethodName)) ∈ lw_all := lw_g (lw_at lw_m1 198 rfl) rfl
theorem q225 : (Jvm.Cond.code ({ cls := "PolicySolverModel", name := "solve", desc := "()V" } : Jvm.MethodName) prog_3_method_9_code (5 : Nat) (Option.none : Option Jvm.ClassFile.FieldType)) ∈ lw_all := lw_g (lw_at lw_m1 199 rfl) rfl
theorem q226 : (Jvm.Cond.methodLink "PolicySolverModel" (40 : Nat) ({ cls := "PolicySolverModel", name := "write", desc := "(I)V" } : Jvm.MethodName)) ∈ lw_all := lw_g (lw_at lw_m1 200 rfl) rfl
theorem q227 : (Jvm.Cond.privateMethod ({ cls := "PolicySolverModel", name := "write", desc := "(I)V" } : Jvm.MethodName)) ∈ lw_tbl := lw_at lw_m1 201 rfl
theorem q228 : (Jvm.Cond.instanceMethod ({ cls := "PolicySolverModel", name := "write", desc := "(I)V" } : Jvm.MethodName)) ∈ lw_all := lw_g (lw_at lw_m1 202 rfl) rfl
theorem q229 : (Jvm.Cond.code ({ cls := "PolicySolverModel", name := "write", desc := "(I)V" } : Jvm.MethodName) prog_3_method_5_code (5 : Nat) (Option.none : Option Jvm.ClassFile.FieldType)) ∈ lw_all := lw_g (lw_at lw_m1 203 rfl) rfl
theorem q230 : (Jvm.Cond.constantLong "PolicySolverModel" (30 : Nat) (8 : Int64)) ∈ lw_all := lw_g (lw_at lw_m1 204 rfl) rfl
theorem q231 : (Jvm.Cond.methodLink "PolicySolverModel" (44 : Nat) ({ cls := "PolicySolverModel", name := "determinant", desc := "(I)J" } : Jvm.MethodName)) ∈ lw_all := lw_g (lw_at lw_m1 205 rfl) rfl
theorem q232 : (Jvm.Cond.privateMethod ({ cls := "PolicySolverModel", name := "determinant", desc := "(I)J" } : Jvm.MethodName)) ∈ lw_tbl := lw_at lw_m1 206 rfl
theorem q233 : (Jvm.Cond.instanceMethod ({ cls := "PolicySolverModel", name := "determinant", desc := "(I)J" } : Jvm.MethodName)) ∈ lw_all := lw_g (lw_at lw_m1 207 rfl) rfl
theorem q234 : (Jvm.Cond.code ({ cls := "PolicySolverModel", name := "determinant", desc := "(I)J" } : Jvm.MethodName) prog_3_method_8_code (7 : Nat) (Option.some Jvm.ClassFile.FieldType.long)) ∈ lw_all := lw_g (lw_at lw_m1 208 rfl) rfl
theorem q235 : (Jvm.Cond.methodLink "PolicySolverModel" (32 : Nat) ({ cls := "PolicySolverModel", name := "at", desc := "(III)J" } : Jvm.MethodName)) ∈ lw_all := lw_g (lw_at lw_m1 209 rfl) rfl
theorem q236 : (Jvm.Cond.privateMethod ({ cls := "PolicySolverModel", name := "at", desc := "(III)J" } : Jvm.MethodName)) ∈ lw_tbl := lw_at lw_m1 210 rfl
theorem q237 : (Jvm.Cond.instanceMethod ({ cls := "PolicySolverModel", name := "at", desc := "(III)J" } : Jvm.MethodName)) ∈ lw_all := lw_g (lw_at lw_m1 211 rfl) rfl
theorem q238 : (Jvm.Cond.code ({ cls := "PolicySolverModel", name := "at", desc := "(III)J" } : Jvm.MethodName) prog_3_method_6_code (4 : Nat) (Option.some Jvm.ClassFile.FieldType.long)) ∈ lw_all := lw_g (lw_at lw_m1 212 rfl) rfl
theorem q239 : (Jvm.Cond.methodLink "PolicySolverModel" (36 : Nat) ({ cls := "PolicySolverModel", name := "minor", desc := "(II)J" } : Jvm.MethodName)) ∈ lw_all := lw_g (lw_at lw_m1 213 rfl) rfl
theorem q240 : (Jvm.Cond.privateMethod ({ cls := "PolicySolverModel", name := "minor", desc := "(II)J" } : Jvm.MethodName)) ∈ lw_tbl := lw_at lw_m1 214 rfl
theorem q241 : (Jvm.Cond.instanceMethod ({ cls := "PolicySolverModel", name := "minor", desc := "(II)J" } : Jvm.MethodName)) ∈ lw_all := lw_g (lw_at lw_m1 215 rfl) rfl
theorem q242 : (Jvm.Cond.code ({ cls := "PolicySolverModel", name := "minor", desc := "(II)J" } : Jvm.MethodName) prog_3_method_7_code (12 : Nat) (Option.some Jvm.ClassFile.FieldType.long)) ∈ lw_all := lw_g (lw_at lw_m1 216 rfl) rfl
theorem q243 : (Jvm.Cond.methodLink "PolicySolverModel" (59 : Nat) ({ cls := "PolicySolverModel", name := "common", desc := "(I)J" } : Jvm.MethodName)) ∈ lw_all := lw_g (lw_at lw_m1 217 rfl) rfl
theorem q244 : (Jvm.Cond.privateMethod ({ cls := "PolicySolverModel", name := "common", desc := "(I)J" } : Jvm.MethodName)) ∈ lw_tbl := lw_at lw_m1 218 rfl
theorem q245 : (Jvm.Cond.instanceMethod ({ cls := "PolicySolverModel", name := "common", desc := "(I)J" } : Jvm.MethodName)) ∈ lw_all := lw_g (lw_at lw_m1 219 rfl) rfl
theorem q246 : (Jvm.Cond.code ({ cls := "PolicySolverModel", name := "common", desc := "(I)J" } : Jvm.MethodName) prog_3_method_10_code (9 : Nat) (Option.some Jvm.ClassFile.FieldType.long)) ∈ lw_all := lw_g (lw_at lw_m1 220 rfl) rfl
theorem q248 : (Jvm.Cond.instanceMethod ({ cls := "PolicySolverModel", name := "valueBottom", desc := "(II)I" } : Jvm.MethodName)) ∈ lw_all := lw_g (lw_at lw_m1 222 rfl) rfl
theorem q249 : (Jvm.Cond.selects "PolicySolverModel" ({ cls := "PolicySolverModel", name := "valueBottom", desc := "(II)I" } : Jvm.MethodName) ({ cls := "PolicySolverModel", name := "valueBottom", desc := "(II)I" } : Jvm.MethodName)) ∈ lw_all := lw_g (lw_at lw_m1 223 rfl) rfl
theorem q250 : (Jvm.Cond.code ({ cls := "PolicySolverModel", name := "valueBottom", desc := "(II)I" } : Jvm.MethodName) prog_3_method_14_code (5 : Nat) (Option.some Jvm.ClassFile.FieldType.int)) ∈ lw_all := lw_g (lw_at lw_m1 224 rfl) rfl
theorem q252 : (Jvm.Cond.instanceMethod ({ cls := "PolicySolverModel", name := "bestTop", desc := "(I)I" } : Jvm.MethodName)) ∈ lw_all := lw_g (lw_at lw_m1 226 rfl) rfl
theorem q253 : (Jvm.Cond.selects "PolicySolverModel" ({ cls := "PolicySolverModel", name := "bestTop", desc := "(I)I" } : Jvm.MethodName) ({ cls := "PolicySolverModel", name := "bestTop", desc := "(I)I" } : Jvm.MethodName)) ∈ lw_all := lw_g (lw_at lw_m1 227 rfl) rfl
theorem q254 : (Jvm.Cond.code ({ cls := "PolicySolverModel", name := "bestTop", desc := "(I)I" } : Jvm.MethodName) prog_3_method_18_code (3 : Nat) (Option.some Jvm.ClassFile.FieldType.int)) ∈ lw_all := lw_g (lw_at lw_m1 228 rfl) rfl
theorem q255 : (Jvm.Cond.methodLink "PolicySolverModel" (69 : Nat) ({ cls := "PolicySolverModel", name := "firstBest", desc := "()I" } : Jvm.MethodName)) ∈ lw_all := lw_g (lw_at lw_m1 229 rfl) rfl
theorem q256 : (Jvm.Cond.privateMethod ({ cls := "PolicySolverModel", name := "firstBest", desc := "()I" } : Jvm.MethodName)) ∈ lw_tbl := lw_at lw_m1 230 rfl
theorem q257 : (Jvm.Cond.instanceMethod ({ cls := "PolicySolverModel", name := "firstBest", desc := "()I" } : Jvm.MethodName)) ∈ lw_all := lw_g (lw_at lw_m1 231 rfl) rfl
theorem q258 : (Jvm.Cond.code ({ cls := "PolicySolverModel", name := "firstBest", desc := "()I" } : Jvm.MethodName) prog_3_method_17_code (2 : Nat) (Option.some Jvm.ClassFile.FieldType.int)) ∈ lw_all := lw_g (lw_at lw_m1 232 rfl) rfl
theorem q259 : (Jvm.Cond.methodLink "PolicySolverModel" (66 : Nat) ({ cls := "PolicySolverModel", name := "isBest", desc := "(I)Z" } : Jvm.MethodName)) ∈ lw_all := lw_g (lw_at lw_m1 233 rfl) rfl
theorem q260 : (Jvm.Cond.privateMethod ({ cls := "PolicySolverModel", name := "isBest", desc := "(I)Z" } : Jvm.MethodName)) ∈ lw_tbl := lw_at lw_m1 234 rfl
theorem q261 : (Jvm.Cond.instanceMethod ({ cls := "PolicySolverModel", name := "isBest", desc := "(I)Z" } : Jvm.MethodName)) ∈ lw_all := lw_g (lw_at lw_m1 235 rfl) rfl
theorem q262 : (Jvm.Cond.code ({ cls := "PolicySolverModel", name := "isBest", desc := "(I)Z" } : Jvm.MethodName) prog_3_method_16_code (4 : Nat) (Option.some Jvm.ClassFile.FieldType.boolean)) ∈ lw_all := lw_g (lw_at lw_m1 236 rfl) rfl
theorem q263 : (Jvm.Cond.methodLink "PolicySolverModel" (62 : Nat) ({ cls := "PolicySolverModel", name := "order", desc := "(III)I" } : Jvm.MethodName)) ∈ lw_all := lw_g (lw_at lw_m1 237 rfl) rfl
theorem q264 : (Jvm.Cond.privateMethod ({ cls := "PolicySolverModel", name := "order", desc := "(III)I" } : Jvm.MethodName)) ∈ lw_tbl := lw_at lw_m1 238 rfl
theorem q265 : (Jvm.Cond.instanceMethod ({ cls := "PolicySolverModel", name := "order", desc := "(III)I" } : Jvm.MethodName)) ∈ lw_all := lw_g (lw_at lw_m1 239 rfl) rfl
theorem q266 : (Jvm.Cond.code ({ cls := "PolicySolverModel", name := "order", desc := "(III)I" } : Jvm.MethodName) prog_3_method_15_code (8 : Nat) (Option.some Jvm.ClassFile.FieldType.int)) ∈ lw_all := lw_g (lw_at lw_m2 0 rfl) rfl
theorem q267 : (Jvm.Cond.methodLink "PolicySolverModel" (73 : Nat) ({ cls := "PolicySolverModel", name := "valueTop", desc := "(II)I" } : Jvm.MethodName)) ∈ lw_all := lw_g (lw_at lw_m2 1 rfl) rfl
theorem q269 : (Jvm.Cond.instanceMethod ({ cls := "PolicySolverModel", name := "bestBottom", desc := "(I)I" } : Jvm.MethodName)) ∈ lw_all := lw_g (lw_at lw_m2 3 rfl) rfl
theorem q270 : (Jvm.Cond.selects "PolicySolverModel" ({ cls := "PolicySolverModel", name := "bestBottom", desc := "(I)I" } : Jvm.MethodName) ({ cls := "PolicySolverModel", name := "bestBottom", desc := "(I)I" } : Jvm.MethodName)) ∈ lw_all := lw_g (lw_at lw_m2 4 rfl) rfl
theorem q271 : (Jvm.Cond.code ({ cls := "PolicySolverModel", name := "bestBottom", desc := "(I)I" } : Jvm.MethodName) prog_3_method_19_code (3 : Nat) (Option.some Jvm.ClassFile.FieldType.int)) ∈ lw_all := lw_g (lw_at lw_m2 5 rfl) rfl
theorem q272 : (Jvm.Cond.methodLink "PolicySolverModel" (77 : Nat) ({ cls := "PolicySolverModel", name := "valueBottom", desc := "(II)I" } : Jvm.MethodName)) ∈ lw_all := lw_g (lw_at lw_m2 6 rfl) rfl
theorem q274 : (Jvm.Cond.instanceMethod ({ cls := "PolicySolverModel", name := "policy", desc := "()I" } : Jvm.MethodName)) ∈ lw_all := lw_g (lw_at lw_m2 8 rfl) rfl
theorem q275 : (Jvm.Cond.selects "PolicySolverModel" ({ cls := "PolicySolverModel", name := "policy", desc := "()I" } : Jvm.MethodName) ({ cls := "PolicySolverModel", name := "policy", desc := "()I" } : Jvm.MethodName)) ∈ lw_all := lw_g (lw_at lw_m2 9 rfl) rfl
theorem q276 : (Jvm.Cond.code ({ cls := "PolicySolverModel", name := "policy", desc := "()I" } : Jvm.MethodName) prog_3_method_20_code (1 : Nat) (Option.some Jvm.ClassFile.FieldType.int)) ∈ lw_all := lw_g (lw_at lw_m2 10 rfl) rfl
theorem q278 : (Jvm.Cond.instanceMethod ({ cls := "PolicySolverModel", name := "policies", desc := "()I" } : Jvm.MethodName)) ∈ lw_all := lw_g (lw_at lw_m2 12 rfl) rfl
theorem q279 : (Jvm.Cond.selects "PolicySolverModel" ({ cls := "PolicySolverModel", name := "policies", desc := "()I" } : Jvm.MethodName) ({ cls := "PolicySolverModel", name := "policies", desc := "()I" } : Jvm.MethodName)) ∈ lw_all := lw_g (lw_at lw_m2 13 rfl) rfl
theorem q280 : (Jvm.Cond.code ({ cls := "PolicySolverModel", name := "policies", desc := "()I" } : Jvm.MethodName) prog_3_method_21_code (3 : Nat) (Option.some Jvm.ClassFile.FieldType.int)) ∈ lw_all := lw_g (lw_at lw_m2 14 rfl) rfl
theorem q282 : (Jvm.Cond.instanceMethod ({ cls := "PolicySolverModel", name := "good", desc := "(II)Z" } : Jvm.MethodName)) ∈ lw_all := lw_g (lw_at lw_m2 16 rfl) rfl
theorem q283 : (Jvm.Cond.selects "PolicySolverModel" ({ cls := "PolicySolverModel", name := "good", desc := "(II)Z" } : Jvm.MethodName) ({ cls := "PolicySolverModel", name := "good", desc := "(II)Z" } : Jvm.MethodName)) ∈ lw_all := lw_g (lw_at lw_m2 17 rfl) rfl
theorem q284 : (Jvm.Cond.code ({ cls := "PolicySolverModel", name := "good", desc := "(II)Z" } : Jvm.MethodName) prog_3_method_22_code (4 : Nat) (Option.some Jvm.ClassFile.FieldType.boolean)) ∈ lw_all := lw_g (lw_at lw_m2 18 rfl) rfl
theorem q286 : (Jvm.Cond.instanceMethod ({ cls := "PolicySolverModel", name := "prune", desc := "()I" } : Jvm.MethodName)) ∈ lw_all := lw_g (lw_at lw_m2 20 rfl) rfl
theorem q287 : (Jvm.Cond.selects "PolicySolverModel" ({ cls := "PolicySolverModel", name := "prune", desc := "()I" } : Jvm.MethodName) ({ cls := "PolicySolverModel", name := "prune", desc := "()I" } : Jvm.MethodName)) ∈ lw_all := lw_g (lw_at lw_m2 21 rfl) rfl
theorem q288 : (Jvm.Cond.code ({ cls := "PolicySolverModel", name := "prune", desc := "()I" } : Jvm.MethodName) prog_3_method_24_code (4 : Nat) (Option.some Jvm.ClassFile.FieldType.int)) ∈ lw_all := lw_g (lw_at lw_m2 22 rfl) rfl
theorem q289 : (Jvm.Cond.methodLink "PolicySolverModel" (80 : Nat) ({ cls := "PolicySolverModel", name := "good", desc := "(II)Z" } : Jvm.MethodName)) ∈ lw_all := lw_g (lw_at lw_m2 23 rfl) rfl
theorem q290 : (Jvm.Cond.methodLink "PolicySolverModel" (83 : Nat) ({ cls := "PolicySolverModel", name := "copy", desc := "(II)V" } : Jvm.MethodName)) ∈ lw_all := lw_g (lw_at lw_m2 24 rfl) rfl
theorem q291 : (Jvm.Cond.privateMethod ({ cls := "PolicySolverModel", name := "copy", desc := "(II)V" } : Jvm.MethodName)) ∈ lw_tbl := lw_at lw_m2 25 rfl
theorem q292 : (Jvm.Cond.instanceMethod ({ cls := "PolicySolverModel", name := "copy", desc := "(II)V" } : Jvm.MethodName)) ∈ lw_all := lw_g (lw_at lw_m2 26 rfl) rfl
theorem q293 : (Jvm.Cond.code ({ cls := "PolicySolverModel", name := "copy", desc := "(II)V" } : Jvm.MethodName) prog_3_method_23_code (4 : Nat) (Option.none : Option Jvm.ClassFile.FieldType)) ∈ lw_all := lw_g (lw_at lw_m2 27 rfl) rfl
theorem q295 : (Jvm.Cond.instanceMethod ({ cls := "PolicySolverModel", name := "compare", desc := "(III)I" } : Jvm.MethodName)) ∈ lw_all := lw_g (lw_at lw_m2 29 rfl) rfl
theorem q296 : (Jvm.Cond.selects "PolicySolverModel" ({ cls := "PolicySolverModel", name := "compare", desc := "(III)I" } : Jvm.MethodName) ({ cls := "PolicySolverModel", name := "compare", desc := "(III)I" } : Jvm.MethodName)) ∈ lw_all := lw_g (lw_at lw_m2 30 rfl) rfl
theorem q297 : (Jvm.Cond.code ({ cls := "PolicySolverModel", name := "compare", desc := "(III)I" } : Jvm.MethodName) prog_3_method_25_code (4 : Nat) (Option.some Jvm.ClassFile.FieldType.int)) ∈ lw_all := lw_g (lw_at lw_m2 31 rfl) rfl
theorem in_X1 : ∀ w ∈ wsX10, w ∈ lw_all := lw_in wsX10 [185, 187, 189, 191, 193] (by decide +kernel) (by decide +kernel)
end
section
/-! java/lang/Object -/
set_option maxRecDepth 100000
def RJ0 : String := "java/lang/Object"
abbrev cJ0_init : ByteArray := object_method_1_code
def yJ0_init : MethodName := ⟨RJ0, "<init>", "()V"⟩
theorem dJ0_init_0 : decode cJ0_init 0 = .ok (.return_, 1) := by decide +kernel
theorem q35 : (Jvm.Cond.instanceMethod ({ cls := "java/lang/Object", name := "<init>", desc := "()V" } : Jvm.MethodName)) ∈ lw_all := lw_g (lw_at lw_m1 9 rfl) rfl
theorem q36 : (Jvm.Cond.code ({ cls := "java/lang/Object", name := "<init>", desc := "()V" } : Jvm.MethodName) object_method_1_code (1 : Nat) (Option.none : Option Jvm.ClassFile.FieldType)) ∈ lw_all := lw_g (lw_at lw_m1 10 rfl) rfl
theorem q74 : (Jvm.Cond.arrayClass Jvm.ClassFile.FieldType.byte) ∈ lw_all := lw_g (lw_at lw_m1 48 rfl) rfl
set_option maxRecDepth 100000
theorem q75 : (Jvm.Cond.arrayClass Jvm.ClassFile.FieldType.long) ∈ lw_all := lw_g (lw_at lw_m1 49 rfl) rfl
theorem q196 : (Jvm.Cond.arrayClass Jvm.ClassFile.FieldType.int) ∈ lw_all := lw_g (lw_at lw_m1 170 rfl) rfl
theorem q26 : (Jvm.Cond.initialized "PolicySolverLaw") ∈ lw_all := lw_g (lw_at lw_m1 0 rfl) rfl
set_option maxRecDepth 100000
theorem q29 : (Jvm.Cond.classLink "PolicySolverLaw" (7 : Nat) "PolicySolver") ∈ lw_all := lw_g (lw_at lw_m1 3 rfl) rfl
theorem q31 : (Jvm.Cond.methodLink "PolicySolverLaw" (9 : Nat) ({ cls := "PolicySolver", name := "<init>", desc := "()V" } : Jvm.MethodName)) ∈ lw_all := lw_g (lw_at lw_m1 5 rfl) rfl
theorem q76 : (Jvm.Cond.methodLink "PolicySolverLaw" (13 : Nat) ({ cls := "PolicySolver", name := "reward", desc := "(III)Z" } : Jvm.MethodName)) ∈ lw_all := lw_g (lw_at lw_m1 50 rfl) rfl
theorem q84 : (Jvm.Cond.methodLink "PolicySolverLaw" (18 : Nat) ({ cls := "PolicySolver", name := "shares", desc := "(III)Z" } : Jvm.MethodName)) ∈ lw_all := lw_g (lw_at lw_m1 58 rfl) rfl
theorem q88 : (Jvm.Cond.methodLink "PolicySolverLaw" (22 : Nat) ({ cls := "PolicySolver", name := "valueTop", desc := "(II)I" } : Jvm.MethodName)) ∈ lw_all := lw_g (lw_at lw_m1 62 rfl) rfl
theorem q118 : (Jvm.Cond.methodLink "PolicySolverLaw" (27 : Nat) ({ cls := "PolicySolver", name := "valueBottom", desc := "(II)I" } : Jvm.MethodName)) ∈ lw_all := lw_g (lw_at lw_m1 92 rfl) rfl
theorem q126 : (Jvm.Cond.methodLink "PolicySolverLaw" (31 : Nat) ({ cls := "PolicySolver", name := "bestTop", desc := "(I)I" } : Jvm.MethodName)) ∈ lw_all := lw_g (lw_at lw_m1 100 rfl) rfl
theorem q142 : (Jvm.Cond.methodLink "PolicySolverLaw" (36 : Nat) ({ cls := "PolicySolver", name := "bestBottom", desc := "(I)I" } : Jvm.MethodName)) ∈ lw_all := lw_g (lw_at lw_m1 116 rfl) rfl
theorem q146 : (Jvm.Cond.methodLink "PolicySolverLaw" (40 : Nat) ({ cls := "PolicySolver", name := "policy", desc := "()I" } : Jvm.MethodName)) ∈ lw_all := lw_g (lw_at lw_m1 120 rfl) rfl
theorem q150 : (Jvm.Cond.methodLink "PolicySolverLaw" (45 : Nat) ({ cls := "PolicySolver", name := "policies", desc := "()I" } : Jvm.MethodName)) ∈ lw_all := lw_g (lw_at lw_m1 124 rfl) rfl
theorem q154 : (Jvm.Cond.methodLink "PolicySolverLaw" (49 : Nat) ({ cls := "PolicySolver", name := "good", desc := "(II)Z" } : Jvm.MethodName)) ∈ lw_all := lw_g (lw_at lw_m1 128 rfl) rfl
theorem q158 : (Jvm.Cond.methodLink "PolicySolverLaw" (54 : Nat) ({ cls := "PolicySolver", name := "prune", desc := "()I" } : Jvm.MethodName)) ∈ lw_all := lw_g (lw_at lw_m1 132 rfl) rfl
theorem q166 : (Jvm.Cond.methodLink "PolicySolverLaw" (58 : Nat) ({ cls := "PolicySolver", name := "compare", desc := "(III)I" } : Jvm.MethodName)) ∈ lw_all := lw_g (lw_at lw_m1 140 rfl) rfl
theorem q174 : (Jvm.Cond.classLink "PolicySolverLaw" (10 : Nat) "PolicySolverModel") ∈ lw_all := lw_g (lw_at lw_m1 148 rfl) rfl
theorem q176 : (Jvm.Cond.methodLink "PolicySolverLaw" (12 : Nat) ({ cls := "PolicySolverModel", name := "<init>", desc := "()V" } : Jvm.MethodName)) ∈ lw_all := lw_g (lw_at lw_m1 150 rfl) rfl
theorem q197 : (Jvm.Cond.methodLink "PolicySolverLaw" (17 : Nat) ({ cls := "PolicySolverModel", name := "reward", desc := "(III)Z" } : Jvm.MethodName)) ∈ lw_all := lw_g (lw_at lw_m1 171 rfl) rfl
theorem q205 : (Jvm.Cond.methodLink "PolicySolverLaw" (21 : Nat) ({ cls := "PolicySolverModel", name := "shares", desc := "(III)Z" } : Jvm.MethodName)) ∈ lw_all := lw_g (lw_at lw_m1 179 rfl) rfl
theorem q209 : (Jvm.Cond.methodLink "PolicySolverLaw" (26 : Nat) ({ cls := "PolicySolverModel", name := "valueTop", desc := "(II)I" } : Jvm.MethodName)) ∈ lw_all := lw_g (lw_at lw_m1 183 rfl) rfl
theorem q247 : (Jvm.Cond.methodLink "PolicySolverLaw" (30 : Nat) ({ cls := "PolicySolverModel", name := "valueBottom", desc := "(II)I" } : Jvm.MethodName)) ∈ lw_all := lw_g (lw_at lw_m1 221 rfl) rfl
theorem q251 : (Jvm.Cond.methodLink "PolicySolverLaw" (35 : Nat) ({ cls := "PolicySolverModel", name := "bestTop", desc := "(I)I" } : Jvm.MethodName)) ∈ lw_all := lw_g (lw_at lw_m1 225 rfl) rfl
theorem q268 : (Jvm.Cond.methodLink "PolicySolverLaw" (39 : Nat) ({ cls := "PolicySolverModel", name := "bestBottom", desc := "(I)I" } : Jvm.MethodName)) ∈ lw_all := lw_g (lw_at lw_m2 2 rfl) rfl
theorem q273 : (Jvm.Cond.methodLink "PolicySolverLaw" (44 : Nat) ({ cls := "PolicySolverModel", name := "policy", desc := "()I" } : Jvm.MethodName)) ∈ lw_all := lw_g (lw_at lw_m2 7 rfl) rfl
theorem q277 : (Jvm.Cond.methodLink "PolicySolverLaw" (48 : Nat) ({ cls := "PolicySolverModel", name := "policies", desc := "()I" } : Jvm.MethodName)) ∈ lw_all := lw_g (lw_at lw_m2 11 rfl) rfl
theorem q281 : (Jvm.Cond.methodLink "PolicySolverLaw" (53 : Nat) ({ cls := "PolicySolverModel", name := "good", desc := "(II)Z" } : Jvm.MethodName)) ∈ lw_all := lw_g (lw_at lw_m2 15 rfl) rfl
theorem q285 : (Jvm.Cond.methodLink "PolicySolverLaw" (57 : Nat) ({ cls := "PolicySolverModel", name := "prune", desc := "()I" } : Jvm.MethodName)) ∈ lw_all := lw_g (lw_at lw_m2 19 rfl) rfl
theorem q294 : (Jvm.Cond.methodLink "PolicySolverLaw" (62 : Nat) ({ cls := "PolicySolverModel", name := "compare", desc := "(III)I" } : Jvm.MethodName)) ∈ lw_all := lw_g (lw_at lw_m2 28 rfl) rfl
end
section
/-! the law's own entry -/
set_option maxRecDepth 100000
abbrev cL_law : ByteArray := code
theorem dL_law_0 : decode cL_law 0 = .ok (.new 7, 3) := by decide +kernel
theorem dL_law_3 : decode cL_law 3 = .ok (.dup, 1) := by decide +kernel
theorem dL_law_4 : decode cL_law 4 = .ok (.invokespecial 9, 3) := by decide +kernel
theorem dL_law_7 : decode cL_law 7 = .ok (.astore_n 1, 1) := by decide +kernel
theorem dL_law_8 : decode cL_law 8 = .ok (.new 10, 3) := by decide +kernel
theorem dL_law_11 : decode cL_law 11 = .ok (.dup, 1) := by decide +kernel
theorem dL_law_12 : decode cL_law 12 = .ok (.invokespecial 12, 3) := by decide +kernel
theorem dL_law_15 : decode cL_law 15 = .ok (.astore_n 2, 1) := by decide +kernel
theorem dL_law_16 : decode cL_law 16 = .ok (.iconst 0, 1) := by decide +kernel
theorem dL_law_17 : decode cL_law 17 = .ok (.istore_n 3, 1) := by decide +kernel
theorem dL_law_18 : decode cL_law 18 = .ok (.iload_n 3, 1) := by decide +kernel
theorem dL_law_19 : decode cL_law 19 = .ok (.aload_n 0, 1) := by decide +kernel
theorem dL_law_20 : decode cL_law 20 = .ok (.arraylength, 1) := by decide +kernel
theorem dL_law_21 : decode cL_law 21 = .ok (.iconst 4, 1) := by decide +kernel
theorem dL_law_22 : decode cL_law 22 = .ok (.isub, 1) := by decide +kernel
theorem dL_law_23 : decode cL_law 23 = .ok (.if_icmp .gt 388, 3) := by decide +kernel
theorem dL_law_26 : decode cL_law 26 = .ok (.aload_n 0, 1) := by decide +kernel
theorem dL_law_27 : decode cL_law 27 = .ok (.iload_n 3, 1) := by decide +kernel
theorem dL_law_28 : decode cL_law 28 = .ok (.iaload, 1) := by decide +kernel
theorem dL_law_29 : decode cL_law 29 = .ok (.bipush 15, 2) := by decide +kernel
theorem dL_law_31 : decode cL_law 31 = .ok (.iand, 1) := by decide +kernel
theorem dL_law_32 : decode cL_law 32 = .ok (.tableswitch 373 0 10 #[60, 103, 146, 179, 212, 235, 258, 271, 284, 317, 330], 60) := by decide +kernel
theorem dL_law_92 : decode cL_law 92 = .ok (.aload_n 1, 1) := by decide +kernel
theorem dL_law_93 : decode cL_law 93 = .ok (.aload_n 0, 1) := by decide +kernel
theorem dL_law_94 : decode cL_law 94 = .ok (.iload_n 3, 1) := by decide +kernel
theorem dL_law_95 : decode cL_law 95 = .ok (.iconst 1, 1) := by decide +kernel
theorem dL_law_96 : decode cL_law 96 = .ok (.iadd, 1) := by decide +kernel
theorem dL_law_97 : decode cL_law 97 = .ok (.iaload, 1) := by decide +kernel
theorem dL_law_98 : decode cL_law 98 = .ok (.aload_n 0, 1) := by decide +kernel
theorem dL_law_99 : decode cL_law 99 = .ok (.iload_n 3, 1) := by decide +kernel
theorem dL_law_100 : decode cL_law 100 = .ok (.iconst 2, 1) := by decide +kernel
theorem dL_law_101 : decode cL_law 101 = .ok (.iadd, 1) := by decide +kernel
theorem dL_law_102 : decode cL_law 102 = .ok (.iaload, 1) := by decide +kernel
theorem dL_law_103 : decode cL_law 103 = .ok (.aload_n 0, 1) := by decide +kernel
theorem dL_law_104 : decode cL_law 104 = .ok (.iload_n 3, 1) := by decide +kernel
theorem dL_law_105 : decode cL_law 105 = .ok (.iconst 3, 1) := by decide +kernel
theorem dL_law_106 : decode cL_law 106 = .ok (.iadd, 1) := by decide +kernel
theorem dL_law_107 : decode cL_law 107 = .ok (.iaload, 1) := by decide +kernel
theorem dL_law_108 : decode cL_law 108 = .ok (.invokevirtual 13, 3) := by decide +kernel
theorem dL_law_111 : decode cL_law 111 = .ok (.aload_n 2, 1) := by decide +kernel
theorem dL_law_112 : decode cL_law 112 = .ok (.aload_n 0, 1) := by decide +kernel
theorem dL_law_113 : decode cL_law 113 = .ok (.iload_n 3, 1) := by decide +kernel
theorem dL_law_114 : decode cL_law 114 = .ok (.iconst 1, 1) := by decide +kernel
theorem dL_law_115 : decode cL_law 115 = .ok (.iadd, 1) := by decide +kernel
theorem dL_law_116 : decode cL_law 116 = .ok (.iaload, 1) := by decide +kernel
theorem dL_law_117 : decode cL_law 117 = .ok (.aload_n 0, 1) := by decide +kernel
theorem dL_law_118 : decode cL_law 118 = .ok (.iload_n 3, 1) := by decide +kernel
theorem dL_law_119 : decode cL_law 119 = .ok (.iconst 2, 1) := by decide +kernel
theorem dL_law_120 : decode cL_law 120 = .ok (.iadd, 1) := by decide +kernel
theorem dL_law_121 : decode cL_law 121 = .ok (.iaload, 1) := by decide +kernel
theorem dL_law_122 : decode cL_law 122 = .ok (.aload_n 0, 1) := by decide +kernel
theorem dL_law_123 : decode cL_law 123 = .ok (.iload_n 3, 1) := by decide +kernel
theorem dL_law_124 : decode cL_law 124 = .ok (.iconst 3, 1) := by decide +kernel
theorem dL_law_125 : decode cL_law 125 = .ok (.iadd, 1) := by decide +kernel
theorem dL_law_126 : decode cL_law 126 = .ok (.iaload, 1) := by decide +kernel
theorem dL_law_127 : decode cL_law 127 = .ok (.invokevirtual 17, 3) := by decide +kernel
theorem dL_law_130 : decode cL_law 130 = .ok (.if_icmp .eq 275, 3) := by decide +kernel
theorem dL_law_133 : decode cL_law 133 = .ok (.iconst 0, 1) := by decide +kernel
theorem dL_law_134 : decode cL_law 134 = .ok (.ireturn, 1) := by decide +kernel
theorem dL_law_135 : decode cL_law 135 = .ok (.aload_n 1, 1) := by decide +kernel
theorem dL_law_136 : decode cL_law 136 = .ok (.aload_n 0, 1) := by decide +kernel
theorem dL_law_137 : decode cL_law 137 = .ok (.iload_n 3, 1) := by decide +kernel
theorem dL_law_138 : decode cL_law 138 = .ok (.iconst 1, 1) := by decide +kernel
theorem dL_law_139 : decode cL_law 139 = .ok (.iadd, 1) := by decide +kernel
theorem dL_law_140 : decode cL_law 140 = .ok (.iaload, 1) := by decide +kernel
theorem dL_law_141 : decode cL_law 141 = .ok (.aload_n 0, 1) := by decide +kernel
theorem dL_law_142 : decode cL_law 142 = .ok (.iload_n 3, 1) := by decide +kernel
theorem dL_law_143 : decode cL_law 143 = .ok (.iconst 2, 1) := by decide +kernel
theorem dL_law_144 : decode cL_law 144 = .ok (.iadd, 1) := by decide +kernel
theorem dL_law_145 : decode cL_law 145 = .ok (.iaload, 1) := by decide +kernel
theorem dL_law_146 : decode cL_law 146 = .ok (.aload_n 0, 1) := by decide +kernel
theorem dL_law_147 : decode cL_law 147 = .ok (.iload_n 3, 1) := by decide +kernel
theorem dL_law_148 : decode cL_law 148 = .ok (.iconst 3, 1) := by decide +kernel
theorem dL_law_149 : decode cL_law 149 = .ok (.iadd, 1) := by decide +kernel
theorem dL_law_150 : decode cL_law 150 = .ok (.iaload, 1) := by decide +kernel
theorem dL_law_151 : decode cL_law 151 = .ok (.invokevirtual 18, 3) := by decide +kernel
theorem dL_law_154 : decode cL_law 154 = .ok (.aload_n 2, 1) := by decide +kernel
theorem dL_law_155 : decode cL_law 155 = .ok (.aload_n 0, 1) := by decide +kernel
theorem dL_law_156 : decode cL_law 156 = .ok (.iload_n 3, 1) := by decide +kernel
theorem dL_law_157 : decode cL_law 157 = .ok (.iconst 1, 1) := by decide +kernel
theorem dL_law_158 : decode cL_law 158 = .ok (.iadd, 1) := by decide +kernel
theorem dL_law_159 : decode cL_law 159 = .ok (.iaload, 1) := by decide +kernel
theorem dL_law_160 : decode cL_law 160 = .ok (.aload_n 0, 1) := by decide +kernel
theorem dL_law_161 : decode cL_law 161 = .ok (.iload_n 3, 1) := by decide +kernel
theorem dL_law_162 : decode cL_law 162 = .ok (.iconst 2, 1) := by decide +kernel
theorem dL_law_163 : decode cL_law 163 = .ok (.iadd, 1) := by decide +kernel
theorem dL_law_164 : decode cL_law 164 = .ok (.iaload, 1) := by decide +kernel
theorem dL_law_165 : decode cL_law 165 = .ok (.aload_n 0, 1) := by decide +kernel
theorem dL_law_166 : decode cL_law 166 = .ok (.iload_n 3, 1) := by decide +kernel
theorem dL_law_167 : decode cL_law 167 = .ok (.iconst 3, 1) := by decide +kernel
theorem dL_law_168 : decode cL_law 168 = .ok (.iadd, 1) := by decide +kernel
theorem dL_law_169 : decode cL_law 169 = .ok (.iaload, 1) := by decide +kernel
theorem dL_law_170 : decode cL_law 170 = .ok (.invokevirtual 21, 3) := by decide +kernel
theorem dL_law_173 : decode cL_law 173 = .ok (.if_icmp .eq 232, 3) := by decide +kernel
theorem dL_law_176 : decode cL_law 176 = .ok (.iconst 0, 1) := by decide +kernel
theorem dL_law_177 : decode cL_law 177 = .ok (.ireturn, 1) := by decide +kernel
theorem dL_law_178 : decode cL_law 178 = .ok (.aload_n 1, 1) := by decide +kernel
theorem dL_law_179 : decode cL_law 179 = .ok (.aload_n 0, 1) := by decide +kernel
theorem dL_law_180 : decode cL_law 180 = .ok (.iload_n 3, 1) := by decide +kernel
theorem dL_law_181 : decode cL_law 181 = .ok (.iconst 1, 1) := by decide +kernel
theorem dL_law_182 : decode cL_law 182 = .ok (.iadd, 1) := by decide +kernel
theorem dL_law_183 : decode cL_law 183 = .ok (.iaload, 1) := by decide +kernel
theorem dL_law_184 : decode cL_law 184 = .ok (.aload_n 0, 1) := by decide +kernel
theorem dL_law_185 : decode cL_law 185 = .ok (.iload_n 3, 1) := by decide +kernel
theorem dL_law_186 : decode cL_law 186 = .ok (.iconst 2, 1) := by decide +kernel
theorem dL_law_187 : decode cL_law 187 = .ok (.iadd, 1) := by decide +kernel
theorem dL_law_188 : decode cL_law 188 = .ok (.iaload, 1) := by decide +kernel
theorem dL_law_189 : decode cL_law 189 = .ok (.invokevirtual 22, 3) := by decide +kernel
theorem dL_law_192 : decode cL_law 192 = .ok (.aload_n 2, 1) := by decide +kernel
theorem dL_law_193 : decode cL_law 193 = .ok (.aload_n 0, 1) := by decide +kernel
theorem dL_law_194 : decode cL_law 194 = .ok (.iload_n 3, 1) := by decide +kernel
theorem dL_law_195 : decode cL_law 195 = .ok (.iconst 1, 1) := by decide +kernel
theorem dL_law_196 : decode cL_law 196 = .ok (.iadd, 1) := by decide +kernel
theorem dL_law_197 : decode cL_law 197 = .ok (.iaload, 1) := by decide +kernel
theorem dL_law_198 : decode cL_law 198 = .ok (.aload_n 0, 1) := by decide +kernel
theorem dL_law_199 : decode cL_law 199 = .ok (.iload_n 3, 1) := by decide +kernel
theorem dL_law_200 : decode cL_law 200 = .ok (.iconst 2, 1) := by decide +kernel
theorem dL_law_201 : decode cL_law 201 = .ok (.iadd, 1) := by decide +kernel
theorem dL_law_202 : decode cL_law 202 = .ok (.iaload, 1) := by decide +kernel
theorem dL_law_203 : decode cL_law 203 = .ok (.invokevirtual 26, 3) := by decide +kernel
theorem dL_law_206 : decode cL_law 206 = .ok (.if_icmp .eq 199, 3) := by decide +kernel
theorem dL_law_209 : decode cL_law 209 = .ok (.iconst 0, 1) := by decide +kernel
theorem dL_law_210 : decode cL_law 210 = .ok (.ireturn, 1) := by decide +kernel
theorem dL_law_211 : decode cL_law 211 = .ok (.aload_n 1, 1) := by decide +kernel
theorem dL_law_212 : decode cL_law 212 = .ok (.aload_n 0, 1) := by decide +kernel
theorem dL_law_213 : decode cL_law 213 = .ok (.iload_n 3, 1) := by decide +kernel
theorem dL_law_214 : decode cL_law 214 = .ok (.iconst 1, 1) := by decide +kernel
theorem dL_law_215 : decode cL_law 215 = .ok (.iadd, 1) := by decide +kernel
theorem dL_law_216 : decode cL_law 216 = .ok (.iaload, 1) := by decide +kernel
theorem dL_law_217 : decode cL_law 217 = .ok (.aload_n 0, 1) := by decide +kernel
theorem dL_law_218 : decode cL_law 218 = .ok (.iload_n 3, 1) := by decide +kernel
theorem dL_law_219 : decode cL_law 219 = .ok (.iconst 2, 1) := by decide +kernel
theorem dL_law_220 : decode cL_law 220 = .ok (.iadd, 1) := by decide +kernel
theorem dL_law_221 : decode cL_law 221 = .ok (.iaload, 1) := by decide +kernel
theorem dL_law_222 : decode cL_law 222 = .ok (.invokevirtual 27, 3) := by decide +kernel
theorem dL_law_225 : decode cL_law 225 = .ok (.aload_n 2, 1) := by decide +kernel
theorem dL_law_226 : decode cL_law 226 = .ok (.aload_n 0, 1) := by decide +kernel
theorem dL_law_227 : decode cL_law 227 = .ok (.iload_n 3, 1) := by decide +kernel
theorem dL_law_228 : decode cL_law 228 = .ok (.iconst 1, 1) := by decide +kernel
theorem dL_law_229 : decode cL_law 229 = .ok (.iadd, 1) := by decide +kernel
theorem dL_law_230 : decode cL_law 230 = .ok (.iaload, 1) := by decide +kernel
theorem dL_law_231 : decode cL_law 231 = .ok (.aload_n 0, 1) := by decide +kernel
theorem dL_law_232 : decode cL_law 232 = .ok (.iload_n 3, 1) := by decide +kernel
theorem dL_law_233 : decode cL_law 233 = .ok (.iconst 2, 1) := by decide +kernel
theorem dL_law_234 : decode cL_law 234 = .ok (.iadd, 1) := by decide +kernel
theorem dL_law_235 : decode cL_law 235 = .ok (.iaload, 1) := by decide +kernel
theorem dL_law_236 : decode cL_law 236 = .ok (.invokevirtual 30, 3) := by decide +kernel
theorem dL_law_239 : decode cL_law 239 = .ok (.if_icmp .eq 166, 3) := by decide +kernel
theorem dL_law_242 : decode cL_law 242 = .ok (.iconst 0, 1) := by decide +kernel
theorem dL_law_243 : decode cL_law 243 = .ok (.ireturn, 1) := by decide +kernel
theorem dL_law_244 : decode cL_law 244 = .ok (.aload_n 1, 1) := by decide +kernel
theorem dL_law_245 : decode cL_law 245 = .ok (.aload_n 0, 1) := by decide +kernel
theorem dL_law_246 : decode cL_law 246 = .ok (.iload_n 3, 1) := by decide +kernel
theorem dL_law_247 : decode cL_law 247 = .ok (.iconst 1, 1) := by decide +kernel
theorem dL_law_248 : decode cL_law 248 = .ok (.iadd, 1) := by decide +kernel
theorem dL_law_249 : decode cL_law 249 = .ok (.iaload, 1) := by decide +kernel
theorem dL_law_250 : decode cL_law 250 = .ok (.invokevirtual 31, 3) := by decide +kernel
theorem dL_law_253 : decode cL_law 253 = .ok (.aload_n 2, 1) := by decide +kernel
theorem dL_law_254 : decode cL_law 254 = .ok (.aload_n 0, 1) := by decide +kernel
theorem dL_law_255 : decode cL_law 255 = .ok (.iload_n 3, 1) := by decide +kernel
theorem dL_law_256 : decode cL_law 256 = .ok (.iconst 1, 1) := by decide +kernel
theorem dL_law_257 : decode cL_law 257 = .ok (.iadd, 1) := by decide +kernel
theorem dL_law_258 : decode cL_law 258 = .ok (.iaload, 1) := by decide +kernel
theorem dL_law_259 : decode cL_law 259 = .ok (.invokevirtual 35, 3) := by decide +kernel
theorem dL_law_262 : decode cL_law 262 = .ok (.if_icmp .eq 143, 3) := by decide +kernel
theorem dL_law_265 : decode cL_law 265 = .ok (.iconst 0, 1) := by decide +kernel
theorem dL_law_266 : decode cL_law 266 = .ok (.ireturn, 1) := by decide +kernel
theorem dL_law_267 : decode cL_law 267 = .ok (.aload_n 1, 1) := by decide +kernel
theorem dL_law_268 : decode cL_law 268 = .ok (.aload_n 0, 1) := by decide +kernel
theorem dL_law_269 : decode cL_law 269 = .ok (.iload_n 3, 1) := by decide +kernel
theorem dL_law_270 : decode cL_law 270 = .ok (.iconst 1, 1) := by decide +kernel
theorem dL_law_271 : decode cL_law 271 = .ok (.iadd, 1) := by decide +kernel
theorem dL_law_272 : decode cL_law 272 = .ok (.iaload, 1) := by decide +kernel
theorem dL_law_273 : decode cL_law 273 = .ok (.invokevirtual 36, 3) := by decide +kernel
theorem dL_law_276 : decode cL_law 276 = .ok (.aload_n 2, 1) := by decide +kernel
theorem dL_law_277 : decode cL_law 277 = .ok (.aload_n 0, 1) := by decide +kernel
theorem dL_law_278 : decode cL_law 278 = .ok (.iload_n 3, 1) := by decide +kernel
theorem dL_law_279 : decode cL_law 279 = .ok (.iconst 1, 1) := by decide +kernel
theorem dL_law_280 : decode cL_law 280 = .ok (.iadd, 1) := by decide +kernel
theorem dL_law_281 : decode cL_law 281 = .ok (.iaload, 1) := by decide +kernel
theorem dL_law_282 : decode cL_law 282 = .ok (.invokevirtual 39, 3) := by decide +kernel
theorem dL_law_285 : decode cL_law 285 = .ok (.if_icmp .eq 120, 3) := by decide +kernel
theorem dL_law_288 : decode cL_law 288 = .ok (.iconst 0, 1) := by decide +kernel
theorem dL_law_289 : decode cL_law 289 = .ok (.ireturn, 1) := by decide +kernel
theorem dL_law_290 : decode cL_law 290 = .ok (.aload_n 1, 1) := by decide +kernel
theorem dL_law_291 : decode cL_law 291 = .ok (.invokevirtual 40, 3) := by decide +kernel
theorem dL_law_294 : decode cL_law 294 = .ok (.aload_n 2, 1) := by decide +kernel
theorem dL_law_295 : decode cL_law 295 = .ok (.invokevirtual 44, 3) := by decide +kernel
theorem dL_law_298 : decode cL_law 298 = .ok (.if_icmp .eq 107, 3) := by decide +kernel
theorem dL_law_301 : decode cL_law 301 = .ok (.iconst 0, 1) := by decide +kernel
theorem dL_law_302 : decode cL_law 302 = .ok (.ireturn, 1) := by decide +kernel
theorem dL_law_303 : decode cL_law 303 = .ok (.aload_n 1, 1) := by decide +kernel
theorem dL_law_304 : decode cL_law 304 = .ok (.invokevirtual 45, 3) := by decide +kernel
theorem dL_law_307 : decode cL_law 307 = .ok (.aload_n 2, 1) := by decide +kernel
theorem dL_law_308 : decode cL_law 308 = .ok (.invokevirtual 48, 3) := by decide +kernel
theorem dL_law_311 : decode cL_law 311 = .ok (.if_icmp .eq 94, 3) := by decide +kernel
theorem dL_law_314 : decode cL_law 314 = .ok (.iconst 0, 1) := by decide +kernel
theorem dL_law_315 : decode cL_law 315 = .ok (.ireturn, 1) := by decide +kernel
theorem dL_law_316 : decode cL_law 316 = .ok (.aload_n 1, 1) := by decide +kernel
theorem dL_law_317 : decode cL_law 317 = .ok (.aload_n 0, 1) := by decide +kernel
theorem dL_law_318 : decode cL_law 318 = .ok (.iload_n 3, 1) := by decide +kernel
theorem dL_law_319 : decode cL_law 319 = .ok (.iconst 1, 1) := by decide +kernel
theorem dL_law_320 : decode cL_law 320 = .ok (.iadd, 1) := by decide +kernel
theorem dL_law_321 : decode cL_law 321 = .ok (.iaload, 1) := by decide +kernel
theorem dL_law_322 : decode cL_law 322 = .ok (.aload_n 0, 1) := by decide +kernel
theorem dL_law_323 : decode cL_law 323 = .ok (.iload_n 3, 1) := by decide +kernel
theorem dL_law_324 : decode cL_law 324 = .ok (.iconst 2, 1) := by decide +kernel
theorem dL_law_325 : decode cL_law 325 = .ok (.iadd, 1) := by decide +kernel
theorem dL_law_326 : decode cL_law 326 = .ok (.iaload, 1) := by decide +kernel
theorem dL_law_327 : decode cL_law 327 = .ok (.invokevirtual 49, 3) := by decide +kernel
theorem dL_law_330 : decode cL_law 330 = .ok (.aload_n 2, 1) := by decide +kernel
theorem dL_law_331 : decode cL_law 331 = .ok (.aload_n 0, 1) := by decide +kernel
theorem dL_law_332 : decode cL_law 332 = .ok (.iload_n 3, 1) := by decide +kernel
theorem dL_law_333 : decode cL_law 333 = .ok (.iconst 1, 1) := by decide +kernel
theorem dL_law_334 : decode cL_law 334 = .ok (.iadd, 1) := by decide +kernel
theorem dL_law_335 : decode cL_law 335 = .ok (.iaload, 1) := by decide +kernel
theorem dL_law_336 : decode cL_law 336 = .ok (.aload_n 0, 1) := by decide +kernel
theorem dL_law_337 : decode cL_law 337 = .ok (.iload_n 3, 1) := by decide +kernel
theorem dL_law_338 : decode cL_law 338 = .ok (.iconst 2, 1) := by decide +kernel
theorem dL_law_339 : decode cL_law 339 = .ok (.iadd, 1) := by decide +kernel
theorem dL_law_340 : decode cL_law 340 = .ok (.iaload, 1) := by decide +kernel
theorem dL_law_341 : decode cL_law 341 = .ok (.invokevirtual 53, 3) := by decide +kernel
theorem dL_law_344 : decode cL_law 344 = .ok (.if_icmp .eq 61, 3) := by decide +kernel
theorem dL_law_347 : decode cL_law 347 = .ok (.iconst 0, 1) := by decide +kernel
theorem dL_law_348 : decode cL_law 348 = .ok (.ireturn, 1) := by decide +kernel
theorem dL_law_349 : decode cL_law 349 = .ok (.aload_n 1, 1) := by decide +kernel
theorem dL_law_350 : decode cL_law 350 = .ok (.invokevirtual 54, 3) := by decide +kernel
theorem dL_law_353 : decode cL_law 353 = .ok (.aload_n 2, 1) := by decide +kernel
theorem dL_law_354 : decode cL_law 354 = .ok (.invokevirtual 57, 3) := by decide +kernel
theorem dL_law_357 : decode cL_law 357 = .ok (.if_icmp .eq 48, 3) := by decide +kernel
theorem dL_law_360 : decode cL_law 360 = .ok (.iconst 0, 1) := by decide +kernel
theorem dL_law_361 : decode cL_law 361 = .ok (.ireturn, 1) := by decide +kernel
theorem dL_law_362 : decode cL_law 362 = .ok (.aload_n 1, 1) := by decide +kernel
theorem dL_law_363 : decode cL_law 363 = .ok (.aload_n 0, 1) := by decide +kernel
theorem dL_law_364 : decode cL_law 364 = .ok (.iload_n 3, 1) := by decide +kernel
theorem dL_law_365 : decode cL_law 365 = .ok (.iconst 1, 1) := by decide +kernel
theorem dL_law_366 : decode cL_law 366 = .ok (.iadd, 1) := by decide +kernel
theorem dL_law_367 : decode cL_law 367 = .ok (.iaload, 1) := by decide +kernel
theorem dL_law_368 : decode cL_law 368 = .ok (.aload_n 0, 1) := by decide +kernel
theorem dL_law_369 : decode cL_law 369 = .ok (.iload_n 3, 1) := by decide +kernel
theorem dL_law_370 : decode cL_law 370 = .ok (.iconst 2, 1) := by decide +kernel
theorem dL_law_371 : decode cL_law 371 = .ok (.iadd, 1) := by decide +kernel
theorem dL_law_372 : decode cL_law 372 = .ok (.iaload, 1) := by decide +kernel
theorem dL_law_373 : decode cL_law 373 = .ok (.aload_n 0, 1) := by decide +kernel
theorem dL_law_374 : decode cL_law 374 = .ok (.iload_n 3, 1) := by decide +kernel
theorem dL_law_375 : decode cL_law 375 = .ok (.iconst 3, 1) := by decide +kernel
theorem dL_law_376 : decode cL_law 376 = .ok (.iadd, 1) := by decide +kernel
theorem dL_law_377 : decode cL_law 377 = .ok (.iaload, 1) := by decide +kernel
theorem dL_law_378 : decode cL_law 378 = .ok (.invokevirtual 58, 3) := by decide +kernel
theorem dL_law_381 : decode cL_law 381 = .ok (.aload_n 2, 1) := by decide +kernel
theorem dL_law_382 : decode cL_law 382 = .ok (.aload_n 0, 1) := by decide +kernel
theorem dL_law_383 : decode cL_law 383 = .ok (.iload_n 3, 1) := by decide +kernel
theorem dL_law_384 : decode cL_law 384 = .ok (.iconst 1, 1) := by decide +kernel
theorem dL_law_385 : decode cL_law 385 = .ok (.iadd, 1) := by decide +kernel
theorem dL_law_386 : decode cL_law 386 = .ok (.iaload, 1) := by decide +kernel
theorem dL_law_387 : decode cL_law 387 = .ok (.aload_n 0, 1) := by decide +kernel
theorem dL_law_388 : decode cL_law 388 = .ok (.iload_n 3, 1) := by decide +kernel
theorem dL_law_389 : decode cL_law 389 = .ok (.iconst 2, 1) := by decide +kernel
theorem dL_law_390 : decode cL_law 390 = .ok (.iadd, 1) := by decide +kernel
theorem dL_law_391 : decode cL_law 391 = .ok (.iaload, 1) := by decide +kernel
theorem dL_law_392 : decode cL_law 392 = .ok (.aload_n 0, 1) := by decide +kernel
theorem dL_law_393 : decode cL_law 393 = .ok (.iload_n 3, 1) := by decide +kernel
theorem dL_law_394 : decode cL_law 394 = .ok (.iconst 3, 1) := by decide +kernel
theorem dL_law_395 : decode cL_law 395 = .ok (.iadd, 1) := by decide +kernel
theorem dL_law_396 : decode cL_law 396 = .ok (.iaload, 1) := by decide +kernel
theorem dL_law_397 : decode cL_law 397 = .ok (.invokevirtual 62, 3) := by decide +kernel
theorem dL_law_400 : decode cL_law 400 = .ok (.if_icmp .eq 5, 3) := by decide +kernel
theorem dL_law_403 : decode cL_law 403 = .ok (.iconst 0, 1) := by decide +kernel
theorem dL_law_404 : decode cL_law 404 = .ok (.ireturn, 1) := by decide +kernel
theorem dL_law_405 : decode cL_law 405 = .ok (.iinc 3 4, 3) := by decide +kernel
theorem dL_law_408 : decode cL_law 408 = .ok (.goto (-390), 3) := by decide +kernel
theorem dL_law_411 : decode cL_law 411 = .ok (.iconst 1, 1) := by decide +kernel
theorem dL_law_412 : decode cL_law 412 = .ok (.ireturn, 1) := by decide +kernel
end
section
/-! PURE: determinants of a 4 by 5 matrix, elimination without fractions, pivots above 0 -/
def ps_m3 (a : Nat → Nat → Int) (i j k c d e : Nat) : Int := a i c * (a j d * a k e - a j e * a k d) - a i d * (a j c * a k e - a j e * a k c) + a i e * (a j c * a k d - a j d * a k c)
def ps_det (a : Nat → Nat → Int) (c0 c1 c2 c3 : Nat) : Int := a 0 c0 * ps_m3 a 1 2 3 c1 c2 c3 - a 0 c1 * ps_m3 a 1 2 3 c0 c2 c3 + a 0 c2 * ps_m3 a 1 2 3 c0 c1 c3 - a 0 c3 * ps_m3 a 1 2 3 c0 c1 c2
def ps_D (a : Nat → Nat → Int) : Int := ps_det a 0 1 2 3
def ps_T (a : Nat → Nat → Int) (s : Nat) : Int := match s with
  | 0 => ps_det a 4 1 2 3
  | 1 => ps_det a 0 4 2 3
  | 2 => ps_det a 0 1 4 3
  | _ => ps_det a 0 1 2 4
/-- first stage: rows 1, 2, 3 -/
def ps_b1 (a : Nat → Nat → Int) (r c : Nat) : Int := a r c * a 0 0 - a r 0 * a 0 c
def ps_q2 (a : Nat → Nat → Int) (c d : Nat) : Int := a 0 c * a 1 d - a 0 d * a 1 c
/-- second stage: rows 2, 3 -/
def ps_b2 (a : Nat → Nat → Int) (r c : Nat) : Int := ps_m3 a 0 1 r 0 1 c
theorem ps_i2 (a : Nat → Nat → Int) (r c : Nat) : ps_b1 a r c * ps_b1 a 1 1 - ps_b1 a r 1 * ps_b1 a 1 c = a 0 0 * ps_b2 a r c := by
  simp only [ps_b1, ps_b2, ps_m3]
  grind
theorem ps_i20 (a : Nat → Nat → Int) (c : Nat) : a 0 c * ps_b1 a 1 1 - a 0 1 * ps_b1 a 1 c = a 0 0 * ps_q2 a c 1 := by
  simp only [ps_b1, ps_q2]
  grind
theorem ps_i3 (a : Nat → Nat → Int) (c : Nat) : ps_b2 a 3 c * ps_b2 a 2 2 - ps_b2 a 3 2 * ps_b2 a 2 c = ps_b1 a 1 1 * ps_det a 0 1 2 c := by
  simp only [ps_b1, ps_b2, ps_m3, ps_det]
  grind
theorem ps_i30 (a : Nat → Nat → Int) (c : Nat) : ps_q2 a c 1 * ps_b2 a 2 2 - ps_q2 a 2 1 * ps_b2 a 2 c = ps_b1 a 1 1 * ps_m3 a 0 1 2 c 1 2 := by
  simp only [ps_b1, ps_b2, ps_m3, ps_q2]
  grind
theorem ps_i31 (a : Nat → Nat → Int) (c : Nat) : ps_b1 a 1 c * ps_b2 a 2 2 - ps_b1 a 1 2 * ps_b2 a 2 c = ps_b1 a 1 1 * ps_m3 a 0 1 2 0 c 2 := by
  simp only [ps_b1, ps_b2, ps_m3]
  grind
/-- a determinant by its last row -/
theorem ps_det3 (a : Nat → Nat → Int) (c0 c1 c2 c3 : Nat) : ps_det a c0 c1 c2 c3 = a 3 c3 * ps_m3 a 0 1 2 c0 c1 c2 - a 3 c2 * ps_m3 a 0 1 2 c0 c1 c3 + a 3 c1 * ps_m3 a 0 1 2 c0 c2 c3 - a 3 c0 * ps_m3 a 0 1 2 c1 c2 c3 := by
  simp only [ps_det, ps_m3]
  grind
/-- the three-term relation between minors of three rows -/
theorem ps_pl (a : Nat → Nat → Int) (x y u v w : Nat) : ps_m3 a 0 1 2 x y u * ps_m3 a 0 1 2 x v w - ps_m3 a 0 1 2 x y v * ps_m3 a 0 1 2 x u w + ps_m3 a 0 1 2 x y w * ps_m3 a 0 1 2 x u v = 0 := by
  simp only [ps_m3]
  grind
theorem ps_m3_s1 (a : Nat → Nat → Int) (c d e : Nat) : ps_m3 a 0 1 2 d c e = - ps_m3 a 0 1 2 c d e := by
  simp only [ps_m3]
  grind
theorem ps_m3_s2 (a : Nat → Nat → Int) (c d e : Nat) : ps_m3 a 0 1 2 c e d = - ps_m3 a 0 1 2 c d e := by
  simp only [ps_m3]
  grind
theorem ps_i40 (a : Nat → Nat → Int) : ps_m3 a 0 1 2 4 1 2 * ps_det a 0 1 2 3 - ps_m3 a 0 1 2 3 1 2 * ps_det a 0 1 2 4 = ps_b2 a 2 2 * ps_T a 0 := by
  simp only [ps_T, ps_b2, ps_det3]
  have h1 := ps_pl a 1 2 0 3 4
  have h2 := ps_pl a 2 1 0 3 4
  simp only [ps_m3_s1 a 1 3 2, ps_m3_s1 a 1 4 2, ps_m3_s2 a 1 2 3, ps_m3_s2 a 1 2 4, ps_m3_s1 a 1 2 0, ps_m3_s1 a 1 2 3, ps_m3_s1 a 1 2 4, ps_m3_s1 a 2 3 4, ps_m3] at *
  grind
theorem ps_i41 (a : Nat → Nat → Int) : ps_m3 a 0 1 2 0 4 2 * ps_det a 0 1 2 3 - ps_m3 a 0 1 2 0 3 2 * ps_det a 0 1 2 4 = ps_b2 a 2 2 * ps_T a 1 := by
  simp only [ps_T, ps_b2, ps_det3, ps_m3]
  grind
theorem ps_i42 (a : Nat → Nat → Int) : ps_b2 a 2 4 * ps_det a 0 1 2 3 - ps_b2 a 2 3 * ps_det a 0 1 2 4 = ps_b2 a 2 2 * ps_T a 2 := by
  simp only [ps_T, ps_b2, ps_det3, ps_m3]
  grind
/-- Cramer -/
theorem ps_cr0 (a : Nat → Nat → Int) : a 0 0 * ps_T a 0 + a 0 1 * ps_T a 1 + a 0 2 * ps_T a 2 + a 0 3 * ps_T a 3 = ps_D a * a 0 4 := by
  simp only [ps_T, ps_D, ps_det, ps_m3]
  grind
theorem ps_cr1 (a : Nat → Nat → Int) : a 1 0 * ps_T a 0 + a 1 1 * ps_T a 1 + a 1 2 * ps_T a 2 + a 1 3 * ps_T a 3 = ps_D a * a 1 4 := by
  simp only [ps_T, ps_D, ps_det, ps_m3]
  grind
theorem ps_cr2 (a : Nat → Nat → Int) : a 2 0 * ps_T a 0 + a 2 1 * ps_T a 1 + a 2 2 * ps_T a 2 + a 2 3 * ps_T a 3 = ps_D a * a 2 4 := by
  simp only [ps_T, ps_D, ps_det, ps_m3]
  grind
theorem ps_cr3 (a : Nat → Nat → Int) : a 3 0 * ps_T a 0 + a 3 1 * ps_T a 1 + a 3 2 * ps_T a 2 + a 3 3 * ps_T a 3 = ps_D a * a 3 4 := by
  simp only [ps_T, ps_D, ps_det, ps_m3]
  grind
/-- off the diagonal at most 0, rows sum up to 4 -/
def ps_dom (a : Nat → Nat → Int) : Prop := (∀ r c, r < 4 → c < 4 → r ≠ c → a r c ≤ 0) ∧ ∀ r, r < 4 → a r 0 + a r 1 + a r 2 + a r 3 = 4
theorem ps_nn {x y : Int} (hx : x ≤ 0) (hy : y ≤ 0) : 0 ≤ x * y := Int.mul_nonneg_of_nonpos_of_nonpos hx hy
theorem ps_np {x y : Int} (hx : x ≤ 0) (hy : 0 ≤ y) : x * y ≤ 0 := Int.mul_nonpos_of_nonpos_of_nonneg hx hy
theorem ps_posOf {x y : Int} (hx : 0 < x) (h : 0 < x * y) : 0 < y := Int.pos_of_mul_pos_left (a := y) (b := x) (by rw [Int.mul_comm]; exact h) hx
theorem ps_nonposOf {x y : Int} (hx : 0 < x) (h : x * y ≤ 0) : y ≤ 0 := by
  rcases Int.lt_or_le 0 y with q | q
  · exact absurd (Int.mul_pos hx q) (by omega)
  · exact q
theorem ps_p1 {a : Nat → Nat → Int} (h : ps_dom a) : 4 ≤ a 0 0 := by
  have h1 := h.1 0 1 (by omega) (by omega) (by omega)
  have h2 := h.1 0 2 (by omega) (by omega) (by omega)
  have h3 := h.1 0 3 (by omega) (by omega) (by omega)
  have h4 := h.2 0 (by omega)
  omega
theorem ps_b1_off {a : Nat → Nat → Int} (h : ps_dom a) {r c : Nat} (hr : r < 4) (hc : c < 4) (hr0 : r ≠ 0) (hc0 : c ≠ 0) (hrc : r ≠ c) : ps_b1 a r c ≤ 0 := by
  have h1 := ps_p1 h
  have h2 := ps_np (h.1 r c hr hc hrc) (show 0 ≤ a 0 0 by omega)
  have h3 := ps_nn (h.1 r 0 hr (by omega) hr0) (h.1 0 c (by omega) hc (Ne.symm hc0))
  unfold ps_b1
  omega
theorem ps_b1_sum {a : Nat → Nat → Int} (h : ps_dom a) {r : Nat} (hr : r < 4) (hr0 : r ≠ 0) : 0 < ps_b1 a r 1 + ps_b1 a r 2 + ps_b1 a r 3 := by
  have h1 := ps_p1 h
  have h2 := h.1 r 0 hr (by omega) hr0
  have e1 := h.2 0 (by omega)
  have e2 := h.2 r hr
  have e : ps_b1 a r 1 + ps_b1 a r 2 + ps_b1 a r 3 = a 0 0 * (a r 0 + a r 1 + a r 2 + a r 3) - a r 0 * (a 0 0 + a 0 1 + a 0 2 + a 0 3) := by
    unfold ps_b1
    grind
  rw [e, e1, e2]
  omega
theorem ps_p2 {a : Nat → Nat → Int} (h : ps_dom a) : 0 < ps_b1 a 1 1 := by
  have h1 := ps_b1_sum h (r := 1) (by omega) (by omega)
  have h2 := ps_b1_off h (r := 1) (c := 2) (by omega) (by omega) (by omega) (by omega) (by omega)
  have h3 := ps_b1_off h (r := 1) (c := 3) (by omega) (by omega) (by omega) (by omega) (by omega)
  omega
theorem ps_b2_off {a : Nat → Nat → Int} (h : ps_dom a) {r c : Nat} (hr : r < 4) (hc : c < 4) (hr0 : 2 ≤ r) (hc0 : 2 ≤ c) (hrc : r ≠ c) : ps_b2 a r c ≤ 0 := by
  have h1 := ps_p1 h
  have h2 := ps_p2 h
  have h3 := ps_np (ps_b1_off h hr hc (by omega) (by omega) hrc) (show 0 ≤ ps_b1 a 1 1 by omega)
  have h4 := ps_nn (ps_b1_off h (r := r) (c := 1) hr (by omega) (by omega) (by omega) (by omega)) (ps_b1_off h (r := 1) (c := c) (by omega) hc (by omega) (by omega) (by omega))
  have e := ps_i2 a r c
  exact ps_nonposOf (x := a 0 0) (by omega) (by omega)
theorem ps_b2_sum {a : Nat → Nat → Int} (h : ps_dom a) {r : Nat} (hr : r < 4) (hr0 : 2 ≤ r) : 0 < ps_b2 a r 2 + ps_b2 a r 3 := by
  have h1 := ps_p1 h
  have h2 := ps_p2 h
  have s1 := ps_b1_sum h (r := 1) (by omega) (by omega)
  have s2 := ps_b1_sum h (r := r) hr (by omega)
  have o := ps_b1_off h (r := r) (c := 1) hr (by omega) (by omega) (by omega) (by omega)
  have e1 := ps_i2 a r 2
  have e2 := ps_i2 a r 3
  have k1 := Int.mul_pos h2 s2
  have k2 := ps_np o (Int.le_of_lt s1)
  refine ps_posOf (x := a 0 0) (by omega) ?_
  have e : a 0 0 * (ps_b2 a r 2 + ps_b2 a r 3) = ps_b1 a 1 1 * (ps_b1 a r 1 + ps_b1 a r 2 + ps_b1 a r 3) - ps_b1 a r 1 * (ps_b1 a 1 1 + ps_b1 a 1 2 + ps_b1 a 1 3) := by
    rw [Int.mul_add, ← e1, ← e2]
    grind
  rw [e]
  omega
theorem ps_p3 {a : Nat → Nat → Int} (h : ps_dom a) : 0 < ps_b2 a 2 2 := by
  have h1 := ps_b2_sum h (r := 2) (by omega) (by omega)
  have h2 := ps_b2_off h (r := 2) (c := 3) (by omega) (by omega) (by omega) (by omega) (by omega)
  omega
theorem ps_p4 {a : Nat → Nat → Int} (h : ps_dom a) : 0 < ps_D a := by
  have h0 := ps_p2 h
  have h1 := ps_b2_sum h (r := 2) (by omega) (by omega)
  have h2 := ps_b2_off h (r := 2) (c := 3) (by omega) (by omega) (by omega) (by omega) (by omega)
  have h3 := ps_b2_sum h (r := 3) (by omega) (by omega)
  have h4 := ps_b2_off h (r := 3) (c := 2) (by omega) (by omega) (by omega) (by omega) (by omega)
  have e := ps_i3 a 3
  refine ps_posOf (x := ps_b1 a 1 1) h0 ?_
  show 0 < ps_b1 a 1 1 * ps_det a 0 1 2 3
  rw [← e]
  generalize ps_b2 a 2 2 = x2 at *
  generalize ps_b2 a 2 3 = x3 at *
  generalize ps_b2 a 3 2 = y2 at *
  generalize ps_b2 a 3 3 = y3 at *
  have k1 := Int.mul_pos h3 (show 0 < x2 by omega)
  have k2 := ps_nn h4 (show -(x2 + x3) ≤ 0 by omega)
  have e2 : y3 * x2 - y2 * x3 = (y2 + y3) * x2 + y2 * (-(x2 + x3)) := by grind
  rw [e2]
  omega
/-! bounds -/
theorem ps_bm {x y : Int} {X Y : Nat} (hx : x.natAbs ≤ X) (hy : y.natAbs ≤ Y) : (x * y).natAbs ≤ X * Y := by
  rw [Int.natAbs_mul]
  exact Nat.mul_le_mul hx hy
theorem ps_ba {x y : Int} {X Y : Nat} (hx : x.natAbs ≤ X) (hy : y.natAbs ≤ Y) : (x + y).natAbs ≤ X + Y := by omega
theorem ps_bs {x y : Int} {X Y : Nat} (hx : x.natAbs ≤ X) (hy : y.natAbs ≤ Y) : (x - y).natAbs ≤ X + Y := by omega
theorem ps_bm3 {a : Nat → Nat → Int} {i j k c d e K : Nat} (h : ∀ r, r < 4 → ∀ q, q = c ∨ q = d ∨ q = e → (a r q).natAbs ≤ K) (hi : i < 4) (hj : j < 4) (hk : k < 4) : (ps_m3 a i j k c d e).natAbs ≤ 6 * (K * (K * K)) := by
  have h1 := ps_bm (h i hi c (by simp)) (ps_bs (ps_bm (h j hj d (by simp)) (h k hk e (by simp))) (ps_bm (h j hj e (by simp)) (h k hk d (by simp))))
  have h2 := ps_bm (h i hi d (by simp)) (ps_bs (ps_bm (h j hj c (by simp)) (h k hk e (by simp))) (ps_bm (h j hj e (by simp)) (h k hk c (by simp))))
  have h3 := ps_bm (h i hi e (by simp)) (ps_bs (ps_bm (h j hj c (by simp)) (h k hk d (by simp))) (ps_bm (h j hj d (by simp)) (h k hk c (by simp))))
  have h4 := ps_ba (ps_bs h1 h2) h3
  refine Nat.le_trans h4 (Nat.le_of_eq ?_)
  rw [Nat.mul_add]
  omega
theorem ps_bdet {a : Nat → Nat → Int} {c0 c1 c2 c3 K : Nat} (h : ∀ r, r < 4 → ∀ q, q = c0 ∨ q = c1 ∨ q = c2 ∨ q = c3 → (a r q).natAbs ≤ K) : (ps_det a c0 c1 c2 c3).natAbs ≤ 24 * (K * (K * (K * K))) := by
  have m (c d e : Nat) (hc : c = c0 ∨ c = c1 ∨ c = c2 ∨ c = c3) (hd : d = c0 ∨ d = c1 ∨ d = c2 ∨ d = c3) (he : e = c0 ∨ e = c1 ∨ e = c2 ∨ e = c3) : (ps_m3 a 1 2 3 c d e).natAbs ≤ 6 * (K * (K * K)) :=
    ps_bm3 (fun r hr q hq => h r hr q (by rcases hq with rfl | rfl | rfl <;> assumption)) (by omega) (by omega) (by omega)
  have h1 := ps_bm (h 0 (by omega) c0 (by simp)) (m c1 c2 c3 (by simp) (by simp) (by simp))
  have h2 := ps_bm (h 0 (by omega) c1 (by simp)) (m c0 c2 c3 (by simp) (by simp) (by simp))
  have h3 := ps_bm (h 0 (by omega) c2 (by simp)) (m c0 c1 c3 (by simp) (by simp) (by simp))
  have h4 := ps_bm (h 0 (by omega) c3 (by simp)) (m c0 c1 c2 (by simp) (by simp) (by simp))
  have h5 := ps_bs (ps_ba (ps_bs h1 h2) h3) h4
  refine Nat.le_trans h5 (Nat.le_of_eq ?_)
  rw [show K * (6 * (K * (K * K))) = 6 * (K * (K * (K * K))) from by rw [← Nat.mul_assoc, Nat.mul_comm K 6, Nat.mul_assoc]]
  omega
end
section
/-! PURE: making policies better: values T p s over D p, gains, local best = best, an improvement lowers the rank -/
def ps_act (p s : Nat) : Nat := 2 * s + p / 2 ^ s % 2
theorem ps_act_lt {p s : Nat} (h : s < 4) : ps_act p s < 8 := by
  unfold ps_act
  have := Nat.mod_lt (p / 2 ^ s) (show 0 < 2 by omega)
  omega
def pi_sum (g : Nat → Nat → Int) (k : Nat) (w : Nat → Int) : Int := g k 0 * w 0 + g k 1 * w 1 + g k 2 * w 2 + g k 3 * w 3
def pi_gain (r : Nat → Int) (g : Nat → Nat → Int) (w : Nat → Int) (d : Int) (k : Nat) : Int := 8 * r k * d + pi_sum g k w
def pi_ok (r : Nat → Int) (g : Nat → Nat → Int) (T : Nat → Nat → Int) (D : Nat → Int) : Prop :=
  (∀ k, k < 8 → 0 ≤ g k 0 ∧ 0 ≤ g k 1 ∧ 0 ≤ g k 2 ∧ 0 ≤ g k 3 ∧ g k 0 + g k 1 + g k 2 + g k 3 = 4) ∧ (∀ p, 0 < D p) ∧ ∀ p s, s < 4 → 8 * T p s - pi_sum g (ps_act p s) (T p) = 8 * r (ps_act p s) * D p
theorem pi_min1 {s0 s1 s2 s3 w w0 w1 w2 w3 : Int} (h0 : 0 ≤ s0) (h1 : 0 ≤ s1) (h2 : 0 ≤ s2) (h3 : 0 ≤ s3) (e : s0 + s1 + s2 + s3 = 4) (k0 : w ≤ w0) (k1 : w ≤ w1) (k2 : w ≤ w2) (k3 : w ≤ w3) (h : 0 ≤ 8 * w - (s0 * w0 + s1 * w1 + s2 * w2 + s3 * w3)) : 0 ≤ w := by
  have q0 := Int.mul_le_mul_of_nonneg_left k0 h0
  have q1 := Int.mul_le_mul_of_nonneg_left k1 h1
  have q2 := Int.mul_le_mul_of_nonneg_left k2 h2
  have q3 := Int.mul_le_mul_of_nonneg_left k3 h3
  have q : s0 * w + s1 * w + s2 * w + s3 * w = 4 * w := by rw [← e]; grind
  omega
/-- the least of four -/
theorem pi_least (w : Nat → Int) : ∃ m, m < 4 ∧ ∀ t, t < 4 → w m ≤ w t := by
  have q : (w 0 ≤ w 1 ∧ w 0 ≤ w 2 ∧ w 0 ≤ w 3) ∨ (w 1 ≤ w 0 ∧ w 1 ≤ w 2 ∧ w 1 ≤ w 3) ∨ (w 2 ≤ w 0 ∧ w 2 ≤ w 1 ∧ w 2 ≤ w 3) ∨ (w 3 ≤ w 0 ∧ w 3 ≤ w 1 ∧ w 3 ≤ w 2) := by omega
  have all (m : Nat) (h0 : w m ≤ w 0) (h1 : w m ≤ w 1) (h2 : w m ≤ w 2) (h3 : w m ≤ w 3) : ∀ t, t < 4 → w m ≤ w t := by
    intro t ht
    rcases (show t = 0 ∨ t = 1 ∨ t = 2 ∨ t = 3 by omega) with rfl | rfl | rfl | rfl <;> assumption
  rcases q with ⟨a, b, c⟩ | ⟨a, b, c⟩ | ⟨a, b, c⟩ | ⟨a, b, c⟩
  · exact ⟨0, by omega, all 0 (Int.le_refl _) a b c⟩
  · exact ⟨1, by omega, all 1 a (Int.le_refl _) b c⟩
  · exact ⟨2, by omega, all 2 a b (Int.le_refl _) c⟩
  · exact ⟨3, by omega, all 3 a b c (Int.le_refl _)⟩
section PI
variable {r : Nat → Int} {g : Nat → Nat → Int} {T : Nat → Nat → Int} {D : Nat → Int}
theorem pi_min (H : pi_ok r g T D) (k : Nat → Nat) (hk : ∀ s, s < 4 → k s < 8) (w : Nat → Int) (h : ∀ s, s < 4 → 0 ≤ 8 * w s - pi_sum g (k s) w) : ∀ s, s < 4 → 0 ≤ w s := by
  obtain ⟨m, hm, hl⟩ := pi_least w
  obtain ⟨a0, a1, a2, a3, ae⟩ := H.1 (k m) (hk m hm)
  have h0 : 0 ≤ w m := pi_min1 a0 a1 a2 a3 ae (hl 0 (by omega)) (hl 1 (by omega)) (hl 2 (by omega)) (hl 3 (by omega)) (h m hm)
  intro s hs
  have := hl s hs
  omega
/-- the difference of the values of q and p, times both denominators -/
theorem pi_diff (H : pi_ok r g T D) (p q s : Nat) (hs : s < 4) : 8 * (T p s * D q - T q s * D p) - pi_sum g (ps_act q s) (fun t => T p t * D q - T q t * D p) = D q * (8 * T p s - pi_gain r g (T p) (D p) (ps_act q s)) := by
  have e := H.2.2 q s hs
  have e2 : D p * (8 * T q s - pi_sum g (ps_act q s) (T q)) = D p * (8 * r (ps_act q s) * D q) := by rw [e]
  unfold pi_gain
  unfold pi_sum at *
  grind
theorem pi_le (H : pi_ok r g T D) {p q : Nat} (h : ∀ s, s < 4 → pi_gain r g (T p) (D p) (ps_act q s) ≤ 8 * T p s) : ∀ s, s < 4 → T q s * D p ≤ T p s * D q := by
  have k := pi_min H (ps_act q) (fun s hs => ps_act_lt hs) (fun t => T p t * D q - T q t * D p) (fun s hs => by
    rw [pi_diff H p q s hs]
    have := h s hs
    exact Int.mul_nonneg (Int.le_of_lt (H.2.1 q)) (by omega))
  intro s hs
  have := k s hs
  omega
theorem pi_ge (H : pi_ok r g T D) {p q : Nat} (h : ∀ s, s < 4 → 8 * T p s ≤ pi_gain r g (T p) (D p) (ps_act q s)) : ∀ s, s < 4 → T p s * D q ≤ T q s * D p := by
  have k := pi_min H (ps_act q) (fun s hs => ps_act_lt hs) (fun t => T q t * D p - T p t * D q) (fun s hs => by
    have e := pi_diff H p q s hs
    have e3 : 8 * (T q s * D p - T p s * D q) - pi_sum g (ps_act q s) (fun t => T q t * D p - T p t * D q) = D q * (pi_gain r g (T p) (D p) (ps_act q s) - 8 * T p s) := by
      have e4 : pi_sum g (ps_act q s) (fun t => T q t * D p - T p t * D q) = - pi_sum g (ps_act q s) (fun t => T p t * D q - T q t * D p) := by
        unfold pi_sum
        grind
      rw [e4]
      grind
    show 0 ≤ 8 * (T q s * D p - T p s * D q) - pi_sum g (ps_act q s) (fun t => T q t * D p - T p t * D q)
    rw [e3]
    have := h s hs
    exact Int.mul_nonneg (Int.le_of_lt (H.2.1 q)) (by omega))
  intro s hs
  have := k s hs
  omega
/-- the own action gives just the value -/
theorem pi_own (H : pi_ok r g T D) (p s : Nat) (hs : s < 4) : pi_gain r g (T p) (D p) (ps_act p s) = 8 * T p s := by
  have e := H.2.2 p s hs
  unfold pi_gain
  omega
def pi_best (T : Nat → Nat → Int) (D : Nat → Int) (q : Nat) : Prop := ∀ p, p < 16 → ∀ s, s < 4 → T p s * D q ≤ T q s * D p
def pi_LO (r : Nat → Int) (g : Nat → Nat → Int) (T : Nat → Nat → Int) (D : Nat → Int) (p : Nat) : Prop := ∀ s, s < 4 → ∀ a, a < 2 → pi_gain r g (T p) (D p) (2 * s + a) ≤ 8 * T p s
theorem pi_actA (q s : Nat) : ∃ a, a < 2 ∧ ps_act q s = 2 * s + a := ⟨q / 2 ^ s % 2, Nat.mod_lt _ (by omega), rfl⟩
theorem pi_LO_act {p : Nat} (h : pi_LO r g T D p) (q s : Nat) (hs : s < 4) : pi_gain r g (T p) (D p) (ps_act q s) ≤ 8 * T p s := by
  obtain ⟨a, ha, e⟩ := pi_actA q s
  rw [e]
  exact h s hs a ha
theorem pi_cancel {x y d : Int} (hd : 0 < d) (h : d * x ≤ d * y) : x ≤ y := Int.le_of_mul_le_mul_left h hd
theorem pi_zero {d x : Int} (hd : 0 < d) (h : d * x = 0) : x = 0 := by
  rcases Int.mul_eq_zero.mp h with e | e
  · omega
  · exact e
theorem pi_best_iff (H : pi_ok r g T D) {p : Nat} (hp : p < 16) (h : pi_LO r g T D p) (q : Nat) : pi_best T D q ↔ ∀ s, s < 4 → pi_gain r g (T p) (D p) (ps_act q s) = 8 * T p s := by
  have hle := pi_le H (q := q) (fun s hs => pi_LO_act h q s hs)
  constructor
  · intro hb s hs
    have z : ∀ t, t < 4 → T p t * D q - T q t * D p = 0 := fun t ht => by
      have a1 := hle t ht
      have a2 := hb p hp t ht
      omega
    have e := pi_diff H p q s hs
    have e2 : pi_sum g (ps_act q s) (fun t => T p t * D q - T q t * D p) = 0 := by
      unfold pi_sum
      simp only [z 0 (by omega), z 1 (by omega), z 2 (by omega), z 3 (by omega), Int.mul_zero]
      rfl
    rw [e2, z s hs] at e
    have := pi_zero (H.2.1 q) (show D q * (8 * T p s - pi_gain r g (T p) (D p) (ps_act q s)) = 0 by rw [← e]; rfl)
    omega
  · intro he
    have hge := pi_ge H (p := p) (q := q) (fun s hs => by rw [he s hs]; exact Int.le_refl _)
    intro p' hp' s hs
    have a1 := hle s hs
    have a2 := hge s hs
    have a3 : T p s * D q = T q s * D p := by omega
    have a4 := pi_le H (p := p) (q := p') (fun s hs => pi_LO_act h p' s hs) s hs
    refine pi_cancel (H.2.1 p) ?_
    have b1 := Int.mul_le_mul_of_nonneg_left a4 (Int.le_of_lt (H.2.1 q))
    have b2 : D q * (T p s * D p') = D p' * (T p s * D q) := by grind
    rw [b2, a3] at b1
    have b3 : D q * (T p' s * D p) = D p * (T p' s * D q) := by grind
    have b4 : D p' * (T q s * D p) = D p * (T q s * D p') := by grind
    rw [b3, b4] at b1
    exact b1
/-- the value of all states together -/
def pi_phi (T : Nat → Nat → Int) (p : Nat) : Int := T p 0 + T p 1 + T p 2 + T p 3
def pi_gt (T : Nat → Nat → Int) (D : Nat → Int) (q p : Nat) : Bool := decide (pi_phi T p * D q < pi_phi T q * D p)
def pi_rank (T : Nat → Nat → Int) (D : Nat → Int) (p : Nat) : Nat := (List.range 16).countP (fun q => pi_gt T D q p)
theorem pi_rank_le (T : Nat → Nat → Int) (D : Nat → Int) (p : Nat) : pi_rank T D p ≤ 16 := by
  have h := List.countP_le_length (p := fun q => pi_gt T D q p) (l := List.range 16)
  rw [List.length_range] at h
  exact h
theorem pi_cnt {P Q : Nat → Bool} : ∀ (l : List Nat), (∀ x ∈ l, P x = true → Q x = true) → (∃ x ∈ l, Q x = true ∧ P x = false) → l.countP P < l.countP Q := by
  intro l
  induction l with
  | nil =>
    intro _ h
    obtain ⟨x, hx, _⟩ := h
    cases hx
  | cons a l ih =>
    intro h1 h2
    have hm : l.countP P ≤ l.countP Q := List.countP_mono_left (fun x hx h => h1 x (List.mem_cons_of_mem _ hx) h)
    have ha := h1 a List.mem_cons_self
    rw [List.countP_cons, List.countP_cons]
    obtain ⟨x, hx, q1, q2⟩ := h2
    rcases List.mem_cons.mp hx with e | e
    · subst e
      simp only [q1, q2, if_true]
      simp
      omega
    · have := ih (fun x hx h => h1 x (List.mem_cons_of_mem _ hx) h) ⟨x, e, q1, q2⟩
      cases hP : P a with
      | true => simp only [ha hP, if_true]; omega
      | false => cases hQ : Q a <;> simp <;> omega
theorem pi_rank_lt (H : pi_ok r g T D) {p q : Nat} (hq : q < 16) (h : pi_phi T p * D q < pi_phi T q * D p) : pi_rank T D q < pi_rank T D p := by
  refine pi_cnt _ (fun x hx hP => ?_) ⟨q, List.mem_range.mpr hq, ?_, ?_⟩
  · have h1 : pi_phi T q * D x < pi_phi T x * D q := by simpa [pi_gt] using hP
    refine decide_eq_true ?_
    have dp := H.2.1 p
    have dq := H.2.1 q
    have dx := H.2.1 x
    have k1 := Int.mul_lt_mul_of_pos_left h dx
    have k2 := Int.mul_lt_mul_of_pos_left h1 dp
    have k3 : D q * (pi_phi T p * D x) < D q * (pi_phi T x * D p) := by
      have e1 : D q * (pi_phi T p * D x) = D x * (pi_phi T p * D q) := by grind
      have e2 : D x * (pi_phi T q * D p) = D p * (pi_phi T q * D x) := by grind
      have e3 : D q * (pi_phi T x * D p) = D p * (pi_phi T x * D q) := by grind
      omega
    exact Int.lt_of_mul_lt_mul_left k3 (Int.le_of_lt dq)
  · exact decide_eq_true h
  · exact decide_eq_false (by omega)
/-- a step that takes a better action somewhere and a worse one nowhere -/
theorem pi_step (H : pi_ok r g T D) {p q : Nat} (hq : q < 16) (h : ∀ s, s < 4 → 8 * T p s ≤ pi_gain r g (T p) (D p) (ps_act q s)) (hs : ∃ s, s < 4 ∧ 8 * T p s < pi_gain r g (T p) (D p) (ps_act q s)) : pi_rank T D q < pi_rank T D p := by
  refine pi_rank_lt H hq ?_
  have hge := pi_ge H h
  obtain ⟨s, hs4, hlt⟩ := hs
  have e := pi_diff H p q s hs4
  have k1 := Int.mul_pos (H.2.1 q) (show 0 < pi_gain r g (T p) (D p) (ps_act q s) - 8 * T p s by omega)
  have e2 : D q * (8 * T p s - pi_gain r g (T p) (D p) (ps_act q s)) = - (D q * (pi_gain r g (T p) (D p) (ps_act q s) - 8 * T p s)) := by grind
  obtain ⟨a0, a1, a2, a3, _⟩ := H.1 (ps_act q s) (ps_act_lt hs4)
  have g0 := hge 0 (by omega)
  have g1 := hge 1 (by omega)
  have g2 := hge 2 (by omega)
  have g3 := hge 3 (by omega)
  have m0 := Int.mul_nonneg a0 (show 0 ≤ T q 0 * D p - T p 0 * D q by omega)
  have m1 := Int.mul_nonneg a1 (show 0 ≤ T q 1 * D p - T p 1 * D q by omega)
  have m2 := Int.mul_nonneg a2 (show 0 ≤ T q 2 * D p - T p 2 * D q by omega)
  have m3 := Int.mul_nonneg a3 (show 0 ≤ T q 3 * D p - T p 3 * D q by omega)
  have e3 : pi_sum g (ps_act q s) (fun t => T p t * D q - T q t * D p) = - (g (ps_act q s) 0 * (T q 0 * D p - T p 0 * D q) + g (ps_act q s) 1 * (T q 1 * D p - T p 1 * D q) + g (ps_act q s) 2 * (T q 2 * D p - T p 2 * D q) + g (ps_act q s) 3 * (T q 3 * D p - T p 3 * D q)) := by
    unfold pi_sum
    grind
  have hst : T p s * D q < T q s * D p := by
    rw [e2, e3] at e
    omega
  have f1 : pi_phi T p * D q = T p 0 * D q + T p 1 * D q + T p 2 * D q + T p 3 * D q := by
    unfold pi_phi
    grind
  have f2 : pi_phi T q * D p = T q 0 * D p + T q 1 * D p + T q 2 * D p + T q 3 * D p := by
    unfold pi_phi
    grind
  rw [f1, f2]
  rcases (show s = 0 ∨ s = 1 ∨ s = 2 ∨ s = 3 by omega) with rfl | rfl | rfl | rfl <;> omega
end PI
/-! the best policies by the good actions: eight truth values -/
def pb_best (b : Nat → Nat → Bool) (q : Nat) : Bool := b 0 (q / 1 % 2) && b 1 (q / 2 % 2) && b 2 (q / 4 % 2) && b 3 (q / 8 % 2)
def pb_of (b00 b01 b10 b11 b20 b21 b30 b31 : Bool) : Nat → Nat → Bool := fun s a => match s, a with
  | 0, 0 => b00
  | 0, _ => b01
  | 1, 0 => b10
  | 1, _ => b11
  | 2, 0 => b20
  | 2, _ => b21
  | _, 0 => b30
  | _, _ => b31
theorem pb_best_of (b : Nat → Nat → Bool) (q : Nat) : pb_best b q = pb_best (pb_of (b 0 0) (b 0 1) (b 1 0) (b 1 1) (b 2 0) (b 2 1) (b 3 0) (b 3 1)) q := by
  unfold pb_best
  have h1 := Nat.mod_lt (q / 1) (show 0 < 2 by omega)
  have h2 := Nat.mod_lt (q / 2) (show 0 < 2 by omega)
  have h4 := Nat.mod_lt (q / 4) (show 0 < 2 by omega)
  have h8 := Nat.mod_lt (q / 8) (show 0 < 2 by omega)
  have k : ∀ s, s < 4 → ∀ a, a < 2 → b s a = pb_of (b 0 0) (b 0 1) (b 1 0) (b 1 1) (b 2 0) (b 2 1) (b 3 0) (b 3 1) s a := by
    intro s hs a ha
    rcases (show s = 0 ∨ s = 1 ∨ s = 2 ∨ s = 3 by omega) with rfl | rfl | rfl | rfl <;> rcases (show a = 0 ∨ a = 1 by omega) with rfl | rfl <;> rfl
  rw [← k 0 (by omega) _ h1, ← k 1 (by omega) _ h2, ← k 2 (by omega) _ h4, ← k 3 (by omega) _ h8]
/-- the reference's loops over the policies -/
def pm_fb (f : Nat → Bool) : Nat → Nat → Nat
  | 0, _ => 0
  | n + 1, i => if f i = true then i else pm_fb f n (i + 1)
def pm_ct (f : Nat → Bool) : Nat → Nat → Nat → Nat
  | 0, _, c => c
  | n + 1, i, c => pm_ct f n (i + 1) (if f i = true then c + 1 else c)
def pm_gd (f : Nat → Bool) (s a : Nat) : Nat → Nat → Bool
  | 0, _ => false
  | n + 1, i => if i / 2 ^ s % 2 = a ∧ f i = true then true else pm_gd f s a n (i + 1)
theorem pm_fb_congr {f h : Nat → Bool} : ∀ n i, (∀ j, i ≤ j → j < i + n → f j = h j) → pm_fb f n i = pm_fb h n i := by
  intro n
  induction n with
  | zero => intro i _; rfl
  | succ n ih =>
    intro i hj
    rw [pm_fb, pm_fb, hj i (Nat.le_refl _) (by omega), ih (i + 1) (fun j h1 h2 => hj j (by omega) (by omega))]
theorem pm_ct_congr {f h : Nat → Bool} : ∀ n i c, (∀ j, i ≤ j → j < i + n → f j = h j) → pm_ct f n i c = pm_ct h n i c := by
  intro n
  induction n with
  | zero => intro i c _; rfl
  | succ n ih =>
    intro i c hj
    rw [pm_ct, pm_ct, hj i (Nat.le_refl _) (by omega), ih (i + 1) _ (fun j h1 h2 => hj j (by omega) (by omega))]
theorem pm_gd_congr {f h : Nat → Bool} (s a : Nat) : ∀ n i, (∀ j, i ≤ j → j < i + n → f j = h j) → pm_gd f s a n i = pm_gd h s a n i := by
  intro n
  induction n with
  | zero => intro i _; rfl
  | succ n ih =>
    intro i hj
    rw [pm_gd, pm_gd, hj i (Nat.le_refl _) (by omega), ih (i + 1) (fun j h1 h2 => hj j (by omega) (by omega))]
set_option maxRecDepth 100000 in
set_option maxHeartbeats 4000000 in
theorem pb_first8 : ∀ b00 b01 b10 b11 b20 b21 b30 b31 : Bool, (b00 || b01) = true → (b10 || b11) = true → (b20 || b21) = true → (b30 || b31) = true →
    pm_fb (pb_best (pb_of b00 b01 b10 b11 b20 b21 b30 b31)) 16 0 = (if b00 = true then 0 else 1) + (if b10 = true then 0 else 2) + (if b20 = true then 0 else 4) + (if b30 = true then 0 else 8) := by decide +kernel
set_option maxRecDepth 100000 in
set_option maxHeartbeats 4000000 in
theorem pb_count8 : ∀ b00 b01 b10 b11 b20 b21 b30 b31 : Bool, (b00 || b01) = true → (b10 || b11) = true → (b20 || b21) = true → (b30 || b31) = true →
    pm_ct (pb_best (pb_of b00 b01 b10 b11 b20 b21 b30 b31)) 16 0 0 = (if (b00 && b01) = true then 2 else 1) * (if (b10 && b11) = true then 2 else 1) * (if (b20 && b21) = true then 2 else 1) * (if (b30 && b31) = true then 2 else 1) := by decide +kernel
set_option maxRecDepth 100000 in
set_option maxHeartbeats 4000000 in
theorem pb_good8 : ∀ b00 b01 b10 b11 b20 b21 b30 b31 : Bool, (b00 || b01) = true → (b10 || b11) = true → (b20 || b21) = true → (b30 || b31) = true →
    ∀ s : Fin 4, ∀ a : Fin 2, pm_gd (pb_best (pb_of b00 b01 b10 b11 b20 b21 b30 b31)) s.val a.val 16 0 = pb_of b00 b01 b10 b11 b20 b21 b30 b31 s.val a.val := by decide +kernel
theorem pb_first {f : Nat → Bool} (b : Nat → Nat → Bool) (hf : ∀ q, q < 16 → f q = pb_best b q) (h : ∀ s, s < 4 → (b s 0 || b s 1) = true) : pm_fb f 16 0 = (if b 0 0 = true then 0 else 1) + (if b 1 0 = true then 0 else 2) + (if b 2 0 = true then 0 else 4) + (if b 3 0 = true then 0 else 8) := by
  rw [pm_fb_congr 16 0 (fun j _ hj => (hf j (by omega)).trans (pb_best_of b j))]
  exact pb_first8 _ _ _ _ _ _ _ _ (h 0 (by omega)) (h 1 (by omega)) (h 2 (by omega)) (h 3 (by omega))
theorem pb_count {f : Nat → Bool} (b : Nat → Nat → Bool) (hf : ∀ q, q < 16 → f q = pb_best b q) (h : ∀ s, s < 4 → (b s 0 || b s 1) = true) : pm_ct f 16 0 0 = (if (b 0 0 && b 0 1) = true then 2 else 1) * (if (b 1 0 && b 1 1) = true then 2 else 1) * (if (b 2 0 && b 2 1) = true then 2 else 1) * (if (b 3 0 && b 3 1) = true then 2 else 1) := by
  rw [pm_ct_congr 16 0 0 (fun j _ hj => (hf j (by omega)).trans (pb_best_of b j))]
  exact pb_count8 _ _ _ _ _ _ _ _ (h 0 (by omega)) (h 1 (by omega)) (h 2 (by omega)) (h 3 (by omega))
theorem pb_good {f : Nat → Bool} (b : Nat → Nat → Bool) (hf : ∀ q, q < 16 → f q = pb_best b q) (h : ∀ s, s < 4 → (b s 0 || b s 1) = true) {s a : Nat} (hs : s < 4) (ha : a < 2) : pm_gd f s a 16 0 = b s a := by
  rw [pm_gd_congr s a 16 0 (fun j _ hj => (hf j (by omega)).trans (pb_best_of b j))]
  have k := pb_good8 _ _ _ _ _ _ _ _ (h 0 (by omega)) (h 1 (by omega)) (h 2 (by omega)) (h 3 (by omega)) ⟨s, hs⟩ ⟨a, ha⟩
  rw [k]
  rcases (show s = 0 ∨ s = 1 ∨ s = 2 ∨ s = 3 by omega) with rfl | rfl | rfl | rfl <;> rcases (show a = 0 ∨ a = 1 by omega) with rfl | rfl <;> rfl
end
section
/-! PURE: the values of a policy in Int, the arrays as longs; fillRows, reduce, evaluate as functions -/
def ps_A (R S : Nat → Int32) (p s t : Nat) : Int := if t = 4 then 8 * (R (ps_act p s)).toInt else (if s = t then 8 else 0) - (S (4 * ps_act p s + t)).toInt
def ps_Ok (R S : Nat → Int32) : Prop := ∀ k, k < 8 → (-20 ≤ (R k).toInt ∧ (R k).toInt ≤ 20) ∧ 0 ≤ (S (4 * k + 0)).toInt ∧ 0 ≤ (S (4 * k + 1)).toInt ∧ 0 ≤ (S (4 * k + 2)).toInt ∧ 0 ≤ (S (4 * k + 3)).toInt ∧ (S (4 * k + 0)).toInt + (S (4 * k + 1)).toInt + (S (4 * k + 2)).toInt + (S (4 * k + 3)).toInt = 4
def ps_tp (R S : Nat → Int32) (p s : Nat) : Int := ps_T (ps_A R S p) s
def ps_bo (R S : Nat → Int32) (p : Nat) : Int := ps_D (ps_A R S p)
def ps_r (R : Nat → Int32) (k : Nat) : Int := (R k).toInt
def ps_g (S : Nat → Int32) (k t : Nat) : Int := (S (4 * k + t)).toInt
theorem ps_A_dom {R S : Nat → Int32} (h : ps_Ok R S) (p : Nat) : ps_dom (ps_A R S p) := by
  refine ⟨fun r c hr hc hrc => ?_, fun r hr => ?_⟩
  · unfold ps_A
    rw [if_neg (by omega), if_neg hrc]
    obtain ⟨_, h0, h1, h2, h3, _⟩ := h (ps_act p r) (ps_act_lt hr)
    rcases (show c = 0 ∨ c = 1 ∨ c = 2 ∨ c = 3 by omega) with rfl | rfl | rfl | rfl <;> omega
  · obtain ⟨_, h0, h1, h2, h3, he⟩ := h (ps_act p r) (ps_act_lt hr)
    have ec : ∀ t, t < 4 → ps_A R S p r t = (if r = t then 8 else 0) - (S (4 * ps_act p r + t)).toInt := fun t ht => by
      unfold ps_A
      rw [if_neg (by omega)]
    rw [ec 0 (by omega), ec 1 (by omega), ec 2 (by omega), ec 3 (by omega)]
    rcases (show r = 0 ∨ r = 1 ∨ r = 2 ∨ r = 3 by omega) with rfl | rfl | rfl | rfl
    · rw [if_pos rfl, if_neg (by decide), if_neg (by decide), if_neg (by decide)]
      omega
    · rw [if_neg (by decide), if_pos rfl, if_neg (by decide), if_neg (by decide)]
      omega
    · rw [if_neg (by decide), if_neg (by decide), if_pos rfl, if_neg (by decide)]
      omega
    · rw [if_neg (by decide), if_neg (by decide), if_neg (by decide), if_pos rfl]
      omega
theorem ps_A_b8 {R S : Nat → Int32} (h : ps_Ok R S) (p : Nat) {r c : Nat} (hr : r < 4) (hc : c < 4) : (ps_A R S p r c).natAbs ≤ 8 := by
  unfold ps_A
  rw [if_neg (by omega)]
  obtain ⟨_, h0, h1, h2, h3, he⟩ := h (ps_act p r) (ps_act_lt hr)
  rcases (show c = 0 ∨ c = 1 ∨ c = 2 ∨ c = 3 by omega) with rfl | rfl | rfl | rfl <;> split <;> omega
theorem ps_A_b {R S : Nat → Int32} (h : ps_Ok R S) (p : Nat) {r c : Nat} (hr : r < 4) (hc : c < 5) : (ps_A R S p r c).natAbs ≤ 160 := by
  rcases (show c = 4 ∨ c < 4 by omega) with rfl | hc
  · unfold ps_A
    rw [if_pos rfl]
    obtain ⟨⟨h0, h1⟩, _⟩ := h (ps_act p r) (ps_act_lt hr)
    omega
  · have := ps_A_b8 h p hr hc
    omega
theorem ps_cramer (a : Nat → Nat → Int) {s : Nat} (hs : s < 4) : a s 0 * ps_T a 0 + a s 1 * ps_T a 1 + a s 2 * ps_T a 2 + a s 3 * ps_T a 3 = ps_D a * a s 4 := by
  rcases (show s = 0 ∨ s = 1 ∨ s = 2 ∨ s = 3 by omega) with rfl | rfl | rfl | rfl
  · exact ps_cr0 a
  · exact ps_cr1 a
  · exact ps_cr2 a
  · exact ps_cr3 a
theorem ps_pi {R S : Nat → Int32} (h : ps_Ok R S) : pi_ok (ps_r R) (ps_g S) (ps_tp R S) (ps_bo R S) := by
  refine ⟨fun k hk => ?_, fun p => ps_p4 (ps_A_dom h p), fun p s hs => ?_⟩
  · obtain ⟨_, h0, h1, h2, h3, he⟩ := h k hk
    exact ⟨h0, h1, h2, h3, he⟩
  · have e := ps_cramer (ps_A R S p) hs
    have e4 : ps_A R S p s 4 = 8 * ps_r R (ps_act p s) := by simp [ps_A, ps_r]
    have ec : ∀ t, t < 4 → ps_A R S p s t = (if s = t then 8 else 0) - ps_g S (ps_act p s) t := fun t ht => by
      unfold ps_A ps_g
      rw [if_neg (by omega)]
    rw [e4, ec 0 (by omega), ec 1 (by omega), ec 2 (by omega), ec 3 (by omega)] at e
    show 8 * ps_T (ps_A R S p) s - pi_sum (ps_g S) (ps_act p s) (ps_T (ps_A R S p)) = 8 * ps_r R (ps_act p s) * ps_D (ps_A R S p)
    unfold pi_sum
    generalize ps_g S (ps_act p s) 0 = g0 at *
    generalize ps_g S (ps_act p s) 1 = g1 at *
    generalize ps_g S (ps_act p s) 2 = g2 at *
    generalize ps_g S (ps_act p s) 3 = g3 at *
    generalize ps_r R (ps_act p s) = rr at *
    generalize ps_D (ps_A R S p) = dd at *
    rcases (show s = 0 ∨ s = 1 ∨ s = 2 ∨ s = 3 by omega) with rfl | rfl | rfl | rfl
    · simp only [if_true, show ¬ (0 : Nat) = 1 by decide, show ¬ (0 : Nat) = 2 by decide, show ¬ (0 : Nat) = 3 by decide, if_false] at e
      grind
    · simp only [if_true, show ¬ (1 : Nat) = 0 by decide, show ¬ (1 : Nat) = 2 by decide, show ¬ (1 : Nat) = 3 by decide, if_false] at e
      grind
    · simp only [if_true, show ¬ (2 : Nat) = 0 by decide, show ¬ (2 : Nat) = 1 by decide, show ¬ (2 : Nat) = 3 by decide, if_false] at e
      grind
    · simp only [if_true, show ¬ (3 : Nat) = 0 by decide, show ¬ (3 : Nat) = 1 by decide, show ¬ (3 : Nat) = 2 by decide, if_false] at e
      grind
theorem ps_bo_b {R S : Nat → Int32} (h : ps_Ok R S) (p : Nat) : 0 < ps_bo R S p ∧ ps_bo R S p < 2 ^ 17 := by
  have h1 := ps_p4 (ps_A_dom h p)
  have h2 : (ps_det (ps_A R S p) 0 1 2 3).natAbs ≤ 24 * (8 * (8 * (8 * 8))) := ps_bdet (fun r hr q hq => ps_A_b8 h p hr (by omega))
  unfold ps_bo
  unfold ps_D at *
  omega
theorem ps_det_b {R S : Nat → Int32} (h : ps_Ok R S) (p : Nat) {c0 c1 c2 c3 : Nat} (h0 : c0 < 5) (h1 : c1 < 5) (h2 : c2 < 5) (h3 : c3 < 5) : (ps_det (ps_A R S p) c0 c1 c2 c3).natAbs < 2 ^ 34 := by
  have k : (ps_det (ps_A R S p) c0 c1 c2 c3).natAbs ≤ 24 * (160 * (160 * (160 * 160))) := ps_bdet (fun r hr q hq => ps_A_b h p hr (by omega))
  omega
theorem ps_m3_b {R S : Nat → Int32} (h : ps_Ok R S) (p : Nat) {i j k c d e : Nat} (hi : i < 4) (hj : j < 4) (hk : k < 4) (hc : c < 5) (hd : d < 5) (he : e < 5) : (ps_m3 (ps_A R S p) i j k c d e).natAbs < 2 ^ 25 := by
  have q : (ps_m3 (ps_A R S p) i j k c d e).natAbs ≤ 6 * (160 * (160 * 160)) := ps_bm3 (fun r hr q hq => ps_A_b h p hr (by omega)) hi hj hk
  omega
theorem ps_tp_b {R S : Nat → Int32} (h : ps_Ok R S) (p s : Nat) : (ps_tp R S p s).natAbs < 2 ^ 34 := by
  unfold ps_tp ps_T
  split <;> exact ps_det_b h p (by decide) (by decide) (by decide) (by decide)
theorem ps_b1_b {R S : Nat → Int32} (h : ps_Ok R S) (p : Nat) {r c : Nat} (hr : r < 4) (hc : c < 5) : (ps_b1 (ps_A R S p) r c).natAbs < 2 ^ 16 := by
  have k : (ps_b1 (ps_A R S p) r c).natAbs ≤ 160 * 160 + 160 * 160 := ps_bs (ps_bm (ps_A_b h p hr hc) (ps_A_b h p (by omega) (by omega))) (ps_bm (ps_A_b h p hr (by omega)) (ps_A_b h p (by omega) hc))
  omega
theorem ps_q2_b {R S : Nat → Int32} (h : ps_Ok R S) (p : Nat) {c d : Nat} (hc : c < 5) (hd : d < 5) : (ps_q2 (ps_A R S p) c d).natAbs < 2 ^ 16 := by
  have k : (ps_q2 (ps_A R S p) c d).natAbs ≤ 160 * 160 + 160 * 160 := ps_bs (ps_bm (ps_A_b h p (by omega) hc) (ps_A_b h p (by omega) hd)) (ps_bm (ps_A_b h p (by omega) hd) (ps_A_b h p (by omega) hc))
  omega
/-! Int and long -/
theorem ps_oi {x : Int} (h : x.natAbs < 2 ^ 63) : (Int64.ofInt x).toInt = x := Int64.toInt_ofInt_of_le (by omega) (by omega)
theorem ps_oi_eq {x y : Int} (hx : x.natAbs < 2 ^ 63) (hy : y.natAbs < 2 ^ 63) : Int64.ofInt x = Int64.ofInt y ↔ x = y := by
  constructor
  · intro h
    rw [← ps_oi hx, ← ps_oi hy, h]
  · intro h
    rw [h]
theorem ps_oi_lt {x y : Int} (hx : x.natAbs < 2 ^ 63) (hy : y.natAbs < 2 ^ 63) : Int64.ofInt x < Int64.ofInt y ↔ x < y := by
  rw [Int64.lt_iff_toInt_lt, ps_oi hx, ps_oi hy]
theorem ps_oi_le {x y : Int} (hx : x.natAbs < 2 ^ 63) (hy : y.natAbs < 2 ^ 63) : Int64.ofInt x ≤ Int64.ofInt y ↔ x ≤ y := by
  rw [Int64.le_iff_toInt_le, ps_oi hx, ps_oi hy]
theorem ps_i2l (x : Int32) : x.toInt64 = Int64.ofInt x.toInt := by
  apply Int64.toInt_inj.mp
  rw [Int32.toInt_toInt64, ps_oi]
  have h1 := Int32.toInt_lt x
  have h2 := Int32.le_toInt x
  omega
theorem ps_oiN {x : Int} (h : 0 ≤ x) : Int64.ofInt x = lN x.toNat := by
  unfold lN
  rw [← Int64.ofInt_eq_ofNat, Int.toNat_of_nonneg h]
theorem ps_div {x b z : Int} (h : x = b * z) (hb : b ≠ 0) (bb : b.natAbs < 2 ^ 26) (bz : z.natAbs < 2 ^ 35) : Int64.ofInt x / Int64.ofInt b = Int64.ofInt z := by
  subst h
  have k : (b * z).natAbs < 2 ^ 61 := by
    rw [Int.natAbs_mul]
    have h1 : b.natAbs * z.natAbs ≤ 2 ^ 26 * 2 ^ 35 := Nat.mul_le_mul (by omega) (by omega)
    rcases Nat.lt_or_ge (b.natAbs * z.natAbs) (2 ^ 61) with q | q
    · exact q
    · exfalso
      have h2 : b.natAbs * z.natAbs ≤ (2 ^ 26 - 1) * 2 ^ 35 := Nat.mul_le_mul (by omega) (by omega)
      omega
  rw [← Int64.ofInt_tdiv (by rw [show Int64.minValue.toInt = -9223372036854775808 from rfl]; omega) (by rw [show Int64.maxValue.toInt = 9223372036854775807 from rfl]; omega) (by rw [show Int64.minValue.toInt = -9223372036854775808 from rfl]; omega) (by rw [show Int64.maxValue.toInt = 9223372036854775807 from rfl]; omega), Int.mul_tdiv_cancel_left _ hb]
/-! fillRows -/
def px_ft (S : Nat → Int32) (i k : Nat) : Nat → Nat → (Nat → Int64) → Nat → Int64
  | 0, _, f => f
  | n + 1, t, f => px_ft S i k n (t + 1) (vp_updL f (5 * i + t) ((if i = t then 8 else 0) - (S (4 * k + t)).toInt64))
def px_fs (R S : Nat → Int32) (p : Nat) : Nat → Nat → (Nat → Int64) → Nat → Int64
  | 0, _, f => f
  | n + 1, i, f => px_fs R S p n (i + 1) (vp_updL (px_ft S i (2 * i + p / 2 ^ i % 2) 4 0 f) (5 * i + 4) (8 * (R (2 * i + p / 2 ^ i % 2)).toInt64))
theorem px_f1_same (R S : Nat → Int32) (p i t : Nat) (ht : t < 5) (hi : i < 4) (f : Nat → Int64) : vp_updL (px_ft S i (2 * i + p / 2 ^ i % 2) 4 0 f) (5 * i + 4) (8 * (R (2 * i + p / 2 ^ i % 2)).toInt64) (5 * i + t) = Int64.ofInt (ps_A R S p i t) := by
  simp only [px_ft, vp_updL, ps_A, ps_act, ps_i2l]
  rcases (show t = 0 ∨ t = 1 ∨ t = 2 ∨ t = 3 ∨ t = 4 by omega) with rfl | rfl | rfl | rfl | rfl
  · rw [if_neg (by omega), if_neg (by omega), if_neg (by omega), if_neg (by omega), if_pos rfl, if_neg (show ¬ (0 : Nat) = 4 by decide), Int64.ofInt_sub]
    split <;> rfl
  all_goals simp only [Nat.add_left_cancel_iff, reduceIte, Nat.reduceEqDiff, Nat.reduceAdd, Int64.ofInt_sub, Int64.ofInt_mul]
  all_goals first | (split <;> rfl) | rfl
theorem px_f1_other (S : Nat → Int32) (p i i' t : Nat) (ht : t < 5) (hi : i' ≠ i) (f : Nat → Int64) (v : Int64) : vp_updL (px_ft S i (2 * i + p / 2 ^ i % 2) 4 0 f) (5 * i + 4) v (5 * i' + t) = f (5 * i' + t) := by
  simp only [px_ft, vp_updL]
  rw [if_neg (by omega), if_neg (by omega), if_neg (by omega), if_neg (by omega), if_neg (by omega)]
theorem px_fill (R S : Nat → Int32) (p : Nat) (f : Nat → Int64) {i t : Nat} (hi : i < 4) (ht : t < 5) : px_fs R S p 4 0 f (5 * i + t) = Int64.ofInt (ps_A R S p i t) := by
  simp only [px_fs, Nat.reduceAdd]
  rcases (show i = 0 ∨ i = 1 ∨ i = 2 ∨ i = 3 by omega) with rfl | rfl | rfl | rfl
  · rw [px_f1_other _ _ 3 _ _ ht (by decide), px_f1_other _ _ 2 _ _ ht (by decide), px_f1_other _ _ 1 _ _ ht (by decide), px_f1_same _ _ _ _ _ ht hi]
  · rw [px_f1_other _ _ 3 _ _ ht (by decide), px_f1_other _ _ 2 _ _ ht (by decide), px_f1_same _ _ _ _ _ ht hi]
  · rw [px_f1_other _ _ 3 _ _ ht (by decide), px_f1_same _ _ _ _ _ ht hi]
  · rw [px_f1_same _ _ _ _ _ ht hi]
/-! reduce -/
def px_rd (pv fa b : Int64) (r k : Nat) : Nat → Nat → (Nat → Int64) → Nat → Int64
  | 0, _, f => f
  | n + 1, j, f => px_rd pv fa b r k n (j + 1) (vp_updL f (5 * r + j) ((f (5 * r + j) * pv - fa * f (5 * k + j)) / b))
def px_red (b : Int64) (r k : Nat) (f : Nat → Int64) : Nat → Int64 := px_rd (f (5 * k + k)) (f (5 * r + k)) b r k 5 0 f
theorem px_red_other {b : Int64} {r k r' j : Nat} (hr : r' ≠ r) (hj : j < 5) (f : Nat → Int64) : px_red b r k f (5 * r' + j) = f (5 * r' + j) := by
  simp only [px_red, px_rd, vp_updL]
  rw [if_neg (by omega), if_neg (by omega), if_neg (by omega), if_neg (by omega), if_neg (by omega)]
theorem px_red_same {b : Int64} {r k j : Nat} (hr : r ≠ k) (hj : j < 5) (f : Nat → Int64) : px_red b r k f (5 * r + j) = (f (5 * r + j) * f (5 * k + k) - f (5 * r + k) * f (5 * k + j)) / b := by
  have e0 : ∀ t j', t < 5 → j' < 5 → (5 * k + t = 5 * r + j') = False := fun t j' h1 h2 => by
    apply eq_false
    omega
  simp only [px_red, px_rd, vp_updL, Nat.reduceAdd]
  rcases (show j = 0 ∨ j = 1 ∨ j = 2 ∨ j = 3 ∨ j = 4 by omega) with rfl | rfl | rfl | rfl | rfl
  all_goals simp [Nat.add_left_cancel_iff, e0 0 _ (by decide), e0 1 _ (by decide), e0 2 _ (by decide), e0 3 _ (by decide), e0 4 _ (by decide)]
  all_goals first | rfl | (repeat rw [if_neg (by omega)])
def px_er (b : Int64) (k : Nat) : Nat → Nat → (Nat → Int64) → Nat → Int64
  | 0, _, f => f
  | n + 1, r, f => px_er b k n (r + 1) (if r = k then f else px_red b r k f)
def px_ek : Nat → Nat → Int64 × (Nat → Int64) → Int64 × (Nat → Int64)
  | 0, _, u => u
  | n + 1, k, u => px_ek n (k + 1) (px_er u.1 k 4 0 u.2 (5 * k + k), px_er u.1 k 4 0 u.2)
/-- no pivot is 0 -/
def px_ne : Nat → Nat → Int64 × (Nat → Int64) → Prop
  | 0, _, _ => True
  | n + 1, k, u => u.1 ≠ 0 ∧ px_ne n (k + 1) (px_er u.1 k 4 0 u.2 (5 * k + k), px_er u.1 k 4 0 u.2)
theorem px_st_same {b : Int64} {r k j : Nat} (hr : r ≠ k) (hj : j < 5) (f : Nat → Int64) : (if r = k then f else px_red b r k f) (5 * r + j) = (f (5 * r + j) * f (5 * k + k) - f (5 * r + k) * f (5 * k + j)) / b := by
  rw [if_neg hr, px_red_same hr hj]
theorem px_st_other {b : Int64} {r k r' j : Nat} (hr : r' ≠ r) (hj : j < 5) (f : Nat → Int64) : (if r = k then f else px_red b r k f) (5 * r' + j) = f (5 * r' + j) := by
  split
  · rfl
  · exact px_red_other hr hj f
theorem px_st_k {b : Int64} {k j : Nat} (f : Nat → Int64) : (if k = k then f else px_red b k k f) (5 * k + j) = f (5 * k + j) := by
  rw [if_pos rfl]
theorem px_er_k {b : Int64} {k j : Nat} (hk : k < 4) (hj : j < 5) (f : Nat → Int64) : px_er b k 4 0 f (5 * k + j) = f (5 * k + j) := by
  simp only [px_er, Nat.reduceAdd]
  rcases (show k = 0 ∨ k = 1 ∨ k = 2 ∨ k = 3 by omega) with rfl | rfl | rfl | rfl
  · rw [px_st_other (r := 3) (by decide) hj, px_st_other (r := 2) (by decide) hj, px_st_other (r := 1) (by decide) hj, px_st_k]
  · rw [px_st_other (r := 3) (by decide) hj, px_st_other (r := 2) (by decide) hj, px_st_k, px_st_other (r := 0) (by decide) hj]
  · rw [px_st_other (r := 3) (by decide) hj, px_st_k, px_st_other (r := 1) (by decide) hj, px_st_other (r := 0) (by decide) hj]
  · rw [px_st_k, px_st_other (r := 2) (by decide) hj, px_st_other (r := 1) (by decide) hj, px_st_other (r := 0) (by decide) hj]
theorem px_er_r {b : Int64} {k r j : Nat} (hk : k < 4) (hr : r < 4) (hrk : r ≠ k) (hj : j < 5) (f : Nat → Int64) : px_er b k 4 0 f (5 * r + j) = (f (5 * r + j) * f (5 * k + k) - f (5 * r + k) * f (5 * k + j)) / b := by
  have kk : ∀ g : Nat → Int64, (∀ i, i < 5 → g (5 * k + i) = f (5 * k + i)) → (∀ i, i < 5 → g (5 * r + i) = f (5 * r + i)) → (if r = k then g else px_red b r k g) (5 * r + j) = (f (5 * r + j) * f (5 * k + k) - f (5 * r + k) * f (5 * k + j)) / b := by
    intro g h1 h2
    rw [px_st_same hrk hj, h1 k (by omega), h1 j hj, h2 j hj, h2 k (by omega)]
  have ok : ∀ (r' : Nat) (g : Nat → Int64), (∀ i, i < 5 → g (5 * k + i) = f (5 * k + i)) → (∀ i, i < 5 → (if r' = k then g else px_red b r' k g) (5 * k + i) = f (5 * k + i)) := by
    intro r' g h1 i hi
    by_cases e : r' = k
    · rw [if_pos e, h1 i hi]
    · rw [px_st_other (Ne.symm e) hi, h1 i hi]
  have orr : ∀ (r' : Nat) (g : Nat → Int64), r ≠ r' → (∀ i, i < 5 → g (5 * r + i) = f (5 * r + i)) → (∀ i, i < 5 → (if r' = k then g else px_red b r' k g) (5 * r + i) = f (5 * r + i)) := by
    intro r' g hne h1 i hi
    rw [px_st_other hne hi, h1 i hi]
  have k0 : ∀ i, i < 5 → f (5 * k + i) = f (5 * k + i) := fun _ _ => rfl
  have r0 : ∀ i, i < 5 → f (5 * r + i) = f (5 * r + i) := fun _ _ => rfl
  simp only [px_er, Nat.reduceAdd]
  rcases (show r = 0 ∨ r = 1 ∨ r = 2 ∨ r = 3 by omega) with rfl | rfl | rfl | rfl
  · rw [px_st_other (r := 3) (by decide) hj, px_st_other (r := 2) (by decide) hj, px_st_other (r := 1) (by decide) hj]
    exact kk _ k0 r0
  · rw [px_st_other (r := 3) (by decide) hj, px_st_other (r := 2) (by decide) hj]
    exact kk _ (ok _ _ k0) (orr _ _ (by decide) r0)
  · rw [px_st_other (r := 3) (by decide) hj]
    exact kk _ (ok _ _ (ok _ _ k0)) (orr _ _ (by decide) (orr _ _ (by decide) r0))
  · exact kk _ (ok _ _ (ok _ _ (ok _ _ k0))) (orr _ _ (by decide) (orr _ _ (by decide) (orr _ _ (by decide) r0)))
end
section
/-! PURE: evaluate's elimination gives Cramer's numbers; determinants of the reference -/
theorem ps_el {x y u v b z : Int} (h : x * y - u * v = b * z) (hb : 0 < b) (bb : b.natAbs < 2 ^ 26) (bz : z.natAbs < 2 ^ 35) : (Int64.ofInt x * Int64.ofInt y - Int64.ofInt u * Int64.ofInt v) / Int64.ofInt b = Int64.ofInt z := by
  rw [← Int64.ofInt_mul, ← Int64.ofInt_mul, ← Int64.ofInt_sub]
  exact ps_div h (by omega) bb bz
theorem ps_ne {b : Int} (hb : 0 < b) (bb : b.natAbs < 2 ^ 26) : Int64.ofInt b ≠ 0 := by
  intro h
  have := (ps_oi_eq (x := b) (y := 0) (by omega) (by decide)).mp h
  omega
theorem px_eval {R S : Nat → Int32} (h : ps_Ok R S) (p : Nat) (f : Nat → Int64) (hf : ∀ r j, r < 4 → j < 5 → f (5 * r + j) = Int64.ofInt (ps_A R S p r j)) :
    px_ne 4 0 (1, f) ∧ (px_ek 4 0 (1, f)).1 = Int64.ofInt (ps_bo R S p) ∧ ∀ s, s < 4 → (px_ek 4 0 (1, f)).2 (5 * s + 4) = Int64.ofInt (ps_tp R S p s) := by
  have hd := ps_A_dom h p
  have q1 := ps_p1 hd
  have q2 := ps_p2 hd
  have q3 := ps_p3 hd
  have q4 := ps_p4 hd
  have c1 := ps_A_b h p (r := 0) (c := 0) (by omega) (by omega)
  have c2 := ps_b1_b h p (r := 1) (c := 1) (by omega) (by omega)
  have c3 : (ps_b2 (ps_A R S p) 2 2).natAbs < 2 ^ 25 := ps_m3_b h p (by omega) (by omega) (by omega) (by omega) (by omega) (by omega)
  -- stage 1
  obtain ⟨f1, hf1⟩ : ∃ z, z = px_er 1 0 4 0 f := ⟨_, rfl⟩
  have s10 : ∀ j, j < 5 → f1 (5 * 0 + j) = Int64.ofInt (ps_A R S p 0 j) := fun j hj => by
    rw [hf1, px_er_k (by omega) hj, hf 0 j (by omega) hj]
  have s1r : ∀ r j, r < 4 → r ≠ 0 → j < 5 → f1 (5 * r + j) = Int64.ofInt (ps_b1 (ps_A R S p) r j) := fun r j hr hr0 hj => by
    rw [hf1, px_er_r (by omega) hr hr0 hj, hf r j hr hj, hf 0 0 (by omega) (by omega), hf r 0 hr (by omega), hf 0 j (by omega) hj, show (1 : Int64) = Int64.ofInt 1 from rfl]
    refine ps_el ?_ (by omega) (by decide) (Nat.lt_trans (ps_b1_b h p hr hj) (by decide))
    unfold ps_b1
    omega
  -- stage 2
  obtain ⟨f2, hf2⟩ : ∃ z, z = px_er (Int64.ofInt (ps_A R S p 0 0)) 1 4 0 f1 := ⟨_, rfl⟩
  have s21 : ∀ j, j < 5 → f2 (5 * 1 + j) = Int64.ofInt (ps_b1 (ps_A R S p) 1 j) := fun j hj => by
    rw [hf2, px_er_k (by omega) hj, s1r 1 j (by omega) (by omega) hj]
  have s20 : ∀ j, j < 5 → f2 (5 * 0 + j) = Int64.ofInt (ps_q2 (ps_A R S p) j 1) := fun j hj => by
    rw [hf2, px_er_r (by omega) (by omega) (by omega) hj, s10 j hj, s1r 1 1 (by omega) (by omega) (by omega), s10 1 (by omega), s1r 1 j (by omega) (by omega) hj]
    exact ps_el (ps_i20 _ j) (by omega) (by omega) (Nat.lt_trans (ps_q2_b h p hj (by omega)) (by decide))
  have s2r : ∀ r j, r < 4 → 2 ≤ r → j < 5 → f2 (5 * r + j) = Int64.ofInt (ps_b2 (ps_A R S p) r j) := fun r j hr hr0 hj => by
    rw [hf2, px_er_r (by omega) hr (by omega) hj, s1r r j hr (by omega) hj, s1r 1 1 (by omega) (by omega) (by omega), s1r r 1 hr (by omega) (by omega), s1r 1 j (by omega) (by omega) hj]
    exact ps_el (ps_i2 _ r j) (by omega) (by omega) (Nat.lt_trans (ps_m3_b h p (by omega) (by omega) hr (by omega) (by omega) hj) (by decide))
  -- stage 3
  obtain ⟨f3, hf3⟩ : ∃ z, z = px_er (Int64.ofInt (ps_b1 (ps_A R S p) 1 1)) 2 4 0 f2 := ⟨_, rfl⟩
  have s32 : ∀ j, j < 5 → f3 (5 * 2 + j) = Int64.ofInt (ps_b2 (ps_A R S p) 2 j) := fun j hj => by
    rw [hf3, px_er_k (by omega) hj, s2r 2 j (by omega) (by omega) hj]
  have s30 : ∀ j, j < 5 → f3 (5 * 0 + j) = Int64.ofInt (ps_m3 (ps_A R S p) 0 1 2 j 1 2) := fun j hj => by
    rw [hf3, px_er_r (by omega) (by omega) (by omega) hj, s20 j hj, s2r 2 2 (by omega) (by omega) (by omega), s20 2 (by omega), s2r 2 j (by omega) (by omega) hj]
    exact ps_el (ps_i30 _ j) q2 (by omega) (Nat.lt_trans (ps_m3_b h p (by omega) (by omega) (by omega) hj (by omega) (by omega)) (by decide))
  have s31 : ∀ j, j < 5 → f3 (5 * 1 + j) = Int64.ofInt (ps_m3 (ps_A R S p) 0 1 2 0 j 2) := fun j hj => by
    rw [hf3, px_er_r (by omega) (by omega) (by omega) hj, s21 j hj, s2r 2 2 (by omega) (by omega) (by omega), s21 2 (by omega), s2r 2 j (by omega) (by omega) hj]
    exact ps_el (ps_i31 _ j) q2 (by omega) (Nat.lt_trans (ps_m3_b h p (by omega) (by omega) (by omega) (by omega) hj (by omega)) (by decide))
  have s33 : ∀ j, j < 5 → f3 (5 * 3 + j) = Int64.ofInt (ps_det (ps_A R S p) 0 1 2 j) := fun j hj => by
    rw [hf3, px_er_r (by omega) (by omega) (by omega) hj, s2r 3 j (by omega) (by omega) hj, s2r 2 2 (by omega) (by omega) (by omega), s2r 3 2 (by omega) (by omega) (by omega), s2r 2 j (by omega) (by omega) hj]
    exact ps_el (ps_i3 _ j) q2 (by omega) (Nat.lt_trans (ps_det_b h p (by omega) (by omega) (by omega) hj) (by decide))
  -- stage 4
  obtain ⟨f4, hf4⟩ : ∃ z, z = px_er (Int64.ofInt (ps_b2 (ps_A R S p) 2 2)) 3 4 0 f3 := ⟨_, rfl⟩
  have s43 : ∀ j, j < 5 → f4 (5 * 3 + j) = Int64.ofInt (ps_det (ps_A R S p) 0 1 2 j) := fun j hj => by
    rw [hf4, px_er_k (by omega) hj, s33 j hj]
  have tb := fun s => Nat.lt_trans (ps_tp_b h p s) (show 2 ^ 34 < 2 ^ 35 by decide)
  have s40 : f4 (5 * 0 + 4) = Int64.ofInt (ps_T (ps_A R S p) 0) := by
    rw [hf4, px_er_r (by omega) (by omega) (by omega) (by omega), s30 4 (by omega), s33 3 (by omega), s30 3 (by omega), s33 4 (by omega)]
    exact ps_el (ps_i40 _) q3 (by omega) (tb 0)
  have s41 : f4 (5 * 1 + 4) = Int64.ofInt (ps_T (ps_A R S p) 1) := by
    rw [hf4, px_er_r (by omega) (by omega) (by omega) (by omega), s31 4 (by omega), s33 3 (by omega), s31 3 (by omega), s33 4 (by omega)]
    exact ps_el (ps_i41 _) q3 (by omega) (tb 1)
  have s42 : f4 (5 * 2 + 4) = Int64.ofInt (ps_T (ps_A R S p) 2) := by
    rw [hf4, px_er_r (by omega) (by omega) (by omega) (by omega), s32 4 (by omega), s33 3 (by omega), s32 3 (by omega), s33 4 (by omega)]
    exact ps_el (ps_i42 _) q3 (by omega) (tb 2)
  -- together
  have e1 : px_er 1 0 4 0 f (5 * 0 + 0) = Int64.ofInt (ps_A R S p 0 0) := by rw [← hf1, s10 0 (by omega)]
  have e2 : f2 (5 * 1 + 1) = Int64.ofInt (ps_b1 (ps_A R S p) 1 1) := s21 1 (by omega)
  have e3 : f3 (5 * 2 + 2) = Int64.ofInt (ps_b2 (ps_A R S p) 2 2) := s32 2 (by omega)
  refine ⟨?_, ?_, ?_⟩
  · simp only [px_ne, Nat.reduceAdd]
    rw [e1, ← hf1, ← hf2, e2, ← hf3, e3]
    exact ⟨by decide, ps_ne (by omega) (by omega), ps_ne q2 (by omega), ps_ne q3 (by omega), trivial⟩
  · simp only [px_ek, Nat.reduceAdd]
    rw [e1, ← hf1, ← hf2, e2, ← hf3, e3, ← hf4, s43 3 (by omega)]
    rfl
  · intro s hs
    simp only [px_ek, Nat.reduceAdd]
    rw [e1, ← hf1, ← hf2, e2, ← hf3, e3, ← hf4]
    rcases (show s = 0 ∨ s = 1 ∨ s = 2 ∨ s = 3 by omega) with rfl | rfl | rfl | rfl
    · exact s40
    · exact s41
    · exact s42
    · exact s43 4 (by omega)
/-! the reference's determinant -/
def pm_at (f : Nat → Int64) (s t w : Nat) : Int64 := f (5 * s + if t = w then 4 else t)
def pm_a (k : Nat) : Nat := if k = 0 then 1 else 0
def pm_b (k : Nat) : Nat := if k ≤ 1 then 2 else 1
def pm_c (k : Nat) : Nat := if k ≤ 2 then 3 else 2
def pm_minor (f : Nat → Int64) (k w : Nat) : Int64 := pm_at f 1 (pm_a k) w * (pm_at f 2 (pm_b k) w * pm_at f 3 (pm_c k) w - pm_at f 2 (pm_c k) w * pm_at f 3 (pm_b k) w) - pm_at f 1 (pm_b k) w * (pm_at f 2 (pm_a k) w * pm_at f 3 (pm_c k) w - pm_at f 2 (pm_c k) w * pm_at f 3 (pm_a k) w) + pm_at f 1 (pm_c k) w * (pm_at f 2 (pm_a k) w * pm_at f 3 (pm_b k) w - pm_at f 2 (pm_b k) w * pm_at f 3 (pm_a k) w)
def pm_dl (f : Nat → Int64) (w : Nat) : Nat → Nat → Int64 → Int64
  | 0, _, x => x
  | n + 1, t, x => pm_dl f w n (t + 1) (x + (if t % 2 = 0 then pm_at f 0 t w * pm_minor f t w else -(pm_at f 0 t w * pm_minor f t w)))
def pm_det (f : Nat → Int64) (w : Nat) : Int64 := pm_dl f w 4 0 0
theorem pm_det_ok {a : Nat → Nat → Int} {f : Nat → Int64} (hf : ∀ r j, r < 4 → j < 5 → f (5 * r + j) = Int64.ofInt (a r j)) {w : Nat} (hw : w < 5) : pm_det f w = Int64.ofInt (if w = 4 then ps_D a else ps_T a w) := by
  have g : ∀ r j, r < 4 → j < 5 → pm_at f r j w = Int64.ofInt (a r (if j = w then 4 else j)) := fun r j hr hj => by
    unfold pm_at
    split
    · exact hf r 4 hr (by omega)
    · exact hf r j hr hj
  have e : pm_det f w = Int64.ofInt (ps_det a (if 0 = w then 4 else 0) (if 1 = w then 4 else 1) (if 2 = w then 4 else 2) (if 3 = w then 4 else 3)) := by
    simp only [pm_det, pm_dl, Nat.reduceAdd, Nat.reduceMod, if_true, show ¬ (1 : Nat) = 0 by decide, if_false, pm_minor, pm_a, pm_b, pm_c, show ¬ (2 : Nat) = 0 by decide, show ¬ (3 : Nat) = 0 by decide, show (0 : Nat) ≤ 1 by decide, show (1 : Nat) ≤ 1 by decide, show ¬ (2 : Nat) ≤ 1 by decide, show ¬ (3 : Nat) ≤ 1 by decide, show (0 : Nat) ≤ 2 by decide, show (1 : Nat) ≤ 2 by decide, show (2 : Nat) ≤ 2 by decide, show ¬ (3 : Nat) ≤ 2 by decide]
    rw [g 0 0 (by decide) (by decide), g 0 1 (by decide) (by decide), g 0 2 (by decide) (by decide), g 0 3 (by decide) (by decide), g 1 0 (by decide) (by decide), g 1 1 (by decide) (by decide), g 1 2 (by decide) (by decide), g 1 3 (by decide) (by decide), g 2 0 (by decide) (by decide), g 2 1 (by decide) (by decide), g 2 2 (by decide) (by decide), g 2 3 (by decide) (by decide), g 3 0 (by decide) (by decide), g 3 1 (by decide) (by decide), g 3 2 (by decide) (by decide), g 3 3 (by decide) (by decide)]
    simp only [ps_det, ps_m3, Int64.ofInt_sub, Int64.ofInt_add, Int64.ofInt_mul]
    grind
  rw [e]
  rcases (show w = 0 ∨ w = 1 ∨ w = 2 ∨ w = 3 ∨ w = 4 by omega) with rfl | rfl | rfl | rfl | rfl <;> rfl
end
section
/-! PURE: the component's loops as functions; improve: what a round finds -/
def px_tc (f : Nat → Int64) : Nat → Nat → (Nat → Int64) → Nat → Int64
  | 0, _, t => t
  | n + 1, j, t => px_tc f n (j + 1) (vp_updL t j (f (5 * j + 4)))
theorem px_tc_at (f t : Nat → Int64) {s : Nat} (hs : s < 4) : px_tc f 4 0 t s = f (5 * s + 4) := by
  rcases (show s = 0 ∨ s = 1 ∨ s = 2 ∨ s = 3 by omega) with rfl | rfl | rfl | rfl <;> rfl
def px_kv (f : Nat → Int64) : Nat → Nat → (Nat → Int64) → Nat → Int64
  | 0, _, t => t
  | n + 1, j, t => px_kv f n (j + 1) (vp_updL t j (f j))
theorem px_kv_at (f t : Nat → Int64) {s : Nat} (hs : s < 4) : px_kv f 4 0 t s = f s := by
  rcases (show s = 0 ∨ s = 1 ∨ s = 2 ∨ s = 3 by omega) with rfl | rfl | rfl | rfl <;> rfl
def px_gl (S : Nat → Int32) (bt : Nat → Int64) (k : Nat) : Nat → Nat → Int64 → Int64
  | 0, _, x => x
  | n + 1, j, x => px_gl S bt k n (j + 1) (x + (S (4 * k + j)).toInt64 * bt j)
def px_gain (R S : Nat → Int32) (bt : Nat → Int64) (bd : Int64) (k : Nat) : Int64 := px_gl S bt k 4 0 (8 * (R k).toInt64 * bd)
theorem px_gain_ok {R S : Nat → Int32} {bt : Nat → Int64} {bd : Int64} {w : Nat → Int} {dd : Int} (hb : ∀ s, s < 4 → bt s = Int64.ofInt (w s)) (hd : bd = Int64.ofInt dd) (k : Nat) : px_gain R S bt bd k = Int64.ofInt (pi_gain (ps_r R) (ps_g S) w dd k) := by
  simp only [px_gain, px_gl, Nat.reduceAdd, hb 0 (by decide), hb 1 (by decide), hb 2 (by decide), hb 3 (by decide), hd, ps_i2l, pi_gain, pi_sum, ps_r, ps_g, Int64.ofInt_add, Int64.ofInt_mul, show Int64.ofInt 8 = 8 from rfl]
  grind
theorem ps_gain_b {R S : Nat → Int32} (h : ps_Ok R S) (p : Nat) {k : Nat} (hk : k < 8) : (pi_gain (ps_r R) (ps_g S) (ps_tp R S p) (ps_bo R S p) k).natAbs < 2 ^ 45 := by
  obtain ⟨⟨r1, r2⟩, h0, h1, h2, h3, he⟩ := h k hk
  have b := ps_bo_b h p
  have t0 := ps_tp_b h p 0
  have t1 := ps_tp_b h p 1
  have t2 := ps_tp_b h p 2
  have t3 := ps_tp_b h p 3
  have q : (pi_gain (ps_r R) (ps_g S) (ps_tp R S p) (ps_bo R S p) k).natAbs ≤ 8 * 20 * 2 ^ 17 + (4 * 2 ^ 34 + 4 * 2 ^ 34 + 4 * 2 ^ 34 + 4 * 2 ^ 34) := by
    unfold pi_gain pi_sum
    refine ps_ba (ps_bm (ps_bm (by decide) ?_) (by omega)) (ps_ba (ps_ba (ps_ba (ps_bm ?_ (by omega)) (ps_bm ?_ (by omega))) (ps_bm ?_ (by omega))) (ps_bm ?_ (by omega)))
    · unfold ps_r; omega
    · unfold ps_g; omega
    · unfold ps_g; omega
    · unfold ps_g; omega
    · unfold ps_g; omega
  omega
/-- improve, one action of one state: policy, good actions, better -/
def px_i1 (G V : Int64) (i j : Nat) (u : Int32 × (Nat → Int32) × Nat) : Int32 × (Nat → Int32) × Nat :=
  (if V < G then ((u.1 &&& ((nI 1 <<< (nI i &&& 31)) ^^^ (-1))) ||| (nI j <<< (nI i &&& 31))) else u.1,
   if G = V then upd u.2.1 i (vp_nar .byte ((u.2.1 i ||| (nI 1 <<< (nI j &&& 31))).toInt8.toInt32)) else u.2.1,
   if V < G then 1 else u.2.2)
def px_ia (G : Nat → Int64) (V : Nat → Int64) (i : Nat) : Nat → Nat → Int32 × (Nat → Int32) × Nat → Int32 × (Nat → Int32) × Nat
  | 0, _, u => u
  | n + 1, j, u => px_ia G V i n (j + 1) (px_i1 (G (2 * i + j)) (V i) i j u)
def px_is (G : Nat → Int64) (V : Nat → Int64) : Nat → Nat → Int32 × (Nat → Int32) × Nat → Int32 × (Nat → Int32) × Nat
  | 0, _, u => u
  | n + 1, i, u => px_is G V n (i + 1) (px_ia G V i 2 0 (u.1, upd u.2.1 i (vp_nar .byte (nI 0)), u.2.2))
def ps_setb (x i j : Nat) : Nat := x - (x / 2 ^ i % 2) * 2 ^ i + j * 2 ^ i
theorem ps_setb8 : ∀ (x : Fin 16) (i : Fin 4) (j : Fin 2), (nI x.val &&& ((nI 1 <<< (nI i.val &&& 31)) ^^^ (-1))) ||| (nI j.val <<< (nI i.val &&& 31)) = nI (ps_setb x.val i.val j.val) ∧ ps_setb x.val i.val j.val < 16 ∧ ∀ t : Fin 4, ps_setb x.val i.val j.val / 2 ^ t.val % 2 = if t.val = i.val then j.val else x.val / 2 ^ t.val % 2 := by decide +kernel
theorem ps_setb_ok {x i j : Nat} (hx : x < 16) (hi : i < 4) (hj : j < 2) : (nI x &&& ((nI 1 <<< (nI i &&& 31)) ^^^ (-1))) ||| (nI j <<< (nI i &&& 31)) = nI (ps_setb x i j) ∧ ps_setb x i j < 16 ∧ ∀ t, t < 4 → ps_setb x i j / 2 ^ t % 2 = if t = i then j else x / 2 ^ t % 2 := by
  have h := ps_setb8 ⟨x, hx⟩ ⟨i, hi⟩ ⟨j, hj⟩
  exact ⟨h.1, h.2.1, fun t ht => h.2.2 ⟨t, ht⟩⟩
theorem ps_or0 : vp_nar .byte ((vp_nar .byte (nI 0) ||| (nI 1 <<< (nI 0 &&& 31))).toInt8.toInt32) = nI 1 := by decide +kernel
theorem ps_or1 : vp_nar .byte ((vp_nar .byte (nI 0) ||| (nI 1 <<< (nI 1 &&& 31))).toInt8.toInt32) = nI 2 := by decide +kernel
theorem ps_or2 : vp_nar .byte ((nI 1 ||| (nI 1 <<< (nI 1 &&& 31))).toInt8.toInt32) = nI 3 := by decide +kernel
theorem ps_nar0 : vp_nar .byte (nI 0) = nI 0 := by decide +kernel
/-- what one state's loop does: gn the gains, v the value, in Int -/
theorem px_ia_ok {G V : Nat → Int64} {i x b : Nat} {g : Nat → Int32} {g0 g1 v : Int} (hi : i < 4) (hx : x < 16)
    (e0 : G (2 * i + 0) = Int64.ofInt g0) (e1 : G (2 * i + 1) = Int64.ofInt g1) (ev : V i = Int64.ofInt v) (b0 : g0.natAbs < 2 ^ 63) (b1 : g1.natAbs < 2 ^ 63) (bv : v.natAbs < 2 ^ 63) :
    ∃ x', x' < 16 ∧ (px_ia G V i 2 0 (nI x, upd g i (vp_nar .byte (nI 0)), b)).1 = nI x' ∧ (∀ t, t < 4 → t ≠ i → x' / 2 ^ t % 2 = x / 2 ^ t % 2) ∧
      ((v < g0 ∨ v < g1) → v < (if x' / 2 ^ i % 2 = 0 then g0 else g1)) ∧ (¬ (v < g0 ∨ v < g1) → x' / 2 ^ i % 2 = x / 2 ^ i % 2) ∧
      (∀ t, t ≠ i → (px_ia G V i 2 0 (nI x, upd g i (vp_nar .byte (nI 0)), b)).2.1 t = g t) ∧
      (px_ia G V i 2 0 (nI x, upd g i (vp_nar .byte (nI 0)), b)).2.1 i = nI ((if g0 = v then 1 else 0) + (if g1 = v then 2 else 0)) ∧
      (px_ia G V i 2 0 (nI x, upd g i (vp_nar .byte (nI 0)), b)).2.2 = if v < g0 ∨ v < g1 then 1 else b := by
  have l0 : (V i < G (2 * i + 0)) = (v < g0) := by rw [e0, ev]; exact propext (ps_oi_lt bv b0)
  have l1 : (V i < G (2 * i + 1)) = (v < g1) := by rw [e1, ev]; exact propext (ps_oi_lt bv b1)
  have q0 : (G (2 * i + 0) = V i) = (g0 = v) := by rw [e0, ev]; exact propext (ps_oi_eq b0 bv)
  have q1 : (G (2 * i + 1) = V i) = (g1 = v) := by rw [e1, ev]; exact propext (ps_oi_eq b1 bv)
  simp only [px_ia, px_i1, Nat.reduceAdd, l0, l1, q0, q1]
  obtain ⟨s1, s2, s3⟩ := ps_setb_ok (j := 0) hx hi (by decide)
  obtain ⟨t1, t2, t3⟩ := ps_setb_ok (j := 1) hx hi (by decide)
  obtain ⟨u1, u2, u3⟩ := ps_setb_ok (j := 1) s2 hi (by decide)
  have gd : ∀ c0 c1 : Prop, [Decidable c0] → [Decidable c1] → ((if c1 then upd (if c0 then upd (upd g i (vp_nar .byte (nI 0))) i (vp_nar .byte (((upd g i (vp_nar .byte (nI 0))) i ||| (nI 1 <<< (nI 0 &&& 31))).toInt8.toInt32)) else upd g i (vp_nar .byte (nI 0))) i (vp_nar .byte (((if c0 then upd (upd g i (vp_nar .byte (nI 0))) i (vp_nar .byte (((upd g i (vp_nar .byte (nI 0))) i ||| (nI 1 <<< (nI 0 &&& 31))).toInt8.toInt32)) else upd g i (vp_nar .byte (nI 0))) i ||| (nI 1 <<< (nI 1 &&& 31))).toInt8.toInt32)) else (if c0 then upd (upd g i (vp_nar .byte (nI 0))) i (vp_nar .byte (((upd g i (vp_nar .byte (nI 0))) i ||| (nI 1 <<< (nI 0 &&& 31))).toInt8.toInt32)) else upd g i (vp_nar .byte (nI 0))))) i = nI ((if c0 then 1 else 0) + (if c1 then 2 else 0)) := by
    intro c0 c1 _ _
    by_cases h0 : c0 <;> by_cases h1 : c1 <;> simp only [h0, h1, if_true, if_false, pk_us]
    · rw [ps_or0, ps_or2]
    · rw [ps_or0]
    · rw [ps_or1]
    · rw [ps_nar0]
  have gn : ∀ c0 c1 : Prop, [Decidable c0] → [Decidable c1] → ∀ a1 a2 a3 : Int32, ∀ t, t ≠ i → ((if c1 then upd (if c0 then upd (upd g i a1) i a2 else upd g i a1) i a3 else (if c0 then upd (upd g i a1) i a2 else upd g i a1))) t = g t := by
    intro c0 c1 _ _ a1 a2 a3 t ht
    by_cases h0 : c0 <;> by_cases h1 : c1 <;> simp only [h0, h1, if_true, if_false, pk_un ht]
  by_cases h0 : v < g0 <;> by_cases h1 : v < g1
  · simp only [h0, h1, if_true, true_or, not_true, false_implies, s1, u1]
    refine ⟨_, u2, rfl, fun t ht hne => ?_, fun _ => ?_, trivial, fun t ht => gn _ _ _ _ _ t ht, gd _ _, trivial⟩
    · rw [u3 t ht, if_neg hne, s3 t ht, if_neg hne]
    · rw [u3 i hi, if_pos rfl, if_neg (by decide)]
      trivial
  · simp only [h0, h1, if_true, if_false, true_or, not_true, false_implies, s1]
    refine ⟨_, s2, rfl, fun t ht hne => ?_, fun _ => ?_, trivial, fun t ht => gn _ _ _ _ _ t ht, gd _ _, trivial⟩
    · rw [s3 t ht, if_neg hne]
    · rw [s3 i hi, if_pos rfl, if_pos rfl]
      exact h0
  · simp only [h0, h1, if_true, if_false, or_true, not_true, false_implies, t1]
    refine ⟨_, t2, rfl, fun t ht hne => ?_, fun _ => ?_, trivial, fun t ht => gn _ _ _ _ _ t ht, gd _ _, trivial⟩
    · rw [t3 t ht, if_neg hne]
    · rw [t3 i hi, if_pos rfl, if_neg (by decide)]
      exact h1
  · simp only [h0, h1, if_false, or_self, not_false_eq_true, false_implies, true_implies]
    exact ⟨x, hx, rfl, fun t ht hne => rfl, trivial, rfl, fun t ht => gn _ _ _ _ _ t ht, gd _ _, trivial⟩
end
section
/-! PURE: a round of improve; what solve leaves -/
def ps_gn (R S : Nat → Int32) (p k : Nat) : Int := pi_gain (ps_r R) (ps_g S) (ps_tp R S p) (ps_bo R S p) k
def ps_mk (R S : Nat → Int32) (p s : Nat) : Nat := (if ps_gn R S p (2 * s + 0) = 8 * ps_tp R S p s then 1 else 0) + (if ps_gn R S p (2 * s + 1) = 8 * ps_tp R S p s then 2 else 0)
def ps_bet (R S : Nat → Int32) (p s : Nat) : Prop := 8 * ps_tp R S p s < ps_gn R S p (2 * s + 0) ∨ 8 * ps_tp R S p s < ps_gn R S p (2 * s + 1)
def ps_LO (R S : Nat → Int32) (p : Nat) : Prop := pi_LO (ps_r R) (ps_g S) (ps_tp R S) (ps_bo R S) p
def ps_rank (R S : Nat → Int32) (p : Nat) : Nat := pi_rank (ps_tp R S) (ps_bo R S) p
theorem ps_mk_lt (R S : Nat → Int32) (p s : Nat) : ps_mk R S p s < 4 := by
  unfold ps_mk
  split <;> split <;> decide
theorem px_is_ok {R S : Nat → Int32} {bt : Nat → Int64} {bd : Int64} {p : Nat} (h : ps_Ok R S) (hp : p < 16) (hbt : ∀ s, s < 4 → bt s = Int64.ofInt (ps_tp R S p s)) (hbd : bd = Int64.ofInt (ps_bo R S p)) (g : Nat → Int32) :
    ∃ p' g' b', px_is (px_gain R S bt bd) (fun i => 8 * bt i) 4 0 (nI p, g, 0) = (nI p', g', b') ∧ p' < 16 ∧ (∀ s, s < 4 → g' s = nI (ps_mk R S p s)) ∧ ((b' = 0 ∧ ps_LO R S p) ∨ (b' = 1 ∧ ps_rank R S p' < ps_rank R S p)) := by
  have eG : ∀ k, px_gain R S bt bd k = Int64.ofInt (ps_gn R S p k) := fun k => px_gain_ok hbt hbd k
  have eV : ∀ i, i < 4 → (fun i => 8 * bt i) i = Int64.ofInt (8 * ps_tp R S p i) := fun i hi => by
    show 8 * bt i = _
    rw [hbt i hi, Int64.ofInt_mul]
    rfl
  have bG : ∀ k, k < 8 → (ps_gn R S p k).natAbs < 2 ^ 63 := fun k hk => Nat.lt_trans (ps_gain_b h p hk) (by decide)
  have bV : ∀ i, (8 * ps_tp R S p i).natAbs < 2 ^ 63 := fun i => by
    have := ps_tp_b h p i
    omega
  have step : ∀ (i x : Nat) (g : Nat → Int32) (b : Nat), i < 4 → x < 16 → ∃ x' g' b', px_ia (px_gain R S bt bd) (fun i => 8 * bt i) i 2 0 (nI x, upd g i (vp_nar .byte (nI 0)), b) = (nI x', g', b') ∧ x' < 16 ∧ (∀ t, t < 4 → t ≠ i → x' / 2 ^ t % 2 = x / 2 ^ t % 2) ∧ (ps_bet R S p i → 8 * ps_tp R S p i < ps_gn R S p (2 * i + x' / 2 ^ i % 2)) ∧ (¬ ps_bet R S p i → x' / 2 ^ i % 2 = x / 2 ^ i % 2) ∧ (∀ t, t ≠ i → g' t = g t) ∧ g' i = nI (ps_mk R S p i) ∧ ((ps_bet R S p i ∧ b' = 1) ∨ (¬ ps_bet R S p i ∧ b' = b)) := by
    intro i x g b hi hx
    obtain ⟨x', h1, h2, h3, h4, h5, h6, h7, h8⟩ := px_ia_ok (G := px_gain R S bt bd) (V := fun i => 8 * bt i) (g := g) (b := b) hi hx (eG (2 * i + 0)) (eG (2 * i + 1)) (eV i hi) (bG _ (by omega)) (bG _ (by omega)) (bV i)
    refine ⟨x', _, _, Prod.ext h2 (Prod.ext rfl rfl), h1, h3, fun q => ?_, h5, h6, h7, ?_⟩
    · have h9 := h4 q
      have hm := Nat.mod_lt (x' / 2 ^ i) (show 0 < 2 by omega)
      rcases (show x' / 2 ^ i % 2 = 0 ∨ x' / 2 ^ i % 2 = 1 by omega) with e | e
      · rw [e] at h9 ⊢
        exact h9
      · rw [e] at h9 ⊢
        exact h9
    · by_cases q : ps_bet R S p i
      · exact Or.inl ⟨q, h8.trans (if_pos q)⟩
      · exact Or.inr ⟨q, h8.trans (if_neg q)⟩
  obtain ⟨x1, g1, b1, e1, k1, a1, c1, d1, f1, m1, n1⟩ := step 0 p g 0 (by decide) hp
  obtain ⟨x2, g2, b2, e2, k2, a2, c2, d2, f2, m2, n2⟩ := step 1 x1 g1 b1 (by decide) k1
  obtain ⟨x3, g3, b3, e3, k3, a3, c3, d3, f3, m3, n3⟩ := step 2 x2 g2 b2 (by decide) k2
  obtain ⟨x4, g4, b4, e4, k4, a4, c4, d4, f4, m4, n4⟩ := step 3 x3 g3 b3 (by decide) k3
  have z0 : x4 / 2 ^ 0 % 2 = x1 / 2 ^ 0 % 2 := by rw [a4 0 (by decide) (by decide), a3 0 (by decide) (by decide), a2 0 (by decide) (by decide)]
  have z1 : x4 / 2 ^ 1 % 2 = x2 / 2 ^ 1 % 2 := by rw [a4 1 (by decide) (by decide), a3 1 (by decide) (by decide)]
  have z2 : x4 / 2 ^ 2 % 2 = x3 / 2 ^ 2 % 2 := by rw [a4 2 (by decide) (by decide)]
  have y1 : x1 / 2 ^ 1 % 2 = p / 2 ^ 1 % 2 := a1 1 (by decide) (by decide)
  have y2 : x2 / 2 ^ 2 % 2 = p / 2 ^ 2 % 2 := by rw [a2 2 (by decide) (by decide), a1 2 (by decide) (by decide)]
  have y3 : x3 / 2 ^ 3 % 2 = p / 2 ^ 3 % 2 := by rw [a3 3 (by decide) (by decide), a2 3 (by decide) (by decide), a1 3 (by decide) (by decide)]
  have up : ∀ s, s < 4 → (ps_bet R S p s → 8 * ps_tp R S p s < ps_gn R S p (ps_act x4 s)) ∧ (¬ ps_bet R S p s → ps_act x4 s = ps_act p s) := by
    intro s hs
    unfold ps_act
    rcases (show s = 0 ∨ s = 1 ∨ s = 2 ∨ s = 3 by omega) with rfl | rfl | rfl | rfl
    · rw [z0]
      exact ⟨c1, fun q => by rw [d1 q]⟩
    · rw [z1]
      exact ⟨c2, fun q => by rw [d2 q, y1]⟩
    · rw [z2]
      exact ⟨c3, fun q => by rw [d3 q, y2]⟩
    · exact ⟨c4, fun q => by rw [d4 q, y3]⟩
  refine ⟨x4, g4, b4, ?_, k4, ?_, ?_⟩
  · simp only [px_is, Nat.reduceAdd, e1, e2, e3, e4]
  · intro s hs
    rcases (show s = 0 ∨ s = 1 ∨ s = 2 ∨ s = 3 by omega) with rfl | rfl | rfl | rfl
    · rw [f4 0 (by decide), f3 0 (by decide), f2 0 (by decide), m1]
    · rw [f4 1 (by decide), f3 1 (by decide), m2]
    · rw [f4 2 (by decide), m3]
    · exact m4
  · have hpi := ps_pi h
    have ge : ∀ s, s < 4 → 8 * ps_tp R S p s ≤ pi_gain (ps_r R) (ps_g S) (ps_tp R S p) (ps_bo R S p) (ps_act x4 s) := by
      intro s hs
      by_cases q : ps_bet R S p s
      · exact Int.le_of_lt ((up s hs).1 q)
      · rw [(up s hs).2 q, pi_own hpi p s hs]
        exact Int.le_refl _
    have yes : ∀ s, s < 4 → ps_bet R S p s → ps_rank R S x4 < ps_rank R S p := fun s hs q => pi_step hpi k4 ge ⟨s, hs, (up s hs).1 q⟩
    by_cases hany : ∃ s, s < 4 ∧ ps_bet R S p s
    · obtain ⟨s, hs, q⟩ := hany
      refine Or.inr ⟨?_, yes s hs q⟩
      rcases (show s = 0 ∨ s = 1 ∨ s = 2 ∨ s = 3 by omega) with rfl | rfl | rfl | rfl
      · rcases n1 with ⟨_, w1⟩ | ⟨w, _⟩
        · rcases n4 with ⟨_, w4⟩ | ⟨_, w4⟩
          · exact w4
          · rcases n3 with ⟨_, w3⟩ | ⟨_, w3⟩
            · rw [w4, w3]
            · rcases n2 with ⟨_, w2⟩ | ⟨_, w2⟩
              · rw [w4, w3, w2]
              · rw [w4, w3, w2, w1]
        · exact absurd q w
      · rcases n2 with ⟨_, w2⟩ | ⟨w, _⟩
        · rcases n4 with ⟨_, w4⟩ | ⟨_, w4⟩
          · exact w4
          · rcases n3 with ⟨_, w3⟩ | ⟨_, w3⟩
            · rw [w4, w3]
            · rw [w4, w3, w2]
        · exact absurd q w
      · rcases n3 with ⟨_, w3⟩ | ⟨w, _⟩
        · rcases n4 with ⟨_, w4⟩ | ⟨_, w4⟩
          · exact w4
          · rw [w4, w3]
        · exact absurd q w
      · rcases n4 with ⟨_, w4⟩ | ⟨w, _⟩
        · exact w4
        · exact absurd q w
    · refine Or.inl ⟨?_, ?_⟩
      · have no : ∀ s, s < 4 → ¬ ps_bet R S p s := fun s hs q => hany ⟨s, hs, q⟩
        rcases n1 with ⟨w, _⟩ | ⟨_, w1⟩
        · exact absurd w (no 0 (by decide))
        · rcases n2 with ⟨w, _⟩ | ⟨_, w2⟩
          · exact absurd w (no 1 (by decide))
          · rcases n3 with ⟨w, _⟩ | ⟨_, w3⟩
            · exact absurd w (no 2 (by decide))
            · rcases n4 with ⟨w, _⟩ | ⟨_, w4⟩
              · exact absurd w (no 3 (by decide))
              · rw [w4, w3, w2, w1]
      · intro s hs a ha
        have no : ¬ ps_bet R S p s := fun q => hany ⟨s, hs, q⟩
        unfold ps_bet ps_gn at no
        rcases (show a = 0 ∨ a = 1 by omega) with rfl | rfl <;> omega
/-- the arrays that solve leaves belong to a policy p that no action makes better -/
def ps_sol (R S : Nat → Int32) (p : Nat) (bt : Nat → Int64) (bd : Int64) (g : Nat → Int32) : Prop := p < 16 ∧ ps_LO R S p ∧ (∀ s, s < 4 → bt s = Int64.ofInt (ps_tp R S p s)) ∧ bd = Int64.ofInt (ps_bo R S p) ∧ ∀ s, s < 4 → g s = nI (ps_mk R S p s)
/-- the component between calls -/
def ps_sv (R S : Nat → Int32) (so : Int32) (bt : Nat → Int64) (bd : Int64) (g : Nat → Int32) : Prop := so = 0 ∨ (so = 1 ∧ ∃ p, ps_sol R S p bt bd g)
end
section
/-! PURE: answers as functions of the arrays; the component's remaining loops -/
def ps_frT (t b : Int) : Int32 := (Int64.ofInt t / lN (Nat.gcd t.natAbs b.toNat)).toInt32
def ps_frB (t b : Int) : Int32 := (lN b.toNat / lN (Nat.gcd t.natAbs b.toNat)).toInt32
def ps_cmp (a b : Int) : Int32 := if a < b then -1 else if b < a then 1 else 0
theorem px_i1_nn {G V : Int64} {i j : Nat} {x : Int32} {g : Nat → Int32} {b : Nat} (h5 : ¬ G = V) (h6 : ¬ V < G) : px_i1 G V i j (x, g, b) = (x, g, b) := by
  simp only [px_i1, if_neg h5, if_neg h6]
theorem px_i1_ng {G V : Int64} {i j : Nat} {x : Int32} {g : Nat → Int32} {b : Nat} (h5 : ¬ G = V) (h6 : V < G) : px_i1 G V i j (x, g, b) = (((x &&& ((nI 1 <<< (nI i &&& 31)) ^^^ (-1))) ||| (nI j <<< (nI i &&& 31))), g, 1) := by
  simp only [px_i1, if_neg h5, if_pos h6]
theorem px_i1_en {G V : Int64} {i j : Nat} {x : Int32} {g : Nat → Int32} {b : Nat} (h5 : G = V) (h6 : ¬ V < G) : px_i1 G V i j (x, g, b) = (x, upd g i (vp_nar .byte ((g i ||| (nI 1 <<< (nI j &&& 31))).toInt8.toInt32)), b) := by
  simp only [px_i1, if_pos h5, if_neg h6]
theorem px_i1_eg {G V : Int64} {i j : Nat} {x : Int32} {g : Nat → Int32} {b : Nat} (h5 : G = V) (h6 : V < G) : px_i1 G V i j (x, g, b) = (((x &&& ((nI 1 <<< (nI i &&& 31)) ^^^ (-1))) ||| (nI j <<< (nI i &&& 31))), upd g i (vp_nar .byte ((g i ||| (nI 1 <<< (nI j &&& 31))).toInt8.toInt32)), 1) := by
  simp only [px_i1, if_pos h5, if_pos h6]
theorem ps_narb {x : Int32} (h1 : -128 ≤ x.toInt) (h2 : x.toInt ≤ 127) : vp_nar .byte x = x ∧ x.toInt8.toInt32 = x := by
  have e : x.toInt8.toInt32 = x := by
    apply Int32.toInt_inj.mp
    rw [Int8.toInt_toInt32, Int32.toInt_toInt8, Int.bmod_eq_of_le (by omega) (by omega)]
  exact ⟨by rw [vp_nar_byte, e], e⟩
theorem ps_d5 (a : Nat) : vp_nar .byte ((nI (a % 5)).toInt8.toInt32) = nI (a % 5) := by
  have h := Nat.mod_lt a (show 0 < 5 by omega)
  have k : ∀ d : Fin 5, vp_nar .byte ((nI d.val).toInt8.toInt32) = nI d.val := by decide +kernel
  exact k ⟨a % 5, h⟩
/-- shares: four digits at action k -/
def px_sh (S : Nat → Int32) (k n : Nat) : Nat → Int32 := upd (upd (upd (upd S (4 * k + 3) (nI (n % 5))) (4 * k + 2) (nI (n / 5 % 5))) (4 * k + 1) (nI (n / 5 / 5 % 5))) (4 * k + 0) (nI (n / 5 / 5 / 5 % 5))
def px_po (mk : Nat → Nat) : Nat → Nat → Nat → Nat
  | 0, _, a => a
  | n + 1, i, a => px_po mk n (i + 1) (if mk i % 2 = 0 then a + 2 ^ i else a)
theorem ps_orb4 : ∀ (i : Fin 4) (a : Fin 16), a.val < 2 ^ i.val → nI a.val ||| (nI 1 <<< (nI i.val &&& 31)) = nI (a.val + 2 ^ i.val) := by decide +kernel
theorem ps_orb {i a : Nat} (hi : i < 4) (ha : a < 2 ^ i) : nI a ||| (nI 1 <<< (nI i &&& 31)) = nI (a + 2 ^ i) := by
  have h : a < 16 := Nat.lt_of_lt_of_le ha (by
    rcases (show i = 0 ∨ i = 1 ∨ i = 2 ∨ i = 3 by omega) with rfl | rfl | rfl | rfl <;> decide)
  exact ps_orb4 ⟨i, hi⟩ ⟨a, h⟩ ha
def px_pc (mk : Nat → Nat) : Nat → Nat → Nat → Nat
  | 0, _, a => a
  | n + 1, i, a => px_pc mk n (i + 1) (if mk i = 3 then a * 2 else a)
/-- copyAction's loop: action x over action y -/
def px_cp (x y : Nat) : Nat → Nat → (Nat → Int32) × Nat → (Nat → Int32) × Nat
  | 0, _, u => u
  | n + 1, t, u => px_cp x y n (t + 1) (upd u.1 (4 * y + t) (vp_nar .byte (u.1 (4 * x + t))), if u.1 (4 * x + t) = u.1 (4 * y + t) then u.2 else 1)
/-- prune: one action of one state, then the loops -/
def px_p1 (mk : Nat → Nat) (i j : Nat) (u : (Nat → Int32) × (Nat → Int32) × Nat) : (Nat → Int32) × (Nat → Int32) × Nat :=
  if mk i / 2 ^ j % 2 = 0 then (upd u.1 (2 * i + j) (vp_nar .byte (u.1 (2 * i + (1 - j)))), (px_cp (2 * i + (1 - j)) (2 * i + j) 4 0 (u.2.1, if u.1 (2 * i + (1 - j)) = u.1 (2 * i + j) then 0 else 1)).1, if (px_cp (2 * i + (1 - j)) (2 * i + j) 4 0 (u.2.1, if u.1 (2 * i + (1 - j)) = u.1 (2 * i + j) then 0 else 1)).2 = 0 then u.2.2 else u.2.2 + 1) else u
def px_pa (mk : Nat → Nat) (i : Nat) : Nat → Nat → (Nat → Int32) × (Nat → Int32) × Nat → (Nat → Int32) × (Nat → Int32) × Nat
  | 0, _, u => u
  | n + 1, j, u => px_pa mk i n (j + 1) (px_p1 mk i j u)
def px_ps (mk : Nat → Nat) : Nat → Nat → (Nat → Int32) × (Nat → Int32) × Nat → (Nat → Int32) × (Nat → Int32) × Nat
  | 0, _, u => u
  | n + 1, i, u => px_ps mk n (i + 1) (px_pa mk i 2 0 u)
theorem px_cp_le (x y : Nat) : ∀ n t S b, b < 2 → (px_cp x y n t (S, b)).2 < 2 := by
  intro n
  induction n with
  | zero => intro t S b h; exact h
  | succ n ih =>
    intro t S b h
    rw [px_cp]
    refine ih _ _ _ ?_
    dsimp only
    split
    · exact h
    · decide
theorem px_cp_e {x y n t b : Nat} {S : Nat → Int32} (h : S (4 * x + t) = S (4 * y + t)) : px_cp x y (n + 1) t (S, b) = px_cp x y n (t + 1) (upd S (4 * y + t) (vp_nar .byte (S (4 * x + t))), b) := by
  simp only [px_cp, if_pos h]
theorem px_cp_n {x y n t b : Nat} {S : Nat → Int32} (h : ¬ S (4 * x + t) = S (4 * y + t)) : px_cp x y (n + 1) t (S, b) = px_cp x y n (t + 1) (upd S (4 * y + t) (vp_nar .byte (S (4 * x + t))), 1) := by
  simp only [px_cp, if_neg h]
/-- copyAction's answer -/
def px_df (R S : Nat → Int32) (x y : Nat) : (Nat → Int32) × Nat := px_cp x y 4 0 (S, if R x = R y then 0 else 1)
theorem px_df_le (R S : Nat → Int32) (x y : Nat) : (px_df R S x y).2 < 2 := px_cp_le x y 4 0 S _ (by split <;> decide)
theorem px_p1_n {mk : Nat → Nat} {i j c : Nat} {R S : Nat → Int32} (h : ¬ mk i / 2 ^ j % 2 = 0) : px_p1 mk i j (R, S, c) = (R, S, c) := by
  simp only [px_p1, if_neg h]
theorem px_p1_0 {mk : Nat → Nat} {i j c : Nat} {R S : Nat → Int32} (h : mk i / 2 ^ j % 2 = 0) (h2 : (px_df R S (2 * i + (1 - j)) (2 * i + j)).2 = 0) : px_p1 mk i j (R, S, c) = (upd R (2 * i + j) (vp_nar .byte (R (2 * i + (1 - j)))), (px_df R S (2 * i + (1 - j)) (2 * i + j)).1, c) := by
  simp only [px_p1, if_pos h]
  unfold px_df at *
  rw [if_pos h2]
theorem px_p1_1 {mk : Nat → Nat} {i j c : Nat} {R S : Nat → Int32} (h : mk i / 2 ^ j % 2 = 0) (h2 : ¬ (px_df R S (2 * i + (1 - j)) (2 * i + j)).2 = 0) : px_p1 mk i j (R, S, c) = (upd R (2 * i + j) (vp_nar .byte (R (2 * i + (1 - j)))), (px_df R S (2 * i + (1 - j)) (2 * i + j)).1, c + 1) := by
  simp only [px_p1, if_pos h]
  unfold px_df at *
  rw [if_neg h2]
end
section
/-! PURE: the reference's loops as functions -/
def pm_ft (S : Nat → Int32) (i k : Nat) : Nat → Nat → (Nat → Int64) → Nat → Int64
  | 0, _, f => f
  | n + 1, t, f => pm_ft S i k n (t + 1) (vp_updL f (5 * i + t) ((nI (if i = t then 8 else 0) - S (4 * k + t)).toInt64))
def pm_fs (R S : Nat → Int32) (p : Nat) : Nat → Nat → (Nat → Int64) → Nat → Int64
  | 0, _, f => f
  | n + 1, i, f => pm_fs R S p n (i + 1) (vp_updL (pm_ft S i (2 * i + p / 2 ^ i % 2) 4 0 f) (5 * i + 4) (8 * (R (2 * i + p / 2 ^ i % 2)).toInt64))
theorem ps_sub8 {v : Nat} {x : Int32} (hv : v ≤ 8) (h0 : 0 ≤ x.toInt) (h1 : x.toInt ≤ 4) : (nI v - x).toInt64 = Int64.ofInt ((v : Int) - x.toInt) := by
  rw [ps_i2l, Int32.toInt_sub, nI_toInt (by omega), Int.bmod_eq_of_le (by omega) (by omega)]
theorem ps_S4 {R S : Nat → Int32} (h : ps_Ok R S) {k t : Nat} (hk : k < 8) (ht : t < 4) : 0 ≤ (S (4 * k + t)).toInt ∧ (S (4 * k + t)).toInt ≤ 4 := by
  obtain ⟨_, h0, h1, h2, h3, he⟩ := h k hk
  rcases (show t = 0 ∨ t = 1 ∨ t = 2 ∨ t = 3 by omega) with rfl | rfl | rfl | rfl <;> omega
theorem pm_ft_px {R S : Nat → Int32} (h : ps_Ok R S) {i k : Nat} (hi : i < 4) (hk : k < 8) : ∀ n t f, t + n ≤ 4 → pm_ft S i k n t f = px_ft S i k n t f := by
  intro n
  induction n with
  | zero => intro t f _; rfl
  | succ n ih =>
    intro t f ht
    have h4 := ps_S4 h hk (show t < 4 by omega)
    have e : (nI (if i = t then 8 else 0) - S (4 * k + t)).toInt64 = (if i = t then 8 else 0) - (S (4 * k + t)).toInt64 := by
      rw [ps_sub8 (by split <;> omega) h4.1 h4.2, Int64.ofInt_sub, ps_i2l]
      split <;> rfl
    rw [pm_ft, px_ft, e, ih (t + 1) _ (by omega)]
theorem pm_fs_px {R S : Nat → Int32} (h : ps_Ok R S) (p : Nat) : ∀ n i f, i + n ≤ 4 → pm_fs R S p n i f = px_fs R S p n i f := by
  intro n
  induction n with
  | zero => intro i f _; rfl
  | succ n ih =>
    intro i f hi
    rw [pm_fs, px_fs, ih (i + 1) _ (by omega), pm_ft_px h (show i < 4 by omega) (show 2 * i + p / 2 ^ i % 2 < 8 from ps_act_lt (by omega)) 4 0 f (by omega)]
theorem pm_fill {R S : Nat → Int32} (h : ps_Ok R S) (p : Nat) (f : Nat → Int64) {i t : Nat} (hi : i < 4) (ht : t < 5) : pm_fs R S p 4 0 f (5 * i + t) = Int64.ofInt (ps_A R S p i t) := by
  rw [pm_fs_px h p 4 0 f (by omega)]
  exact px_fill R S p f hi ht
/-- what solve has written so far: all of the policies below i, of policy i the states below j -/
def pm_done (R S : Nat → Int32) (i j : Nat) (tp bt : Nat → Int64) : Prop := ∀ p s, s < 4 → (p < i ∨ (p = i ∧ s < j)) → tp (4 * p + s) = Int64.ofInt (ps_tp R S p s) ∧ bt (4 * p + s) = Int64.ofInt (ps_bo R S p)
theorem pm_done_0 (R S : Nat → Int32) (tp bt : Nat → Int64) : pm_done R S 0 0 tp bt := by
  intro p s hs h
  omega
theorem pm_done_put {R S : Nat → Int32} {i j : Nat} {tp bt : Nat → Int64} (h : pm_done R S i j tp bt) (hj : j < 4) : pm_done R S i (j + 1) (vp_updL tp (4 * i + j) (Int64.ofInt (ps_tp R S i j))) (vp_updL bt (4 * i + j) (Int64.ofInt (ps_bo R S i))) := by
  intro p s hs hp
  by_cases e : p = i ∧ s = j
  · obtain ⟨rfl, rfl⟩ := e
    exact ⟨pk_uLs, pk_uLs⟩
  · rw [pk_uLn (by omega), pk_uLn (by omega)]
    exact h p s hs (by omega)
theorem pm_done_next {R S : Nat → Int32} {i : Nat} {tp bt : Nat → Int64} (h : pm_done R S i 4 tp bt) : pm_done R S (i + 1) 0 tp bt := fun p s hs hp => h p s hs (by omega)
def pm_all (R S : Nat → Int32) (tp bt : Nat → Int64) : Prop := ∀ p s, p < 16 → s < 4 → tp (4 * p + s) = Int64.ofInt (ps_tp R S p s) ∧ bt (4 * p + s) = Int64.ofInt (ps_bo R S p)
/-- Euclid in so many steps: the product of the two falls to its half -/
def pm_eu (n x y : Nat) : Prop := (x ≤ y ∧ x * y < 2 ^ n) ∨ (1 ≤ n ∧ x * y < 2 ^ (n - 1))
theorem pm_eu_0 {x y : Nat} (hy : 0 < y) (h : pm_eu 0 x y) : x = 0 := by
  rcases h with ⟨_, h⟩ | ⟨h, _⟩
  · rcases Nat.eq_zero_or_pos x with e | e
    · exact e
    · have := Nat.mul_pos e hy
      omega
  · omega
theorem pm_eu_z {n y : Nat} : pm_eu n 0 y := Or.inl ⟨Nat.zero_le _, by rw [Nat.zero_mul]; exact Nat.two_pow_pos n⟩
theorem pm_eu_s {n x y : Nat} (hx : 0 < x) (h : pm_eu (n + 1) x y) : pm_eu n (y % x) x := by
  have hr := Nat.mod_lt y hx
  have hd := Nat.div_add_mod y x
  refine Or.inl ⟨by omega, ?_⟩
  rcases h with ⟨h1, h2⟩ | ⟨_, h2⟩
  · have hq : 0 < y / x := Nat.div_pos h1 hx
    have h3 : x * 1 ≤ x * (y / x) := Nat.mul_le_mul_left x hq
    have h4 : 2 * (y % x) ≤ y := by omega
    have h5 : 2 * (y % x) * x ≤ y * x := Nat.mul_le_mul_right x h4
    rw [Nat.mul_comm x y, Nat.pow_succ] at h2
    rw [Nat.mul_assoc] at h5
    omega
  · rw [Nat.add_sub_cancel] at h2
    have h5 : y % x * x ≤ y * x := Nat.mul_le_mul_right x (Nat.mod_le y x)
    rw [Nat.mul_comm x y] at h2
    omega
noncomputable def ps_bb (R S : Nat → Int32) (p : Nat) : Bool := @decide (pi_best (ps_tp R S) (ps_bo R S) p) (Classical.propDecidable _)
theorem ps_bb_t {R S : Nat → Int32} {p : Nat} (h : pi_best (ps_tp R S) (ps_bo R S) p) : ps_bb R S p = true := @decide_eq_true _ (Classical.propDecidable _) h
theorem ps_bb_f {R S : Nat → Int32} {p : Nat} (h : ¬ pi_best (ps_tp R S) (ps_bo R S) p) : ps_bb R S p = false := @decide_eq_false _ (Classical.propDecidable _) h
theorem ps_bb_iff {R S : Nat → Int32} {p : Nat} : ps_bb R S p = true ↔ pi_best (ps_tp R S) (ps_bo R S) p := @decide_eq_true_iff _ (Classical.propDecidable _)
theorem pm_fb_lt (f : Nat → Bool) : ∀ n i, pm_fb f n i < i + n ∨ pm_fb f n i = 0 := by
  intro n
  induction n with
  | zero => intro i; exact Or.inr rfl
  | succ n ih =>
    intro i
    rw [pm_fb]
    split
    · exact Or.inl (by omega)
    · rcases ih (i + 1) with h | h
      · exact Or.inl (by omega)
      · exact Or.inr h
theorem pm_fb16 (f : Nat → Bool) : pm_fb f 16 0 < 16 := by
  rcases pm_fb_lt f 16 0 with h | h <;> omega
theorem ps_cmp_le (a b : Int) : ps_cmp a b ≤ 0 ↔ a ≤ b := by
  unfold ps_cmp
  by_cases h1 : a < b
  · rw [if_pos h1]
    exact ⟨fun _ => by omega, fun _ => by decide⟩
  · rw [if_neg h1]
    by_cases h2 : b < a
    · rw [if_pos h2]
      exact ⟨fun h => absurd h (by decide), fun h => by omega⟩
    · rw [if_neg h2]
      exact ⟨fun _ => by omega, fun _ => by decide⟩
/-- copy's loop -/
def pm_cp (x y : Nat) : Nat → Nat → (Nat → Int32) → Nat → Int32
  | 0, _, S => S
  | n + 1, t, S => pm_cp x y n (t + 1) (upd S (4 * y + t) (S (4 * x + t)))
/-- prune: the bad actions as bits, then the copies -/
def pm_bd (gd : Nat → Bool) : Nat → Nat → Nat → Nat
  | 0, _, b => b
  | n + 1, k, b => pm_bd gd n (k + 1) (if gd k = true then b else b + 2 ^ k)
theorem pm_bd_lt (gd : Nat → Bool) : ∀ n k b, b < 2 ^ k → pm_bd gd n k b < 2 ^ (k + n) := by
  intro n
  induction n with
  | zero => intro k b h; exact h
  | succ n ih =>
    intro k b h
    rw [pm_bd, show k + (n + 1) = k + 1 + n by omega]
    have e : 2 ^ (k + 1) = 2 * 2 ^ k := by rw [Nat.pow_succ]; omega
    refine ih (k + 1) _ ?_
    split <;> omega
theorem ps_orb256 : ∀ (k : Fin 8) (b : Fin 256), b.val < 2 ^ k.val → nI b.val ||| (nI 1 <<< (nI k.val &&& 31)) = nI (b.val + 2 ^ k.val) := by decide +kernel
theorem ps_orb_8 {k b : Nat} (hk : k < 8) (hb : b < 2 ^ k) : nI b ||| (nI 1 <<< (nI k &&& 31)) = nI (b + 2 ^ k) := by
  have h : b < 256 := Nat.lt_of_lt_of_le hb (Nat.pow_le_pow_right (n := 2) (by decide) (show k ≤ 8 by omega))
  exact ps_orb256 ⟨k, hk⟩ ⟨b, h⟩ hb
def pm_pt (k : Nat) : Nat := if k % 2 = 0 then k + 1 else k - 1
def pm_pr (b : Nat) : Nat → Nat → (Nat → Int32) × (Nat → Int32) × Nat → (Nat → Int32) × (Nat → Int32) × Nat
  | 0, _, u => u
  | n + 1, k, u => pm_pr b n (k + 1) (if b / 2 ^ k % 2 = 1 then (upd u.1 k (u.1 (pm_pt k)), pm_cp (pm_pt k) k 4 0 u.2.1, u.2.2 + 1) else u)
theorem pm_pr_1 {b n k c : Nat} {R S : Nat → Int32} (h : b / 2 ^ k % 2 = 1) : pm_pr b (n + 1) k (R, S, c) = pm_pr b n (k + 1) (upd R k (R (pm_pt k)), pm_cp (pm_pt k) k 4 0 S, c + 1) := by
  simp only [pm_pr, if_pos h]
theorem pm_pr_0 {b n k c : Nat} {R S : Nat → Int32} (h : ¬ b / 2 ^ k % 2 = 1) : pm_pr b (n + 1) k (R, S, c) = pm_pr b n (k + 1) (R, S, c) := by
  simp only [pm_pr, if_neg h]
/-- shares, in the reference's order -/
def pm_sh (S : Nat → Int32) (k n : Nat) : Nat → Int32 := upd (upd (upd (upd S (4 * k) (nI (n / 125))) (4 * k + 1) (nI (n / 25 % 5))) (4 * k + 2) (nI (n / 5 % 5))) (4 * k + 3) (nI (n % 5))
theorem pm_sh_px (S : Nat → Int32) (k : Nat) {n : Nat} (hn : n < 625) : pm_sh S k n = px_sh S k n := by
  have e1 : n / 5 / 5 / 5 % 5 = n / 125 := by omega
  have e2 : n / 5 / 5 % 5 = n / 25 % 5 := by omega
  funext j
  unfold pm_sh px_sh upd
  rw [e1, e2]
  by_cases h0 : j = 4 * k
  · subst h0
    rw [if_neg (by omega), if_neg (by omega), if_neg (by omega), if_pos rfl, if_pos (by omega)]
  · by_cases h1 : j = 4 * k + 1
    · subst h1
      rw [if_neg (by omega), if_neg (by omega), if_pos rfl, if_neg (by omega), if_pos rfl]
    · by_cases h2 : j = 4 * k + 2
      · subst h2
        rw [if_neg (by omega), if_pos rfl, if_neg (by omega), if_neg (by omega), if_pos rfl]
      · by_cases h3 : j = 4 * k + 3
        · subst h3
          rw [if_pos rfl, if_neg (by omega), if_neg (by omega), if_neg (by omega), if_pos rfl]
        · rw [if_neg h3, if_neg h2, if_neg h1, if_neg h0, if_neg (by omega), if_neg h1, if_neg h2, if_neg h3]
end
section
/-! rows with numbers of Nat; the worlds of the two classes; contracts and calls (printed by mkkit.py) -/
set_option maxRecDepth 100000
abbrev vwCl : List vw_C := [(RX0, TX0, 12), (RX1, TX1, 5)]
section NR
variable {p : Program} {l : Launch} {e : Env} {Rm : Room} {s : State} {m : MethodId} {args : Array Value} {below : List Frame} {meth : Method} {c : Code} {H : Heap} {locs : List Loc} {cells slots : Nat} {Q : State → Prop}
variable {cc : ByteArray} {pc : Nat} {ls : Array Slot} {rest : List Value}
theorem n_iadd (hx : p.tables.exec = Jvm.exec) (hb : c.code = cc) {a b : Nat} (hdg : decode cc pc = .ok (.iadd, 1)) (k : W p l e Rm s m args below meth c H locs cells slots Q (F0 m (pc + 1) ls (.int (nI (a + b)) :: rest))) : W p l e Rm s m args below meth c H locs cells slots Q (F0 m pc ls (.int (nI b) :: .int (nI a) :: rest)) := lv_iadd hx hb hdg (by rw [nI_add]; exact k)
theorem n_imul (hx : p.tables.exec = Jvm.exec) (hb : c.code = cc) {a b : Nat} (hdg : decode cc pc = .ok (.imul, 1)) (k : W p l e Rm s m args below meth c H locs cells slots Q (F0 m (pc + 1) ls (.int (nI (a * b)) :: rest))) : W p l e Rm s m args below meth c H locs cells slots Q (F0 m pc ls (.int (nI b) :: .int (nI a) :: rest)) := lv_imul hx hb hdg (by rw [pk_mul]; exact k)
theorem n_isub (hx : p.tables.exec = Jvm.exec) (hb : c.code = cc) {a b : Nat} (h : b ≤ a) (hdg : decode cc pc = .ok (.isub, 1)) (k : W p l e Rm s m args below meth c H locs cells slots Q (F0 m (pc + 1) ls (.int (nI (a - b)) :: rest))) : W p l e Rm s m args below meth c H locs cells slots Q (F0 m pc ls (.int (nI b) :: .int (nI a) :: rest)) := lv_isub hx hb hdg (by rw [pk_sub h]; exact k)
theorem n_ne0 {b : Nat} (h0 : 0 < b) (h1 : b < 2 ^ 31) : ¬ nI b = 0 := nI_ne0 h0 h1
theorem n_idiv (hx : p.tables.exec = Jvm.exec) (hb : c.code = cc) {a b : Nat} (h0 : 0 < b) (ha : a < 2 ^ 31) (hb2 : b < 2 ^ 31) (hdg : decode cc pc = .ok (.idiv, 1)) (k : W p l e Rm s m args below meth c H locs cells slots Q (F0 m (pc + 1) ls (.int (nI (a / b)) :: rest))) : W p l e Rm s m args below meth c H locs cells slots Q (F0 m pc ls (.int (nI b) :: .int (nI a) :: rest)) := lv_idiv hx hb hdg (nI_ne0 h0 hb2) (by rw [pk_div ha h0 hb2]; exact k)
theorem n_irem (hx : p.tables.exec = Jvm.exec) (hb : c.code = cc) {a b : Nat} (h0 : 0 < b) (ha : a < 2 ^ 31) (hb2 : b < 2 ^ 31) (hdg : decode cc pc = .ok (.irem, 1)) (k : W p l e Rm s m args below meth c H locs cells slots Q (F0 m (pc + 1) ls (.int (nI (a % b)) :: rest))) : W p l e Rm s m args below meth c H locs cells slots Q (F0 m pc ls (.int (nI b) :: .int (nI a) :: rest)) := lv_irem hx hb hdg (nI_ne0 h0 hb2) (by rw [pk_rem ha h0 hb2]; exact k)
theorem n_sl : ∀ k : Fin 32, ((nI k.val &&& 31).toBitVec.smod 32).toNat = k.val := by decide +kernel
theorem n_ishr (hx : p.tables.exec = Jvm.exec) (hb : c.code = cc) {a b : Nat} (ha : a < 2 ^ 31) (hb2 : b < 32) (hdg : decode cc pc = .ok (.ishr, 1)) (k : W p l e Rm s m args below meth c H locs cells slots Q (F0 m (pc + 1) ls (.int (nI (a / 2 ^ b)) :: rest))) : W p l e Rm s m args below meth c H locs cells slots Q (F0 m pc ls (.int (nI b) :: .int (nI a) :: rest)) := lv_ishr hx hb hdg (by rw [pk_shrN ha (nI b &&& 31) b (n_sl ⟨b, hb2⟩)]; exact k)
theorem n_iand1 (hx : p.tables.exec = Jvm.exec) (hb : c.code = cc) {a : Nat} (ha : a < 2 ^ 31) (hdg : decode cc pc = .ok (.iand, 1)) (k : W p l e Rm s m args below meth c H locs cells slots Q (F0 m (pc + 1) ls (.int (nI (a % 2)) :: rest))) : W p l e Rm s m args below meth c H locs cells slots Q (F0 m pc ls (.int (nI 1) :: .int (nI a) :: rest)) := lv_iand hx hb hdg (by rw [pk_andN (n := a) (m := nI 1) (by omega) 1 (by decide)]; exact k)
theorem n_icmp_ge (hx : p.tables.exec = Jvm.exec) (hb : c.code = cc) {a b : Nat} {off : Int} {tgt : Nat} (ha : a < 2 ^ 31) (hb2 : b < 2 ^ 31) (hdg : decode cc pc = .ok (.if_icmp .ge off, 3)) (ht : (pc : Int) + off = (tgt : Int)) (kt : b ≤ a → W p l e Rm s m args below meth c H locs cells slots Q (F0 m tgt ls rest)) (kf : a < b → W p l e Rm s m args below meth c H locs cells slots Q (F0 m (pc + 3) ls rest)) : W p l e Rm s m args below meth c H locs cells slots Q (F0 m pc ls (.int (nI b) :: .int (nI a) :: rest)) := lv_icmp_ge hx hb hdg ht (fun h => kt ((nI_leI hb2 ha).mp h)) (fun h => kf (by have h2 := mt (nI_leI hb2 ha).mpr h; omega))
theorem n_icmp_lt (hx : p.tables.exec = Jvm.exec) (hb : c.code = cc) {a b : Nat} {off : Int} {tgt : Nat} (ha : a < 2 ^ 31) (hb2 : b < 2 ^ 31) (hdg : decode cc pc = .ok (.if_icmp .lt off, 3)) (ht : (pc : Int) + off = (tgt : Int)) (kt : a < b → W p l e Rm s m args below meth c H locs cells slots Q (F0 m tgt ls rest)) (kf : b ≤ a → W p l e Rm s m args below meth c H locs cells slots Q (F0 m (pc + 3) ls rest)) : W p l e Rm s m args below meth c H locs cells slots Q (F0 m pc ls (.int (nI b) :: .int (nI a) :: rest)) := lv_icmp_lt hx hb hdg ht (fun h => kt ((nI_ltI ha hb2).mp h)) (fun h => kf (by have h2 := mt (nI_ltI ha hb2).mpr h; omega))
theorem n_icmp_gt (hx : p.tables.exec = Jvm.exec) (hb : c.code = cc) {a b : Nat} {off : Int} {tgt : Nat} (ha : a < 2 ^ 31) (hb2 : b < 2 ^ 31) (hdg : decode cc pc = .ok (.if_icmp .gt off, 3)) (ht : (pc : Int) + off = (tgt : Int)) (kt : b < a → W p l e Rm s m args below meth c H locs cells slots Q (F0 m tgt ls rest)) (kf : a ≤ b → W p l e Rm s m args below meth c H locs cells slots Q (F0 m (pc + 3) ls rest)) : W p l e Rm s m args below meth c H locs cells slots Q (F0 m pc ls (.int (nI b) :: .int (nI a) :: rest)) := lv_icmp_gt hx hb hdg ht (fun h => kt ((nI_ltI hb2 ha).mp h)) (fun h => kf (by have h2 := mt (nI_ltI hb2 ha).mpr h; omega))
theorem n_icmp_le (hx : p.tables.exec = Jvm.exec) (hb : c.code = cc) {a b : Nat} {off : Int} {tgt : Nat} (ha : a < 2 ^ 31) (hb2 : b < 2 ^ 31) (hdg : decode cc pc = .ok (.if_icmp .le off, 3)) (ht : (pc : Int) + off = (tgt : Int)) (kt : a ≤ b → W p l e Rm s m args below meth c H locs cells slots Q (F0 m tgt ls rest)) (kf : b < a → W p l e Rm s m args below meth c H locs cells slots Q (F0 m (pc + 3) ls rest)) : W p l e Rm s m args below meth c H locs cells slots Q (F0 m pc ls (.int (nI b) :: .int (nI a) :: rest)) := lv_icmp_le hx hb hdg ht (fun h => kt ((nI_leI ha hb2).mp h)) (fun h => kf (by have h2 := mt (nI_leI ha hb2).mpr h; omega))
theorem n_icmp_eq (hx : p.tables.exec = Jvm.exec) (hb : c.code = cc) {a b : Nat} {off : Int} {tgt : Nat} (ha : a < 2 ^ 31) (hb2 : b < 2 ^ 31) (hdg : decode cc pc = .ok (.if_icmp .eq off, 3)) (ht : (pc : Int) + off = (tgt : Int)) (kt : a = b → W p l e Rm s m args below meth c H locs cells slots Q (F0 m tgt ls rest)) (kf : a ≠ b → W p l e Rm s m args below meth c H locs cells slots Q (F0 m (pc + 3) ls rest)) : W p l e Rm s m args below meth c H locs cells slots Q (F0 m pc ls (.int (nI b) :: .int (nI a) :: rest)) := lv_icmp_eq hx hb hdg ht (fun h => kt ((nI_eq ha hb2).mp h)) (fun h => kf (by have h2 := mt (nI_eq ha hb2).mpr h; omega))
theorem n_icmp_ne (hx : p.tables.exec = Jvm.exec) (hb : c.code = cc) {a b : Nat} {off : Int} {tgt : Nat} (ha : a < 2 ^ 31) (hb2 : b < 2 ^ 31) (hdg : decode cc pc = .ok (.if_icmp .ne off, 3)) (ht : (pc : Int) + off = (tgt : Int)) (kt : a ≠ b → W p l e Rm s m args below meth c H locs cells slots Q (F0 m tgt ls rest)) (kf : a = b → W p l e Rm s m args below meth c H locs cells slots Q (F0 m (pc + 3) ls rest)) : W p l e Rm s m args below meth c H locs cells slots Q (F0 m pc ls (.int (nI b) :: .int (nI a) :: rest)) := lv_icmp_ne hx hb hdg ht (fun h => kt (fun q => h ((nI_eq ha hb2).mpr q))) (fun h => kf ((nI_eq ha hb2).mp h))
theorem n_if_eq (hx : p.tables.exec = Jvm.exec) (hb : c.code = cc) {a : Nat} {off : Int} {tgt : Nat} (ha : a < 2 ^ 31) (hdg : decode cc pc = .ok (.ifCond .eq off, 3)) (ht : (pc : Int) + off = (tgt : Int)) (kt : a = 0 → W p l e Rm s m args below meth c H locs cells slots Q (F0 m tgt ls rest)) (kf : a ≠ 0 → W p l e Rm s m args below meth c H locs cells slots Q (F0 m (pc + 3) ls rest)) : W p l e Rm s m args below meth c H locs cells slots Q (F0 m pc ls (.int (nI a) :: rest)) := lv_if_eq hx hb hdg ht (fun h => kt ((nI_eq ha (by decide)).mp (h.trans nI_0.symm))) (fun h => kf (fun q => h (by rw [q]; exact nI_0)))
theorem n_if_ne (hx : p.tables.exec = Jvm.exec) (hb : c.code = cc) {a : Nat} {off : Int} {tgt : Nat} (ha : a < 2 ^ 31) (hdg : decode cc pc = .ok (.ifCond .ne off, 3)) (ht : (pc : Int) + off = (tgt : Int)) (kt : a ≠ 0 → W p l e Rm s m args below meth c H locs cells slots Q (F0 m tgt ls rest)) (kf : a = 0 → W p l e Rm s m args below meth c H locs cells slots Q (F0 m (pc + 3) ls rest)) : W p l e Rm s m args below meth c H locs cells slots Q (F0 m pc ls (.int (nI a) :: rest)) := lv_if_ne hx hb hdg ht (fun h => kt (fun q => h (by rw [q]; exact nI_0))) (fun h => kf ((nI_eq ha (by decide)).mp (h.trans nI_0.symm)))
/-- the top of the stack by another name -/
theorem n_top  {x y : Int32} (h : x = y) (k : W p l e Rm s m args below meth c H locs cells slots Q (F0 m pc ls (.int y :: rest))) : W p l e Rm s m args below meth c H locs cells slots Q (F0 m pc ls (.int x :: rest)) := by rw [h]; exact k
theorem n_topl  {x y : Int64} (h : x = y) (k : W p l e Rm s m args below meth c H locs cells slots Q (F0 m pc ls (.long y :: rest))) : W p l e Rm s m args below meth c H locs cells slots Q (F0 m pc ls (.long x :: rest)) := by rw [h]; exact k
theorem j_if_ge (hx : p.tables.exec = Jvm.exec) (hb : c.code = cc) {x y : Int64} {off : Int} {tgt : Nat} (hdg : decode cc pc = .ok (.ifCond .ge off, 3)) (ht : (pc : Int) + off = (tgt : Int)) (kt : y ≤ x → W p l e Rm s m args below meth c H locs cells slots Q (F0 m tgt ls rest)) (kf : ¬ (y ≤ x) → W p l e Rm s m args below meth c H locs cells slots Q (F0 m (pc + 3) ls rest)) : W p l e Rm s m args below meth c H locs cells slots Q (F0 m pc ls (.int (lg_cmp x y) :: rest)) := lv_if_ge hx hb hdg ht (fun h => kt ((lg_cmp_ge x y).mp h)) (fun h => kf (mt (lg_cmp_ge x y).mpr h))
theorem j_if_le (hx : p.tables.exec = Jvm.exec) (hb : c.code = cc) {x y : Int64} {off : Int} {tgt : Nat} (hdg : decode cc pc = .ok (.ifCond .le off, 3)) (ht : (pc : Int) + off = (tgt : Int)) (kt : x ≤ y → W p l e Rm s m args below meth c H locs cells slots Q (F0 m tgt ls rest)) (kf : ¬ (x ≤ y) → W p l e Rm s m args below meth c H locs cells slots Q (F0 m (pc + 3) ls rest)) : W p l e Rm s m args below meth c H locs cells slots Q (F0 m pc ls (.int (lg_cmp x y) :: rest)) := lv_if_le hx hb hdg ht (fun h => kt ((lg_cmp_le x y).mp h)) (fun h => kf (mt (lg_cmp_le x y).mpr h))
theorem j_if_gt (hx : p.tables.exec = Jvm.exec) (hb : c.code = cc) {x y : Int64} {off : Int} {tgt : Nat} (hdg : decode cc pc = .ok (.ifCond .gt off, 3)) (ht : (pc : Int) + off = (tgt : Int)) (kt : y < x → W p l e Rm s m args below meth c H locs cells slots Q (F0 m tgt ls rest)) (kf : ¬ (y < x) → W p l e Rm s m args below meth c H locs cells slots Q (F0 m (pc + 3) ls rest)) : W p l e Rm s m args below meth c H locs cells slots Q (F0 m pc ls (.int (lg_cmp x y) :: rest)) := lv_if_gt hx hb hdg ht (fun h => kt ((lg_cmp_gt x y).mp h)) (fun h => kf (mt (lg_cmp_gt x y).mpr h))
theorem j_if_lt (hx : p.tables.exec = Jvm.exec) (hb : c.code = cc) {x y : Int64} {off : Int} {tgt : Nat} (hdg : decode cc pc = .ok (.ifCond .lt off, 3)) (ht : (pc : Int) + off = (tgt : Int)) (kt : x < y → W p l e Rm s m args below meth c H locs cells slots Q (F0 m tgt ls rest)) (kf : ¬ (x < y) → W p l e Rm s m args below meth c H locs cells slots Q (F0 m (pc + 3) ls rest)) : W p l e Rm s m args below meth c H locs cells slots Q (F0 m pc ls (.int (lg_cmp x y) :: rest)) := lv_if_lt hx hb hdg ht (fun h => kt ((lg_cmp_lt x y).mp h)) (fun h => kf (mt (lg_cmp_lt x y).mpr h))
theorem j_if_eq (hx : p.tables.exec = Jvm.exec) (hb : c.code = cc) {x y : Int64} {off : Int} {tgt : Nat} (hdg : decode cc pc = .ok (.ifCond .eq off, 3)) (ht : (pc : Int) + off = (tgt : Int)) (kt : x = y → W p l e Rm s m args below meth c H locs cells slots Q (F0 m tgt ls rest)) (kf : ¬ (x = y) → W p l e Rm s m args below meth c H locs cells slots Q (F0 m (pc + 3) ls rest)) : W p l e Rm s m args below meth c H locs cells slots Q (F0 m pc ls (.int (lg_cmp x y) :: rest)) := lv_if_eq hx hb hdg ht (fun h => kt ((lg_cmp_eq x y).mp h)) (fun h => kf (mt (lg_cmp_eq x y).mpr h))
theorem j_if_ne (hx : p.tables.exec = Jvm.exec) (hb : c.code = cc) {x y : Int64} {off : Int} {tgt : Nat} (hdg : decode cc pc = .ok (.ifCond .ne off, 3)) (ht : (pc : Int) + off = (tgt : Int)) (kt : ¬ x = y → W p l e Rm s m args below meth c H locs cells slots Q (F0 m tgt ls rest)) (kf : x = y → W p l e Rm s m args below meth c H locs cells slots Q (F0 m (pc + 3) ls rest)) : W p l e Rm s m args below meth c H locs cells slots Q (F0 m pc ls (.int (lg_cmp x y) :: rest)) := lv_if_ne hx hb hdg ht (fun h => kt (mt (lg_cmp_eq x y).mpr h)) (fun h => kf ((lg_cmp_eq x y).mp h))
theorem n_inc (a : Nat) : nI a + Int32.ofInt 1 = nI (a + 1) := nI_1 a
abbrev rmK (f k : Nat) : Room := { frames := f, cells := 0, slots := 0, locals := k }
def ps_in (x : Int32) (n : Nat) : Prop := ∃ k, k < n ∧ x = nI k
end NR
abbrev XS : Type := (Nat → Int32) × (Nat → Int32) × (Nat → Int64) × (Nat → Int64) × Int64 × (Nat → Int64) × Int64 × Int32 × Int32 × (Nat → Int64) × Int64 × (Nat → Int32)
abbrev MS : Type := (Nat → Int32) × (Nat → Int32) × (Nat → Int64) × (Nat → Int64) × (Nat → Int64)
def xF (h : Nat) (q : Nat → Nat) (d : Nat → ClassId) (u : XS) : va_W := [(h, .inr (0, [.ref (q 0), .ref (q 1), .ref (q 2), .ref (q 3), .long u.2.2.2.2.1, .ref (q 5), .long u.2.2.2.2.2.2.1, .int u.2.2.2.2.2.2.2.1, .int u.2.2.2.2.2.2.2.2.1, .ref (q 9), .long u.2.2.2.2.2.2.2.2.2.2.1, .ref (q 11)])), (q 0, .inl (d 0, 8, .inl u.1)), (q 1, .inl (d 1, 32, .inl u.2.1)), (q 2, .inl (d 2, 20, .inr (.inl u.2.2.1))), (q 3, .inl (d 3, 4, .inr (.inl u.2.2.2.1))), (q 5, .inl (d 5, 4, .inr (.inl u.2.2.2.2.2.1))), (q 9, .inl (d 9, 4, .inr (.inl u.2.2.2.2.2.2.2.2.2.1))), (q 11, .inl (d 11, 4, .inl u.2.2.2.2.2.2.2.2.2.2.2))]
def xT (d : Nat → ClassId) : List (ClassId × FieldType) := [(d 0, .byte), (d 1, .byte), (d 2, .long), (d 3, .long), (d 5, .long), (d 9, .long), (d 11, .byte)]
def mF (h : Nat) (q : Nat → Nat) (d : Nat → ClassId) (u : MS) : va_W := [(h, .inr (1, [.ref (q 0), .ref (q 1), .ref (q 2), .ref (q 3), .ref (q 4)])), (q 0, .inl (d 0, 8, .inl u.1)), (q 1, .inl (d 1, 32, .inl u.2.1)), (q 2, .inl (d 2, 20, .inr (.inl u.2.2.1))), (q 3, .inl (d 3, 64, .inr (.inl u.2.2.2.1))), (q 4, .inl (d 4, 64, .inr (.inl u.2.2.2.2)))]
def mT (d : Nat → ClassId) : List (ClassId × FieldType) := [(d 0, .int), (d 1, .int), (d 2, .long), (d 3, .long), (d 4, .long)]
def ww {S : Type} (D : va_G) (F : S → va_W) (A : Nat → Prop) (H0 H : Heap) (locs : List Loc) (u : S) : Prop := va_P D vwCl (F u) H ∧ va_D A (F u) ∧ va_S A H0 H locs
def xc (p : Program) (s : State) (m : MethodId) (args : Array Value) (c : Code) (cc : ByteArray) (nL : Nat) (own : String) (D : va_G) (T : List (ClassId × FieldType)) (A : Nat → Prop) : Prop := p.tables.exec = Jvm.exec ∧ c.code = cc ∧ c.maxLocals = nL ∧ s.vm.findClass own = some m.cls ∧ (∀ w ∈ lw_all, w.before args s = true) ∧ va_K D vwCl T s ∧ ∀ q, s.heap.size ≤ q → A q
section XR
variable {p : Program} {l : Launch} {e : Env} {Rm : Room} {s : State} {m : MethodId} {args : Array Value} {below : List Frame} {meth : Method} {c : Code} {H : Heap} {locs : List Loc} {cells slots : Nat} {Q : State → Prop}
variable {cc : ByteArray} {pc : Nat} {ls : Array Slot} {rest : List Value}
variable {D : va_G} {A : Nat → Prop} {H0 : Heap} {h nL : Nat} {q : Nat → Nat} {d : Nat → ClassId}
variable {R S g : Nat → Int32} {ra tp kt bt : Nat → Int64} {bo kb bd : Int64} {so bp : Int32}
theorem x_get0 (hc : xc p s m args c cc nL RX0 D (xT d) A) (hw : ww D (xF h q d) A H0 H locs (R, S, ra, tp, bo, kt, kb, so, bp, bt, bd, g)) (hdg : decode cc pc = .ok (.getfield 7, 3)) (k : W p l e Rm s m args below meth c H locs cells slots Q (F0 m (pc + 3) ls (.ref (q 0) :: rest))) : W p l e Rm s m args below meth c H locs cells slots Q (F0 m pc ls (.ref h :: rest)) := va_get (D := D) (ci := 0) (v := .ref (q 0)) (C := RX0) (T := TX0) (N := 12) hc.1 hc.2.1 hc.2.2.2.2.1 in_X0 hc.2.2.2.1 hc.2.2.2.2.2.1 hw.1 0 rfl rfl 0 (by decide) (hc.2.2.2.2.1 _ q37) (fun _ h9 => h9) rfl hdg k
theorem x_ld0 (hc : xc p s m args c cc nL RX0 D (xT d) A) (hw : ww D (xF h q d) A H0 H locs (R, S, ra, tp, bo, kt, kb, so, bp, bt, bd, g)) {n : Nat} (hn : n < 8) (hdg : decode cc pc = .ok (.baload, 1)) (k : W p l e Rm s m args below meth c H locs cells slots Q (F0 m (pc + 1) ls (.int (R n) :: rest))) : W p l e Rm s m args below meth c H locs cells slots Q (F0 m pc ls (.int (nI n) :: .ref (q 0) :: rest)) := by
  refine va_bald (f := R) hc.1 hc.2.1 hc.2.2.2.2.2.1 hw.1 1 0 rfl rfl (vp_in_nI hn (by decide)) hdg ?_
  rw [nI_clamp (by omega)]
  exact k
theorem x_st0 (hc : xc p s m args c cc nL RX0 D (xT d) A) (hw : ww D (xF h q d) A H0 H locs (R, S, ra, tp, bo, kt, kb, so, bp, bt, bd, g)) {n : Nat} {v : Int32} (hn : n < 8) (hdg : decode cc pc = .ok (.bastore, 1)) (kk : ∀ (H1 : Heap) (locs1 : List Loc), ww D (xF h q d) A H0 H1 locs1 (upd R n (vp_nar .byte v), S, ra, tp, bo, kt, kb, so, bp, bt, bd, g) → W p l e Rm s m args below meth c H1 locs1 cells slots Q (F0 m (pc + 1) ls rest)) : W p l e Rm s m args below meth c H locs cells slots Q (F0 m pc ls (.int v :: .int (nI n) :: .ref (q 0) :: rest)) := by
  refine va_bast (f := R) hc.1 hc.2.1 hc.2.2.2.2.2.1 hw.1 hw.2.1 hw.2.2 1 0 rfl rfl (vp_in_nI hn (by decide)) hdg (fun H1 locs1 hP hD hS => ?_)
  rw [nI_clamp (by omega)] at hP hD
  exact kk H1 locs1 ⟨hP, hD, hS⟩
theorem x_get1 (hc : xc p s m args c cc nL RX0 D (xT d) A) (hw : ww D (xF h q d) A H0 H locs (R, S, ra, tp, bo, kt, kb, so, bp, bt, bd, g)) (hdg : decode cc pc = .ok (.getfield 13, 3)) (k : W p l e Rm s m args below meth c H locs cells slots Q (F0 m (pc + 3) ls (.ref (q 1) :: rest))) : W p l e Rm s m args below meth c H locs cells slots Q (F0 m pc ls (.ref h :: rest)) := va_get (D := D) (ci := 0) (v := .ref (q 1)) (C := RX0) (T := TX0) (N := 12) hc.1 hc.2.1 hc.2.2.2.2.1 in_X0 hc.2.2.2.1 hc.2.2.2.2.2.1 hw.1 0 rfl rfl 1 (by decide) (hc.2.2.2.2.1 _ q38) (fun _ h9 => h9) rfl hdg k
theorem x_ld1 (hc : xc p s m args c cc nL RX0 D (xT d) A) (hw : ww D (xF h q d) A H0 H locs (R, S, ra, tp, bo, kt, kb, so, bp, bt, bd, g)) {n : Nat} (hn : n < 32) (hdg : decode cc pc = .ok (.baload, 1)) (k : W p l e Rm s m args below meth c H locs cells slots Q (F0 m (pc + 1) ls (.int (S n) :: rest))) : W p l e Rm s m args below meth c H locs cells slots Q (F0 m pc ls (.int (nI n) :: .ref (q 1) :: rest)) := by
  refine va_bald (f := S) hc.1 hc.2.1 hc.2.2.2.2.2.1 hw.1 2 1 rfl rfl (vp_in_nI hn (by decide)) hdg ?_
  rw [nI_clamp (by omega)]
  exact k
theorem x_st1 (hc : xc p s m args c cc nL RX0 D (xT d) A) (hw : ww D (xF h q d) A H0 H locs (R, S, ra, tp, bo, kt, kb, so, bp, bt, bd, g)) {n : Nat} {v : Int32} (hn : n < 32) (hdg : decode cc pc = .ok (.bastore, 1)) (kk : ∀ (H1 : Heap) (locs1 : List Loc), ww D (xF h q d) A H0 H1 locs1 (R, upd S n (vp_nar .byte v), ra, tp, bo, kt, kb, so, bp, bt, bd, g) → W p l e Rm s m args below meth c H1 locs1 cells slots Q (F0 m (pc + 1) ls rest)) : W p l e Rm s m args below meth c H locs cells slots Q (F0 m pc ls (.int v :: .int (nI n) :: .ref (q 1) :: rest)) := by
  refine va_bast (f := S) hc.1 hc.2.1 hc.2.2.2.2.2.1 hw.1 hw.2.1 hw.2.2 2 1 rfl rfl (vp_in_nI hn (by decide)) hdg (fun H1 locs1 hP hD hS => ?_)
  rw [nI_clamp (by omega)] at hP hD
  exact kk H1 locs1 ⟨hP, hD, hS⟩
theorem x_get2 (hc : xc p s m args c cc nL RX0 D (xT d) A) (hw : ww D (xF h q d) A H0 H locs (R, S, ra, tp, bo, kt, kb, so, bp, bt, bd, g)) (hdg : decode cc pc = .ok (.getfield 16, 3)) (k : W p l e Rm s m args below meth c H locs cells slots Q (F0 m (pc + 3) ls (.ref (q 2) :: rest))) : W p l e Rm s m args below meth c H locs cells slots Q (F0 m pc ls (.ref h :: rest)) := va_get (D := D) (ci := 0) (v := .ref (q 2)) (C := RX0) (T := TX0) (N := 12) hc.1 hc.2.1 hc.2.2.2.2.1 in_X0 hc.2.2.2.1 hc.2.2.2.2.2.1 hw.1 0 rfl rfl 2 (by decide) (hc.2.2.2.2.1 _ q39) (fun _ h9 => h9) rfl hdg k
theorem x_ld2 (hc : xc p s m args c cc nL RX0 D (xT d) A) (hw : ww D (xF h q d) A H0 H locs (R, S, ra, tp, bo, kt, kb, so, bp, bt, bd, g)) {n : Nat} (hn : n < 20) (hdg : decode cc pc = .ok (.laload, 1)) (k : W p l e Rm s m args below meth c H locs cells slots Q (F0 m (pc + 1) ls (.long (ra n) :: rest))) : W p l e Rm s m args below meth c H locs cells slots Q (F0 m pc ls (.int (nI n) :: .ref (q 2) :: rest)) := by
  refine va_lald (f := ra) hc.1 hc.2.1 hc.2.2.2.2.2.1 hw.1 3 2 rfl rfl (vp_in_nI hn (by decide)) hdg ?_
  rw [nI_clamp (by omega)]
  exact k
theorem x_st2 (hc : xc p s m args c cc nL RX0 D (xT d) A) (hw : ww D (xF h q d) A H0 H locs (R, S, ra, tp, bo, kt, kb, so, bp, bt, bd, g)) {n : Nat} {v : Int64} (hn : n < 20) (hdg : decode cc pc = .ok (.lastore, 1)) (kk : ∀ (H1 : Heap) (locs1 : List Loc), ww D (xF h q d) A H0 H1 locs1 (R, S, vp_updL ra n v, tp, bo, kt, kb, so, bp, bt, bd, g) → W p l e Rm s m args below meth c H1 locs1 cells slots Q (F0 m (pc + 1) ls rest)) : W p l e Rm s m args below meth c H locs cells slots Q (F0 m pc ls (.long v :: .int (nI n) :: .ref (q 2) :: rest)) := by
  refine va_last (f := ra) hc.1 hc.2.1 hc.2.2.2.2.2.1 hw.1 hw.2.1 hw.2.2 3 2 rfl rfl (vp_in_nI hn (by decide)) hdg (fun H1 locs1 hP hD hS => ?_)
  rw [nI_clamp (by omega)] at hP hD
  exact kk H1 locs1 ⟨hP, hD, hS⟩
theorem x_get3 (hc : xc p s m args c cc nL RX0 D (xT d) A) (hw : ww D (xF h q d) A H0 H locs (R, S, ra, tp, bo, kt, kb, so, bp, bt, bd, g)) (hdg : decode cc pc = .ok (.getfield 20, 3)) (k : W p l e Rm s m args below meth c H locs cells slots Q (F0 m (pc + 3) ls (.ref (q 3) :: rest))) : W p l e Rm s m args below meth c H locs cells slots Q (F0 m pc ls (.ref h :: rest)) := va_get (D := D) (ci := 0) (v := .ref (q 3)) (C := RX0) (T := TX0) (N := 12) hc.1 hc.2.1 hc.2.2.2.2.1 in_X0 hc.2.2.2.1 hc.2.2.2.2.2.1 hw.1 0 rfl rfl 3 (by decide) (hc.2.2.2.2.1 _ q40) (fun _ h9 => h9) rfl hdg k
theorem x_ld3 (hc : xc p s m args c cc nL RX0 D (xT d) A) (hw : ww D (xF h q d) A H0 H locs (R, S, ra, tp, bo, kt, kb, so, bp, bt, bd, g)) {n : Nat} (hn : n < 4) (hdg : decode cc pc = .ok (.laload, 1)) (k : W p l e Rm s m args below meth c H locs cells slots Q (F0 m (pc + 1) ls (.long (tp n) :: rest))) : W p l e Rm s m args below meth c H locs cells slots Q (F0 m pc ls (.int (nI n) :: .ref (q 3) :: rest)) := by
  refine va_lald (f := tp) hc.1 hc.2.1 hc.2.2.2.2.2.1 hw.1 4 3 rfl rfl (vp_in_nI hn (by decide)) hdg ?_
  rw [nI_clamp (by omega)]
  exact k
theorem x_st3 (hc : xc p s m args c cc nL RX0 D (xT d) A) (hw : ww D (xF h q d) A H0 H locs (R, S, ra, tp, bo, kt, kb, so, bp, bt, bd, g)) {n : Nat} {v : Int64} (hn : n < 4) (hdg : decode cc pc = .ok (.lastore, 1)) (kk : ∀ (H1 : Heap) (locs1 : List Loc), ww D (xF h q d) A H0 H1 locs1 (R, S, ra, vp_updL tp n v, bo, kt, kb, so, bp, bt, bd, g) → W p l e Rm s m args below meth c H1 locs1 cells slots Q (F0 m (pc + 1) ls rest)) : W p l e Rm s m args below meth c H locs cells slots Q (F0 m pc ls (.long v :: .int (nI n) :: .ref (q 3) :: rest)) := by
  refine va_last (f := tp) hc.1 hc.2.1 hc.2.2.2.2.2.1 hw.1 hw.2.1 hw.2.2 4 3 rfl rfl (vp_in_nI hn (by decide)) hdg (fun H1 locs1 hP hD hS => ?_)
  rw [nI_clamp (by omega)] at hP hD
  exact kk H1 locs1 ⟨hP, hD, hS⟩
theorem x_get4 (hc : xc p s m args c cc nL RX0 D (xT d) A) (hw : ww D (xF h q d) A H0 H locs (R, S, ra, tp, bo, kt, kb, so, bp, bt, bd, g)) (hdg : decode cc pc = .ok (.getfield 48, 3)) (k : W p l e Rm s m args below meth c H locs cells slots Q (F0 m (pc + 3) ls (.long bo :: rest))) : W p l e Rm s m args below meth c H locs cells slots Q (F0 m pc ls (.ref h :: rest)) := va_get (D := D) (ci := 0) (v := .long bo) (C := RX0) (T := TX0) (N := 12) hc.1 hc.2.1 hc.2.2.2.2.1 in_X0 hc.2.2.2.1 hc.2.2.2.2.2.1 hw.1 0 rfl rfl 4 (by decide) (hc.2.2.2.2.1 _ q41) (fun _ h9 => h9) rfl hdg k
theorem x_put4 (hc : xc p s m args c cc nL RX0 D (xT d) A) (hw : ww D (xF h q d) A H0 H locs (R, S, ra, tp, bo, kt, kb, so, bp, bt, bd, g)) {v : Int64} (hdg : decode cc pc = .ok (.putfield 48, 3)) (kk : ∀ (H1 : Heap) (locs1 : List Loc), ww D (xF h q d) A H0 H1 locs1 (R, S, ra, tp, v, kt, kb, so, bp, bt, bd, g) → W p l e Rm s m args below meth c H1 locs1 cells slots Q (F0 m (pc + 3) ls rest)) : W p l e Rm s m args below meth c H locs cells slots Q (F0 m pc ls (.long v :: .ref h :: rest)) := va_put (D := D) (ci := 0) (v := .long v) (ty := .long) (C := RX0) (T := TX0) (N := 12) hc.1 hc.2.1 hc.2.2.2.2.1 in_X0 tyX0 tyX0_ok nmX0 hc.2.2.2.1 hc.2.2.2.2.2.1 hw.1 hw.2.1 hw.2.2 0 rfl rfl 4 (by decide) (hc.2.2.2.2.1 _ q41) (fun _ h9 => h9) rfl (by decide +kernel) rfl rfl (Nat.le_of_ble_eq_true rfl) hdg (fun H1 locs1 hP hD hS => kk H1 locs1 ⟨hP, hD, hS⟩)
theorem x_get5 (hc : xc p s m args c cc nL RX0 D (xT d) A) (hw : ww D (xF h q d) A H0 H locs (R, S, ra, tp, bo, kt, kb, so, bp, bt, bd, g)) (hdg : decode cc pc = .ok (.getfield 23, 3)) (k : W p l e Rm s m args below meth c H locs cells slots Q (F0 m (pc + 3) ls (.ref (q 5) :: rest))) : W p l e Rm s m args below meth c H locs cells slots Q (F0 m pc ls (.ref h :: rest)) := va_get (D := D) (ci := 0) (v := .ref (q 5)) (C := RX0) (T := TX0) (N := 12) hc.1 hc.2.1 hc.2.2.2.2.1 in_X0 hc.2.2.2.1 hc.2.2.2.2.2.1 hw.1 0 rfl rfl 5 (by decide) (hc.2.2.2.2.1 _ q42) (fun _ h9 => h9) rfl hdg k
theorem x_ld5 (hc : xc p s m args c cc nL RX0 D (xT d) A) (hw : ww D (xF h q d) A H0 H locs (R, S, ra, tp, bo, kt, kb, so, bp, bt, bd, g)) {n : Nat} (hn : n < 4) (hdg : decode cc pc = .ok (.laload, 1)) (k : W p l e Rm s m args below meth c H locs cells slots Q (F0 m (pc + 1) ls (.long (kt n) :: rest))) : W p l e Rm s m args below meth c H locs cells slots Q (F0 m pc ls (.int (nI n) :: .ref (q 5) :: rest)) := by
  refine va_lald (f := kt) hc.1 hc.2.1 hc.2.2.2.2.2.1 hw.1 5 4 rfl rfl (vp_in_nI hn (by decide)) hdg ?_
  rw [nI_clamp (by omega)]
  exact k
theorem x_st5 (hc : xc p s m args c cc nL RX0 D (xT d) A) (hw : ww D (xF h q d) A H0 H locs (R, S, ra, tp, bo, kt, kb, so, bp, bt, bd, g)) {n : Nat} {v : Int64} (hn : n < 4) (hdg : decode cc pc = .ok (.lastore, 1)) (kk : ∀ (H1 : Heap) (locs1 : List Loc), ww D (xF h q d) A H0 H1 locs1 (R, S, ra, tp, bo, vp_updL kt n v, kb, so, bp, bt, bd, g) → W p l e Rm s m args below meth c H1 locs1 cells slots Q (F0 m (pc + 1) ls rest)) : W p l e Rm s m args below meth c H locs cells slots Q (F0 m pc ls (.long v :: .int (nI n) :: .ref (q 5) :: rest)) := by
  refine va_last (f := kt) hc.1 hc.2.1 hc.2.2.2.2.2.1 hw.1 hw.2.1 hw.2.2 5 4 rfl rfl (vp_in_nI hn (by decide)) hdg (fun H1 locs1 hP hD hS => ?_)
  rw [nI_clamp (by omega)] at hP hD
  exact kk H1 locs1 ⟨hP, hD, hS⟩
theorem x_get6 (hc : xc p s m args c cc nL RX0 D (xT d) A) (hw : ww D (xF h q d) A H0 H locs (R, S, ra, tp, bo, kt, kb, so, bp, bt, bd, g)) (hdg : decode cc pc = .ok (.getfield 72, 3)) (k : W p l e Rm s m args below meth c H locs cells slots Q (F0 m (pc + 3) ls (.long kb :: rest))) : W p l e Rm s m args below meth c H locs cells slots Q (F0 m pc ls (.ref h :: rest)) := va_get (D := D) (ci := 0) (v := .long kb) (C := RX0) (T := TX0) (N := 12) hc.1 hc.2.1 hc.2.2.2.2.1 in_X0 hc.2.2.2.1 hc.2.2.2.2.2.1 hw.1 0 rfl rfl 6 (by decide) (hc.2.2.2.2.1 _ q43) (fun _ h9 => h9) rfl hdg k
theorem x_put6 (hc : xc p s m args c cc nL RX0 D (xT d) A) (hw : ww D (xF h q d) A H0 H locs (R, S, ra, tp, bo, kt, kb, so, bp, bt, bd, g)) {v : Int64} (hdg : decode cc pc = .ok (.putfield 72, 3)) (kk : ∀ (H1 : Heap) (locs1 : List Loc), ww D (xF h q d) A H0 H1 locs1 (R, S, ra, tp, bo, kt, v, so, bp, bt, bd, g) → W p l e Rm s m args below meth c H1 locs1 cells slots Q (F0 m (pc + 3) ls rest)) : W p l e Rm s m args below meth c H locs cells slots Q (F0 m pc ls (.long v :: .ref h :: rest)) := va_put (D := D) (ci := 0) (v := .long v) (ty := .long) (C := RX0) (T := TX0) (N := 12) hc.1 hc.2.1 hc.2.2.2.2.1 in_X0 tyX0 tyX0_ok nmX0 hc.2.2.2.1 hc.2.2.2.2.2.1 hw.1 hw.2.1 hw.2.2 0 rfl rfl 6 (by decide) (hc.2.2.2.2.1 _ q43) (fun _ h9 => h9) rfl (by decide +kernel) rfl rfl (Nat.le_of_ble_eq_true rfl) hdg (fun H1 locs1 hP hD hS => kk H1 locs1 ⟨hP, hD, hS⟩)
theorem x_get7 (hc : xc p s m args c cc nL RX0 D (xT d) A) (hw : ww D (xF h q d) A H0 H locs (R, S, ra, tp, bo, kt, kb, so, bp, bt, bd, g)) (hdg : decode cc pc = .ok (.getfield 36, 3)) (k : W p l e Rm s m args below meth c H locs cells slots Q (F0 m (pc + 3) ls (.int so :: rest))) : W p l e Rm s m args below meth c H locs cells slots Q (F0 m pc ls (.ref h :: rest)) := va_get (D := D) (ci := 0) (v := .int so) (C := RX0) (T := TX0) (N := 12) hc.1 hc.2.1 hc.2.2.2.2.1 in_X0 hc.2.2.2.1 hc.2.2.2.2.2.1 hw.1 0 rfl rfl 7 (by decide) (hc.2.2.2.2.1 _ q44) (fun _ h9 => h9) rfl hdg k
theorem x_put7 (hc : xc p s m args c cc nL RX0 D (xT d) A) (hw : ww D (xF h q d) A H0 H locs (R, S, ra, tp, bo, kt, kb, so, bp, bt, bd, g)) {v : Int32} (hv : v = 0 ∨ v = 1) (hdg : decode cc pc = .ok (.putfield 36, 3)) (kk : ∀ (H1 : Heap) (locs1 : List Loc), ww D (xF h q d) A H0 H1 locs1 (R, S, ra, tp, bo, kt, kb, v, bp, bt, bd, g) → W p l e Rm s m args below meth c H1 locs1 cells slots Q (F0 m (pc + 3) ls rest)) : W p l e Rm s m args below meth c H locs cells slots Q (F0 m pc ls (.int v :: .ref h :: rest)) := by
  refine va_put (D := D) (ci := 0) (v := .int v) (ty := .boolean) (C := RX0) (T := TX0) (N := 12) hc.1 hc.2.1 hc.2.2.2.2.1 in_X0 tyX0 tyX0_ok nmX0 hc.2.2.2.1 hc.2.2.2.2.2.1 hw.1 hw.2.1 hw.2.2 0 rfl rfl 7 (by decide) (hc.2.2.2.2.1 _ q44) (fun _ h9 => h9) rfl (by decide +kernel) (by rcases hv with rfl | rfl <;> rfl) (by rcases hv with rfl | rfl <;> rfl) (Nat.le_of_ble_eq_true rfl) hdg (fun H1 locs1 hP hD hS => kk H1 locs1 ⟨hP, hD, hS⟩)
theorem x_get8 (hc : xc p s m args c cc nL RX0 D (xT d) A) (hw : ww D (xF h q d) A H0 H locs (R, S, ra, tp, bo, kt, kb, so, bp, bt, bd, g)) (hdg : decode cc pc = .ok (.getfield 88, 3)) (k : W p l e Rm s m args below meth c H locs cells slots Q (F0 m (pc + 3) ls (.int bp :: rest))) : W p l e Rm s m args below meth c H locs cells slots Q (F0 m pc ls (.ref h :: rest)) := va_get (D := D) (ci := 0) (v := .int bp) (C := RX0) (T := TX0) (N := 12) hc.1 hc.2.1 hc.2.2.2.2.1 in_X0 hc.2.2.2.1 hc.2.2.2.2.2.1 hw.1 0 rfl rfl 8 (by decide) (hc.2.2.2.2.1 _ q45) (fun _ h9 => h9) rfl hdg k
theorem x_put8 (hc : xc p s m args c cc nL RX0 D (xT d) A) (hw : ww D (xF h q d) A H0 H locs (R, S, ra, tp, bo, kt, kb, so, bp, bt, bd, g)) {v : Int32} (hdg : decode cc pc = .ok (.putfield 88, 3)) (kk : ∀ (H1 : Heap) (locs1 : List Loc), ww D (xF h q d) A H0 H1 locs1 (R, S, ra, tp, bo, kt, kb, so, v, bt, bd, g) → W p l e Rm s m args below meth c H1 locs1 cells slots Q (F0 m (pc + 3) ls rest)) : W p l e Rm s m args below meth c H locs cells slots Q (F0 m pc ls (.int v :: .ref h :: rest)) := va_put (D := D) (ci := 0) (v := .int v) (ty := .int) (C := RX0) (T := TX0) (N := 12) hc.1 hc.2.1 hc.2.2.2.2.1 in_X0 tyX0 tyX0_ok nmX0 hc.2.2.2.1 hc.2.2.2.2.2.1 hw.1 hw.2.1 hw.2.2 0 rfl rfl 8 (by decide) (hc.2.2.2.2.1 _ q45) (fun _ h9 => h9) rfl (by decide +kernel) rfl rfl (Nat.le_of_ble_eq_true rfl) hdg (fun H1 locs1 hP hD hS => kk H1 locs1 ⟨hP, hD, hS⟩)
theorem x_get9 (hc : xc p s m args c cc nL RX0 D (xT d) A) (hw : ww D (xF h q d) A H0 H locs (R, S, ra, tp, bo, kt, kb, so, bp, bt, bd, g)) (hdg : decode cc pc = .ok (.getfield 26, 3)) (k : W p l e Rm s m args below meth c H locs cells slots Q (F0 m (pc + 3) ls (.ref (q 9) :: rest))) : W p l e Rm s m args below meth c H locs cells slots Q (F0 m pc ls (.ref h :: rest)) := va_get (D := D) (ci := 0) (v := .ref (q 9)) (C := RX0) (T := TX0) (N := 12) hc.1 hc.2.1 hc.2.2.2.2.1 in_X0 hc.2.2.2.1 hc.2.2.2.2.2.1 hw.1 0 rfl rfl 9 (by decide) (hc.2.2.2.2.1 _ q46) (fun _ h9 => h9) rfl hdg k
theorem x_ld9 (hc : xc p s m args c cc nL RX0 D (xT d) A) (hw : ww D (xF h q d) A H0 H locs (R, S, ra, tp, bo, kt, kb, so, bp, bt, bd, g)) {n : Nat} (hn : n < 4) (hdg : decode cc pc = .ok (.laload, 1)) (k : W p l e Rm s m args below meth c H locs cells slots Q (F0 m (pc + 1) ls (.long (bt n) :: rest))) : W p l e Rm s m args below meth c H locs cells slots Q (F0 m pc ls (.int (nI n) :: .ref (q 9) :: rest)) := by
  refine va_lald (f := bt) hc.1 hc.2.1 hc.2.2.2.2.2.1 hw.1 6 5 rfl rfl (vp_in_nI hn (by decide)) hdg ?_
  rw [nI_clamp (by omega)]
  exact k
theorem x_st9 (hc : xc p s m args c cc nL RX0 D (xT d) A) (hw : ww D (xF h q d) A H0 H locs (R, S, ra, tp, bo, kt, kb, so, bp, bt, bd, g)) {n : Nat} {v : Int64} (hn : n < 4) (hdg : decode cc pc = .ok (.lastore, 1)) (kk : ∀ (H1 : Heap) (locs1 : List Loc), ww D (xF h q d) A H0 H1 locs1 (R, S, ra, tp, bo, kt, kb, so, bp, vp_updL bt n v, bd, g) → W p l e Rm s m args below meth c H1 locs1 cells slots Q (F0 m (pc + 1) ls rest)) : W p l e Rm s m args below meth c H locs cells slots Q (F0 m pc ls (.long v :: .int (nI n) :: .ref (q 9) :: rest)) := by
  refine va_last (f := bt) hc.1 hc.2.1 hc.2.2.2.2.2.1 hw.1 hw.2.1 hw.2.2 6 5 rfl rfl (vp_in_nI hn (by decide)) hdg (fun H1 locs1 hP hD hS => ?_)
  rw [nI_clamp (by omega)] at hP hD
  exact kk H1 locs1 ⟨hP, hD, hS⟩
theorem x_get10 (hc : xc p s m args c cc nL RX0 D (xT d) A) (hw : ww D (xF h q d) A H0 H locs (R, S, ra, tp, bo, kt, kb, so, bp, bt, bd, g)) (hdg : decode cc pc = .ok (.getfield 62, 3)) (k : W p l e Rm s m args below meth c H locs cells slots Q (F0 m (pc + 3) ls (.long bd :: rest))) : W p l e Rm s m args below meth c H locs cells slots Q (F0 m pc ls (.ref h :: rest)) := va_get (D := D) (ci := 0) (v := .long bd) (C := RX0) (T := TX0) (N := 12) hc.1 hc.2.1 hc.2.2.2.2.1 in_X0 hc.2.2.2.1 hc.2.2.2.2.2.1 hw.1 0 rfl rfl 10 (by decide) (hc.2.2.2.2.1 _ q47) (fun _ h9 => h9) rfl hdg k
theorem x_put10 (hc : xc p s m args c cc nL RX0 D (xT d) A) (hw : ww D (xF h q d) A H0 H locs (R, S, ra, tp, bo, kt, kb, so, bp, bt, bd, g)) {v : Int64} (hdg : decode cc pc = .ok (.putfield 62, 3)) (kk : ∀ (H1 : Heap) (locs1 : List Loc), ww D (xF h q d) A H0 H1 locs1 (R, S, ra, tp, bo, kt, kb, so, bp, bt, v, g) → W p l e Rm s m args below meth c H1 locs1 cells slots Q (F0 m (pc + 3) ls rest)) : W p l e Rm s m args below meth c H locs cells slots Q (F0 m pc ls (.long v :: .ref h :: rest)) := va_put (D := D) (ci := 0) (v := .long v) (ty := .long) (C := RX0) (T := TX0) (N := 12) hc.1 hc.2.1 hc.2.2.2.2.1 in_X0 tyX0 tyX0_ok nmX0 hc.2.2.2.1 hc.2.2.2.2.2.1 hw.1 hw.2.1 hw.2.2 0 rfl rfl 10 (by decide) (hc.2.2.2.2.1 _ q47) (fun _ h9 => h9) rfl (by decide +kernel) rfl rfl (Nat.le_of_ble_eq_true rfl) hdg (fun H1 locs1 hP hD hS => kk H1 locs1 ⟨hP, hD, hS⟩)
theorem x_get11 (hc : xc p s m args c cc nL RX0 D (xT d) A) (hw : ww D (xF h q d) A H0 H locs (R, S, ra, tp, bo, kt, kb, so, bp, bt, bd, g)) (hdg : decode cc pc = .ok (.getfield 29, 3)) (k : W p l e Rm s m args below meth c H locs cells slots Q (F0 m (pc + 3) ls (.ref (q 11) :: rest))) : W p l e Rm s m args below meth c H locs cells slots Q (F0 m pc ls (.ref h :: rest)) := va_get (D := D) (ci := 0) (v := .ref (q 11)) (C := RX0) (T := TX0) (N := 12) hc.1 hc.2.1 hc.2.2.2.2.1 in_X0 hc.2.2.2.1 hc.2.2.2.2.2.1 hw.1 0 rfl rfl 11 (by decide) (hc.2.2.2.2.1 _ q48) (fun _ h9 => h9) rfl hdg k
theorem x_ld11 (hc : xc p s m args c cc nL RX0 D (xT d) A) (hw : ww D (xF h q d) A H0 H locs (R, S, ra, tp, bo, kt, kb, so, bp, bt, bd, g)) {n : Nat} (hn : n < 4) (hdg : decode cc pc = .ok (.baload, 1)) (k : W p l e Rm s m args below meth c H locs cells slots Q (F0 m (pc + 1) ls (.int (g n) :: rest))) : W p l e Rm s m args below meth c H locs cells slots Q (F0 m pc ls (.int (nI n) :: .ref (q 11) :: rest)) := by
  refine va_bald (f := g) hc.1 hc.2.1 hc.2.2.2.2.2.1 hw.1 7 6 rfl rfl (vp_in_nI hn (by decide)) hdg ?_
  rw [nI_clamp (by omega)]
  exact k
theorem x_st11 (hc : xc p s m args c cc nL RX0 D (xT d) A) (hw : ww D (xF h q d) A H0 H locs (R, S, ra, tp, bo, kt, kb, so, bp, bt, bd, g)) {n : Nat} {v : Int32} (hn : n < 4) (hdg : decode cc pc = .ok (.bastore, 1)) (kk : ∀ (H1 : Heap) (locs1 : List Loc), ww D (xF h q d) A H0 H1 locs1 (R, S, ra, tp, bo, kt, kb, so, bp, bt, bd, upd g n (vp_nar .byte v)) → W p l e Rm s m args below meth c H1 locs1 cells slots Q (F0 m (pc + 1) ls rest)) : W p l e Rm s m args below meth c H locs cells slots Q (F0 m pc ls (.int v :: .int (nI n) :: .ref (q 11) :: rest)) := by
  refine va_bast (f := g) hc.1 hc.2.1 hc.2.2.2.2.2.1 hw.1 hw.2.1 hw.2.2 7 6 rfl rfl (vp_in_nI hn (by decide)) hdg (fun H1 locs1 hP hD hS => ?_)
  rw [nI_clamp (by omega)] at hP hD
  exact kk H1 locs1 ⟨hP, hD, hS⟩
theorem m_get0 (hc : xc p s m args c cc nL RX1 D (mT d) A) (hw : ww D (mF h q d) A H0 H locs (R, S, ra, tp, bt)) (hdg : decode cc pc = .ok (.getfield 7, 3)) (k : W p l e Rm s m args below meth c H locs cells slots Q (F0 m (pc + 3) ls (.ref (q 0) :: rest))) : W p l e Rm s m args below meth c H locs cells slots Q (F0 m pc ls (.ref h :: rest)) := va_get (D := D) (ci := 1) (v := .ref (q 0)) (C := RX1) (T := TX1) (N := 5) hc.1 hc.2.1 hc.2.2.2.2.1 in_X1 hc.2.2.2.1 hc.2.2.2.2.2.1 hw.1 0 rfl rfl 0 (by decide) (hc.2.2.2.2.1 _ q180) (fun _ h9 => h9) rfl hdg k
theorem m_ld0 (hc : xc p s m args c cc nL RX1 D (mT d) A) (hw : ww D (mF h q d) A H0 H locs (R, S, ra, tp, bt)) {n : Nat} (hn : n < 8) (hdg : decode cc pc = .ok (.iaload, 1)) (k : W p l e Rm s m args below meth c H locs cells slots Q (F0 m (pc + 1) ls (.int (R n) :: rest))) : W p l e Rm s m args below meth c H locs cells slots Q (F0 m pc ls (.int (nI n) :: .ref (q 0) :: rest)) := by
  refine va_iald (f := R) hc.1 hc.2.1 hc.2.2.2.2.2.1 hw.1 1 0 rfl rfl (vp_in_nI hn (by decide)) hdg ?_
  rw [nI_clamp (by omega)]
  exact k
theorem m_st0 (hc : xc p s m args c cc nL RX1 D (mT d) A) (hw : ww D (mF h q d) A H0 H locs (R, S, ra, tp, bt)) {n : Nat} {v : Int32} (hn : n < 8) (hdg : decode cc pc = .ok (.iastore, 1)) (kk : ∀ (H1 : Heap) (locs1 : List Loc), ww D (mF h q d) A H0 H1 locs1 (upd R n v, S, ra, tp, bt) → W p l e Rm s m args below meth c H1 locs1 cells slots Q (F0 m (pc + 1) ls rest)) : W p l e Rm s m args below meth c H locs cells slots Q (F0 m pc ls (.int v :: .int (nI n) :: .ref (q 0) :: rest)) := by
  refine va_iast (f := R) hc.1 hc.2.1 hc.2.2.2.2.2.1 hw.1 hw.2.1 hw.2.2 1 0 rfl rfl (vp_in_nI hn (by decide)) hdg (fun H1 locs1 hP hD hS => ?_)
  rw [nI_clamp (by omega)] at hP hD
  exact kk H1 locs1 ⟨hP, hD, hS⟩
theorem m_get1 (hc : xc p s m args c cc nL RX1 D (mT d) A) (hw : ww D (mF h q d) A H0 H locs (R, S, ra, tp, bt)) (hdg : decode cc pc = .ok (.getfield 13, 3)) (k : W p l e Rm s m args below meth c H locs cells slots Q (F0 m (pc + 3) ls (.ref (q 1) :: rest))) : W p l e Rm s m args below meth c H locs cells slots Q (F0 m pc ls (.ref h :: rest)) := va_get (D := D) (ci := 1) (v := .ref (q 1)) (C := RX1) (T := TX1) (N := 5) hc.1 hc.2.1 hc.2.2.2.2.1 in_X1 hc.2.2.2.1 hc.2.2.2.2.2.1 hw.1 0 rfl rfl 1 (by decide) (hc.2.2.2.2.1 _ q181) (fun _ h9 => h9) rfl hdg k
theorem m_ld1 (hc : xc p s m args c cc nL RX1 D (mT d) A) (hw : ww D (mF h q d) A H0 H locs (R, S, ra, tp, bt)) {n : Nat} (hn : n < 32) (hdg : decode cc pc = .ok (.iaload, 1)) (k : W p l e Rm s m args below meth c H locs cells slots Q (F0 m (pc + 1) ls (.int (S n) :: rest))) : W p l e Rm s m args below meth c H locs cells slots Q (F0 m pc ls (.int (nI n) :: .ref (q 1) :: rest)) := by
  refine va_iald (f := S) hc.1 hc.2.1 hc.2.2.2.2.2.1 hw.1 2 1 rfl rfl (vp_in_nI hn (by decide)) hdg ?_
  rw [nI_clamp (by omega)]
  exact k
theorem m_st1 (hc : xc p s m args c cc nL RX1 D (mT d) A) (hw : ww D (mF h q d) A H0 H locs (R, S, ra, tp, bt)) {n : Nat} {v : Int32} (hn : n < 32) (hdg : decode cc pc = .ok (.iastore, 1)) (kk : ∀ (H1 : Heap) (locs1 : List Loc), ww D (mF h q d) A H0 H1 locs1 (R, upd S n v, ra, tp, bt) → W p l e Rm s m args below meth c H1 locs1 cells slots Q (F0 m (pc + 1) ls rest)) : W p l e Rm s m args below meth c H locs cells slots Q (F0 m pc ls (.int v :: .int (nI n) :: .ref (q 1) :: rest)) := by
  refine va_iast (f := S) hc.1 hc.2.1 hc.2.2.2.2.2.1 hw.1 hw.2.1 hw.2.2 2 1 rfl rfl (vp_in_nI hn (by decide)) hdg (fun H1 locs1 hP hD hS => ?_)
  rw [nI_clamp (by omega)] at hP hD
  exact kk H1 locs1 ⟨hP, hD, hS⟩
theorem m_get2 (hc : xc p s m args c cc nL RX1 D (mT d) A) (hw : ww D (mF h q d) A H0 H locs (R, S, ra, tp, bt)) (hdg : decode cc pc = .ok (.getfield 16, 3)) (k : W p l e Rm s m args below meth c H locs cells slots Q (F0 m (pc + 3) ls (.ref (q 2) :: rest))) : W p l e Rm s m args below meth c H locs cells slots Q (F0 m pc ls (.ref h :: rest)) := va_get (D := D) (ci := 1) (v := .ref (q 2)) (C := RX1) (T := TX1) (N := 5) hc.1 hc.2.1 hc.2.2.2.2.1 in_X1 hc.2.2.2.1 hc.2.2.2.2.2.1 hw.1 0 rfl rfl 2 (by decide) (hc.2.2.2.2.1 _ q182) (fun _ h9 => h9) rfl hdg k
theorem m_ld2 (hc : xc p s m args c cc nL RX1 D (mT d) A) (hw : ww D (mF h q d) A H0 H locs (R, S, ra, tp, bt)) {n : Nat} (hn : n < 20) (hdg : decode cc pc = .ok (.laload, 1)) (k : W p l e Rm s m args below meth c H locs cells slots Q (F0 m (pc + 1) ls (.long (ra n) :: rest))) : W p l e Rm s m args below meth c H locs cells slots Q (F0 m pc ls (.int (nI n) :: .ref (q 2) :: rest)) := by
  refine va_lald (f := ra) hc.1 hc.2.1 hc.2.2.2.2.2.1 hw.1 3 2 rfl rfl (vp_in_nI hn (by decide)) hdg ?_
  rw [nI_clamp (by omega)]
  exact k
theorem m_st2 (hc : xc p s m args c cc nL RX1 D (mT d) A) (hw : ww D (mF h q d) A H0 H locs (R, S, ra, tp, bt)) {n : Nat} {v : Int64} (hn : n < 20) (hdg : decode cc pc = .ok (.lastore, 1)) (kk : ∀ (H1 : Heap) (locs1 : List Loc), ww D (mF h q d) A H0 H1 locs1 (R, S, vp_updL ra n v, tp, bt) → W p l e Rm s m args below meth c H1 locs1 cells slots Q (F0 m (pc + 1) ls rest)) : W p l e Rm s m args below meth c H locs cells slots Q (F0 m pc ls (.long v :: .int (nI n) :: .ref (q 2) :: rest)) := by
  refine va_last (f := ra) hc.1 hc.2.1 hc.2.2.2.2.2.1 hw.1 hw.2.1 hw.2.2 3 2 rfl rfl (vp_in_nI hn (by decide)) hdg (fun H1 locs1 hP hD hS => ?_)
  rw [nI_clamp (by omega)] at hP hD
  exact kk H1 locs1 ⟨hP, hD, hS⟩
theorem m_get3 (hc : xc p s m args c cc nL RX1 D (mT d) A) (hw : ww D (mF h q d) A H0 H locs (R, S, ra, tp, bt)) (hdg : decode cc pc = .ok (.getfield 20, 3)) (k : W p l e Rm s m args below meth c H locs cells slots Q (F0 m (pc + 3) ls (.ref (q 3) :: rest))) : W p l e Rm s m args below meth c H locs cells slots Q (F0 m pc ls (.ref h :: rest)) := va_get (D := D) (ci := 1) (v := .ref (q 3)) (C := RX1) (T := TX1) (N := 5) hc.1 hc.2.1 hc.2.2.2.2.1 in_X1 hc.2.2.2.1 hc.2.2.2.2.2.1 hw.1 0 rfl rfl 3 (by decide) (hc.2.2.2.2.1 _ q183) (fun _ h9 => h9) rfl hdg k
theorem m_ld3 (hc : xc p s m args c cc nL RX1 D (mT d) A) (hw : ww D (mF h q d) A H0 H locs (R, S, ra, tp, bt)) {n : Nat} (hn : n < 64) (hdg : decode cc pc = .ok (.laload, 1)) (k : W p l e Rm s m args below meth c H locs cells slots Q (F0 m (pc + 1) ls (.long (tp n) :: rest))) : W p l e Rm s m args below meth c H locs cells slots Q (F0 m pc ls (.int (nI n) :: .ref (q 3) :: rest)) := by
  refine va_lald (f := tp) hc.1 hc.2.1 hc.2.2.2.2.2.1 hw.1 4 3 rfl rfl (vp_in_nI hn (by decide)) hdg ?_
  rw [nI_clamp (by omega)]
  exact k
theorem m_st3 (hc : xc p s m args c cc nL RX1 D (mT d) A) (hw : ww D (mF h q d) A H0 H locs (R, S, ra, tp, bt)) {n : Nat} {v : Int64} (hn : n < 64) (hdg : decode cc pc = .ok (.lastore, 1)) (kk : ∀ (H1 : Heap) (locs1 : List Loc), ww D (mF h q d) A H0 H1 locs1 (R, S, ra, vp_updL tp n v, bt) → W p l e Rm s m args below meth c H1 locs1 cells slots Q (F0 m (pc + 1) ls rest)) : W p l e Rm s m args below meth c H locs cells slots Q (F0 m pc ls (.long v :: .int (nI n) :: .ref (q 3) :: rest)) := by
  refine va_last (f := tp) hc.1 hc.2.1 hc.2.2.2.2.2.1 hw.1 hw.2.1 hw.2.2 4 3 rfl rfl (vp_in_nI hn (by decide)) hdg (fun H1 locs1 hP hD hS => ?_)
  rw [nI_clamp (by omega)] at hP hD
  exact kk H1 locs1 ⟨hP, hD, hS⟩
theorem m_get4 (hc : xc p s m args c cc nL RX1 D (mT d) A) (hw : ww D (mF h q d) A H0 H locs (R, S, ra, tp, bt)) (hdg : decode cc pc = .ok (.getfield 23, 3)) (k : W p l e Rm s m args below meth c H locs cells slots Q (F0 m (pc + 3) ls (.ref (q 4) :: rest))) : W p l e Rm s m args below meth c H locs cells slots Q (F0 m pc ls (.ref h :: rest)) := va_get (D := D) (ci := 1) (v := .ref (q 4)) (C := RX1) (T := TX1) (N := 5) hc.1 hc.2.1 hc.2.2.2.2.1 in_X1 hc.2.2.2.1 hc.2.2.2.2.2.1 hw.1 0 rfl rfl 4 (by decide) (hc.2.2.2.2.1 _ q184) (fun _ h9 => h9) rfl hdg k
theorem m_ld4 (hc : xc p s m args c cc nL RX1 D (mT d) A) (hw : ww D (mF h q d) A H0 H locs (R, S, ra, tp, bt)) {n : Nat} (hn : n < 64) (hdg : decode cc pc = .ok (.laload, 1)) (k : W p l e Rm s m args below meth c H locs cells slots Q (F0 m (pc + 1) ls (.long (bt n) :: rest))) : W p l e Rm s m args below meth c H locs cells slots Q (F0 m pc ls (.int (nI n) :: .ref (q 4) :: rest)) := by
  refine va_lald (f := bt) hc.1 hc.2.1 hc.2.2.2.2.2.1 hw.1 5 4 rfl rfl (vp_in_nI hn (by decide)) hdg ?_
  rw [nI_clamp (by omega)]
  exact k
theorem m_st4 (hc : xc p s m args c cc nL RX1 D (mT d) A) (hw : ww D (mF h q d) A H0 H locs (R, S, ra, tp, bt)) {n : Nat} {v : Int64} (hn : n < 64) (hdg : decode cc pc = .ok (.lastore, 1)) (kk : ∀ (H1 : Heap) (locs1 : List Loc), ww D (mF h q d) A H0 H1 locs1 (R, S, ra, tp, vp_updL bt n v) → W p l e Rm s m args below meth c H1 locs1 cells slots Q (F0 m (pc + 1) ls rest)) : W p l e Rm s m args below meth c H locs cells slots Q (F0 m pc ls (.long v :: .int (nI n) :: .ref (q 4) :: rest)) := by
  refine va_last (f := bt) hc.1 hc.2.1 hc.2.2.2.2.2.1 hw.1 hw.2.1 hw.2.2 5 4 rfl rfl (vp_in_nI hn (by decide)) hdg (fun H1 locs1 hP hD hS => ?_)
  rw [nI_clamp (by omega)] at hP hD
  exact kk H1 locs1 ⟨hP, hD, hS⟩
end XR
/-- a contract: world F u0 before, F u behind, nothing made -/
def CV {S : Type} (l : Launch) (D : va_G) (F : S → va_W) (T : List (ClassId × FieldType)) (y : MethodName) (cc : ByteArray) (nL : Nat) (rm : Room) (As : List Value) (u0 : S) (post : S → Prop) : Prop := ∀ sz : Nat, Met l y (ws_ y cc nL none) rm (va_Pc As (fun U => U.heap.size = sz ∧ va_P D vwCl (F u0) U.heap ∧ va_K D vwCl T U ∧ va_D (fun _ => True) (F u0))) (va_Qv post (fun u t => va_P D vwCl (F u) t.heap ∧ va_K D vwCl T t ∧ va_D (va_A (F u0) sz) (F u)) (va_A (F u0) sz)) 0 0 (va_A (F u0) sz)
theorem CV.of {S : Type} {l : Launch} {D : va_G} {F : S → va_W} {T : List (ClassId × FieldType)} {y : MethodName} {cc : ByteArray} {nL : Nat} {rm : Room} {As : List Value} {u0 : S} {post : S → Prop} (hy : plainName y.cls = true) (hlen : (lg_sl As).length ≤ nL)
    (body : ∀ (p : Program) (e : Env) (s : State) (m : MethodId) (below : List Frame) (meth : Method) (c : Code) (A : Nat → Prop) (Q : State → Prop) (ls : Array Slot), xc p s m As.toArray c cc nL y.cls D T A → (∀ (u : S) (H : Heap) (locs : List Loc) (ls : Array Slot) (pc : Nat), decode cc pc = .ok (.return_, 1) → post u → ww D F A s.heap H locs u → W p l e rm s m As.toArray below meth c H locs 0 0 Q (F0 m pc ls [])) → ww D F A s.heap s.heap [] u0 → lv_has ls nL (lv_args 0 As) → W p l e rm s m As.toArray below meth c s.heap [] 0 0 Q (F0 m 0 ls [])) : CV l D F T y cc nL rm As u0 post := by
  intro sz
  refine Met.ofW (cc := cc) (maxL := nL) (ret := none) hy rfl ?_
  intro p e s m args below meth c s₁ B hml hv
  obtain ⟨rfl, hsz, hP, hK, hD0⟩ := hv
  have hts0 := atoms_spec (ws := ws_ y cc nL none) B.pre
  have hts : ∀ w ∈ lw_all, w.before _ s = true := fun w h => hts0 w (List.mem_cons_of_mem _ h)
  have hown : s.vm.findClass y.cls = some m.cls := findClass_of_methodNamed B.named
  have hx := B.exec
  have hb := B.bytes
  have hr := B.returns
  have hlocks := B.notSynchronized
  subst hsz
  have hD := hD0.self (sz := s.heap.size)
  rw [lg_entry_eq]
  refine body p e s m below meth c (va_A (F u0) s.heap.size) _ _ ⟨hx, hb, hml, hown, hts, hK, fun q h => Or.inr h⟩ ?_ ⟨hP, hD, va_S.rf⟩ (lv_entry As hlen)
  intro u H locs ls pc hdg hp hw
  exact W.vret hx hb hr (fun t ht hW => ⟨⟨u, rfl, hp, by rw [ht]; exact hw.1, va_K.moved hW.alike hK, hw.2.1⟩, hw.2.2.F ht⟩) hw.2.2.2.2 hdg hlocks
section CALLV
variable {p : Program} {l : Launch} {e : Env} {Rm : Room} {s : State} {m : MethodId} {args : Array Value} {below : List Frame} {meth : Method} {c : Code} {H : Heap} {locs : List Loc} {cells slots : Nat} {Q : State → Prop}
variable {cc : ByteArray} {pc : Nat} {ls : Array Slot} {rest : List Value}
variable {S : Type} {D : va_G} {A : Nat → Prop} {F : S → va_W} {T : List (ClassId × FieldType)} {y : MethodName} {cc1 : ByteArray} {nL nL1 n index ci : Nat} {rm : Room} {h : Nat} {As st0 : List Value} {u0 : S} {post : S → Prop} {own : String} {cq : vw_C} {fs : List Value}
theorem CV.call (hM : CV l D F T y cc1 nL1 rm (.ref h :: As) u0 post) (hc : xc p s m args c cc nL own D T A) (hw : ww D F A s.heap H locs u0) (hcl : vwCl[ci]? = some cq) (he : (F u0)[0]? = some (h, .inr (ci, fs))) (cw : CallW Rm s args own cq.1 index y cc1 nL1 none (ws_ y cc1 nL1 none) rm 0 0 n) (hn : As.length = n) (hsz : ls.size = nL) (hst : st0 = As.reverse ++ .ref h :: rest) (hroom : (rest.map fun v => v.category).sum ≤ 8) (hcs : cells ≤ Rm.cells ∧ slots ≤ Rm.slots) (hdg : decode cc pc = .ok (.invokevirtual index, 3))
    (k : ∀ (u : S) (H1 : Heap) (locs1 : List Loc), post u → ww D F A s.heap H1 locs1 u → W p l e Rm s m args below meth c H1 locs1 cells slots Q (F0 m (pc + 3) ls rest)) : W p l e Rm s m args below meth c H locs cells slots Q (F0 m pc ls st0) := by
  obtain ⟨hP, hD, hS⟩ := hw
  obtain ⟨hx, hb, hml, hown, hts, hK, hA⟩ := hc
  have hFc : ∀ q, va_A (F u0) H.size q → A q := by
    intro q hq
    rcases hq with ⟨k, e1, h1⟩ | h1
    · exact hD.2 k (q, e1) h1
    · exact hA q (Nat.le_trans hS.1 h1)
  refine va_callv (va_runV (As := As) (rest := rest) (n := n) (C := cq.1) ⟨hx, hb, hml, hown, hts⟩ (hM H.size) cw ⟨fun a U g mk q => by obtain ⟨q0, q1, qP, qK, qD⟩ := q; exact ⟨q0, q1, qP, va_K.moved (u := U) (U := U.calling g mk a) (Vm.Alike.refl U.vm) qK, qD⟩, va_recv hK hP hcl he, fun U hU hW => ⟨rfl, by rw [hU], by rw [hU]; exact hP, va_K.moved hW.alike hK, hD.weaken (fun _ _ _ _ => trivial)⟩⟩ rfl hn hsz hst (lv_room hroom) hdg ⟨hcs.1, hcs.2⟩) hS (fun q _ h => hFc q h) hFc (fun u t H1 locs1 ht hvm hpost hB hz1 hk1 hS1 => ?_)
  obtain ⟨hP1, hK1, hD1⟩ := hB
  rw [ht] at hP1
  exact k u H1 locs1 hpost ⟨hP1, hD1.weaken (fun _ _ _ h => hFc _ h), hS1⟩
end CALLV
/-- a contract: world F u0 before, F u behind, nothing made -/
def CI {S : Type} (l : Launch) (D : va_G) (F : S → va_W) (T : List (ClassId × FieldType)) (y : MethodName) (cc : ByteArray) (nL : Nat) (ty : FieldType) (rm : Room) (As : List Value) (u0 : S) (post : Int32 → S → Prop) : Prop := ∀ sz : Nat, Met l y (ws_ y cc nL (some ty)) rm (va_Pc As (fun U => U.heap.size = sz ∧ va_P D vwCl (F u0) U.heap ∧ va_K D vwCl T U ∧ va_D (fun _ => True) (F u0))) (va_Qi post (fun u t => va_P D vwCl (F u) t.heap ∧ va_K D vwCl T t ∧ va_D (va_A (F u0) sz) (F u)) (va_A (F u0) sz)) 0 0 (va_A (F u0) sz)
theorem CI.of {S : Type} {l : Launch} {D : va_G} {F : S → va_W} {T : List (ClassId × FieldType)} {y : MethodName} {cc : ByteArray} {nL : Nat} {ty : FieldType} {rm : Room} {As : List Value} {u0 : S} {post : Int32 → S → Prop} (hy : plainName y.cls = true) (hlen : (lg_sl As).length ≤ nL)
    (body : ∀ (p : Program) (e : Env) (s : State) (m : MethodId) (below : List Frame) (meth : Method) (c : Code) (A : Nat → Prop) (Q : State → Prop) (ls : Array Slot), xc p s m As.toArray c cc nL y.cls D T A → (∀ (r : Int32) (u : S) (H : Heap) (locs : List Loc) (ls : Array Slot) (pc : Nat), decode cc pc = .ok (.ireturn, 1) → narrow ty (.int r) = .int r → post r u → ww D F A s.heap H locs u → W p l e rm s m As.toArray below meth c H locs 0 0 Q (F0 m pc ls [.int r])) → ww D F A s.heap s.heap [] u0 → lv_has ls nL (lv_args 0 As) → W p l e rm s m As.toArray below meth c s.heap [] 0 0 Q (F0 m 0 ls [])) : CI l D F T y cc nL ty rm As u0 post := by
  intro sz
  refine Met.ofW (cc := cc) (maxL := nL) (ret := (some ty)) hy rfl ?_
  intro p e s m args below meth c s₁ B hml hv
  obtain ⟨rfl, hsz, hP, hK, hD0⟩ := hv
  have hts0 := atoms_spec (ws := ws_ y cc nL (some ty)) B.pre
  have hts : ∀ w ∈ lw_all, w.before _ s = true := fun w h => hts0 w (List.mem_cons_of_mem _ h)
  have hown : s.vm.findClass y.cls = some m.cls := findClass_of_methodNamed B.named
  have hx := B.exec
  have hb := B.bytes
  have hr := B.returns
  have hlocks := B.notSynchronized
  subst hsz
  have hD := hD0.self (sz := s.heap.size)
  rw [lg_entry_eq]
  refine body p e s m below meth c (va_A (F u0) s.heap.size) _ _ ⟨hx, hb, hml, hown, hts, hK, fun q h => Or.inr h⟩ ?_ ⟨hP, hD, va_S.rf⟩ (lv_entry As hlen)
  intro r u H locs ls pc hdg hn hp hw
  exact W.zret hx hb hr hn (fun t ht hW => ⟨⟨r, u, rfl, hp, by rw [ht]; exact hw.1, va_K.moved hW.alike hK, hw.2.1⟩, hw.2.2.F ht⟩) hw.2.2.2.2 hdg hlocks
section CALLI
variable {p : Program} {l : Launch} {e : Env} {Rm : Room} {s : State} {m : MethodId} {args : Array Value} {below : List Frame} {meth : Method} {c : Code} {H : Heap} {locs : List Loc} {cells slots : Nat} {Q : State → Prop}
variable {cc : ByteArray} {pc : Nat} {ls : Array Slot} {rest : List Value}
variable {S : Type} {D : va_G} {A : Nat → Prop} {F : S → va_W} {T : List (ClassId × FieldType)} {y : MethodName} {cc1 : ByteArray} {nL nL1 n index ci : Nat} {ty : FieldType} {rm : Room} {h : Nat} {As st0 : List Value} {u0 : S} {post : Int32 → S → Prop} {own : String} {cq : vw_C} {fs : List Value}
theorem CI.call (hM : CI l D F T y cc1 nL1 ty rm (.ref h :: As) u0 post) (hc : xc p s m args c cc nL own D T A) (hw : ww D F A s.heap H locs u0) (hcl : vwCl[ci]? = some cq) (he : (F u0)[0]? = some (h, .inr (ci, fs))) (cw : CallW Rm s args own cq.1 index y cc1 nL1 (some ty) (ws_ y cc1 nL1 (some ty)) rm 0 0 n) (hn : As.length = n) (hsz : ls.size = nL) (hst : st0 = As.reverse ++ .ref h :: rest) (hroom : (rest.map fun v => v.category).sum ≤ 8) (hcs : cells ≤ Rm.cells ∧ slots ≤ Rm.slots) (hdg : decode cc pc = .ok (.invokevirtual index, 3))
    (k : ∀ (r : Int32) (u : S) (H1 : Heap) (locs1 : List Loc), post r u → ww D F A s.heap H1 locs1 u → W p l e Rm s m args below meth c H1 locs1 cells slots Q (F0 m (pc + 3) ls (.int r :: rest))) : W p l e Rm s m args below meth c H locs cells slots Q (F0 m pc ls st0) := by
  obtain ⟨hP, hD, hS⟩ := hw
  obtain ⟨hx, hb, hml, hown, hts, hK, hA⟩ := hc
  have hFc : ∀ q, va_A (F u0) H.size q → A q := by
    intro q hq
    rcases hq with ⟨k, e1, h1⟩ | h1
    · exact hD.2 k (q, e1) h1
    · exact hA q (Nat.le_trans hS.1 h1)
  refine va_calli (va_runV (As := As) (rest := rest) (n := n) (C := cq.1) ⟨hx, hb, hml, hown, hts⟩ (hM H.size) cw ⟨fun a U g mk q => by obtain ⟨q0, q1, qP, qK, qD⟩ := q; exact ⟨q0, q1, qP, va_K.moved (u := U) (U := U.calling g mk a) (Vm.Alike.refl U.vm) qK, qD⟩, va_recv hK hP hcl he, fun U hU hW => ⟨rfl, by rw [hU], by rw [hU]; exact hP, va_K.moved hW.alike hK, hD.weaken (fun _ _ _ _ => trivial)⟩⟩ rfl hn hsz hst (lv_room hroom) hdg ⟨hcs.1, hcs.2⟩) hS (fun q _ h => hFc q h) hFc (fun r u t H1 locs1 ht hvm hpost hB hz1 hk1 hS1 => ?_)
  obtain ⟨hP1, hK1, hD1⟩ := hB
  rw [ht] at hP1
  exact k r u H1 locs1 hpost ⟨hP1, hD1.weaken (fun _ _ _ h => hFc _ h), hS1⟩
end CALLI
/-- a contract: world F u0 before, F u behind, nothing made -/
def CL {S : Type} (l : Launch) (D : va_G) (F : S → va_W) (T : List (ClassId × FieldType)) (y : MethodName) (cc : ByteArray) (nL : Nat) (rm : Room) (As : List Value) (u0 : S) (post : Int64 → S → Prop) : Prop := ∀ sz : Nat, Met l y (ws_ y cc nL (some .long)) rm (va_Pc As (fun U => U.heap.size = sz ∧ va_P D vwCl (F u0) U.heap ∧ va_K D vwCl T U ∧ va_D (fun _ => True) (F u0))) (va_Ql post (fun u t => va_P D vwCl (F u) t.heap ∧ va_K D vwCl T t ∧ va_D (va_A (F u0) sz) (F u)) (va_A (F u0) sz)) 0 0 (va_A (F u0) sz)
theorem CL.of {S : Type} {l : Launch} {D : va_G} {F : S → va_W} {T : List (ClassId × FieldType)} {y : MethodName} {cc : ByteArray} {nL : Nat} {rm : Room} {As : List Value} {u0 : S} {post : Int64 → S → Prop} (hy : plainName y.cls = true) (hlen : (lg_sl As).length ≤ nL)
    (body : ∀ (p : Program) (e : Env) (s : State) (m : MethodId) (below : List Frame) (meth : Method) (c : Code) (A : Nat → Prop) (Q : State → Prop) (ls : Array Slot), xc p s m As.toArray c cc nL y.cls D T A → (∀ (r : Int64) (u : S) (H : Heap) (locs : List Loc) (ls : Array Slot) (pc : Nat), decode cc pc = .ok (.lreturn, 1) → post r u → ww D F A s.heap H locs u → W p l e rm s m As.toArray below meth c H locs 0 0 Q (F0 m pc ls [.long r])) → ww D F A s.heap s.heap [] u0 → lv_has ls nL (lv_args 0 As) → W p l e rm s m As.toArray below meth c s.heap [] 0 0 Q (F0 m 0 ls [])) : CL l D F T y cc nL rm As u0 post := by
  intro sz
  refine Met.ofW (cc := cc) (maxL := nL) (ret := (some .long)) hy rfl ?_
  intro p e s m args below meth c s₁ B hml hv
  obtain ⟨rfl, hsz, hP, hK, hD0⟩ := hv
  have hts0 := atoms_spec (ws := ws_ y cc nL (some .long)) B.pre
  have hts : ∀ w ∈ lw_all, w.before _ s = true := fun w h => hts0 w (List.mem_cons_of_mem _ h)
  have hown : s.vm.findClass y.cls = some m.cls := findClass_of_methodNamed B.named
  have hx := B.exec
  have hb := B.bytes
  have hr := B.returns
  have hlocks := B.notSynchronized
  subst hsz
  have hD := hD0.self (sz := s.heap.size)
  rw [lg_entry_eq]
  refine body p e s m below meth c (va_A (F u0) s.heap.size) _ _ ⟨hx, hb, hml, hown, hts, hK, fun q h => Or.inr h⟩ ?_ ⟨hP, hD, va_S.rf⟩ (lv_entry As hlen)
  intro r u H locs ls pc hdg hp hw
  exact W.lret hx hb hr (fun t ht hW => ⟨⟨r, u, rfl, hp, by rw [ht]; exact hw.1, va_K.moved hW.alike hK, hw.2.1⟩, hw.2.2.F ht⟩) hw.2.2.2.2 hdg hlocks
section CALLL
variable {p : Program} {l : Launch} {e : Env} {Rm : Room} {s : State} {m : MethodId} {args : Array Value} {below : List Frame} {meth : Method} {c : Code} {H : Heap} {locs : List Loc} {cells slots : Nat} {Q : State → Prop}
variable {cc : ByteArray} {pc : Nat} {ls : Array Slot} {rest : List Value}
variable {S : Type} {D : va_G} {A : Nat → Prop} {F : S → va_W} {T : List (ClassId × FieldType)} {y : MethodName} {cc1 : ByteArray} {nL nL1 n index ci : Nat} {rm : Room} {h : Nat} {As st0 : List Value} {u0 : S} {post : Int64 → S → Prop} {own : String} {cq : vw_C} {fs : List Value}
theorem CL.call (hM : CL l D F T y cc1 nL1 rm (.ref h :: As) u0 post) (hc : xc p s m args c cc nL own D T A) (hw : ww D F A s.heap H locs u0) (hcl : vwCl[ci]? = some cq) (he : (F u0)[0]? = some (h, .inr (ci, fs))) (cw : CallW Rm s args own cq.1 index y cc1 nL1 (some .long) (ws_ y cc1 nL1 (some .long)) rm 0 0 n) (hn : As.length = n) (hsz : ls.size = nL) (hst : st0 = As.reverse ++ .ref h :: rest) (hroom : (rest.map fun v => v.category).sum ≤ 8) (hcs : cells ≤ Rm.cells ∧ slots ≤ Rm.slots) (hdg : decode cc pc = .ok (.invokevirtual index, 3))
    (k : ∀ (r : Int64) (u : S) (H1 : Heap) (locs1 : List Loc), post r u → ww D F A s.heap H1 locs1 u → W p l e Rm s m args below meth c H1 locs1 cells slots Q (F0 m (pc + 3) ls (.long r :: rest))) : W p l e Rm s m args below meth c H locs cells slots Q (F0 m pc ls st0) := by
  obtain ⟨hP, hD, hS⟩ := hw
  obtain ⟨hx, hb, hml, hown, hts, hK, hA⟩ := hc
  have hFc : ∀ q, va_A (F u0) H.size q → A q := by
    intro q hq
    rcases hq with ⟨k, e1, h1⟩ | h1
    · exact hD.2 k (q, e1) h1
    · exact hA q (Nat.le_trans hS.1 h1)
  refine va_calll (va_runV (As := As) (rest := rest) (n := n) (C := cq.1) ⟨hx, hb, hml, hown, hts⟩ (hM H.size) cw ⟨fun a U g mk q => by obtain ⟨q0, q1, qP, qK, qD⟩ := q; exact ⟨q0, q1, qP, va_K.moved (u := U) (U := U.calling g mk a) (Vm.Alike.refl U.vm) qK, qD⟩, va_recv hK hP hcl he, fun U hU hW => ⟨rfl, by rw [hU], by rw [hU]; exact hP, va_K.moved hW.alike hK, hD.weaken (fun _ _ _ _ => trivial)⟩⟩ rfl hn hsz hst (lv_room hroom) hdg ⟨hcs.1, hcs.2⟩) hS (fun q _ h => hFc q h) hFc (fun r u t H1 locs1 ht hvm hpost hB hz1 hk1 hS1 => ?_)
  obtain ⟨hP1, hK1, hD1⟩ := hB
  rw [ht] at hP1
  exact k r u H1 locs1 hpost ⟨hP1, hD1.weaken (fun _ _ _ h => hFc _ h), hS1⟩
end CALLL
end
section
/-! small rows: numbers in a range, longs of Nat -/
theorem ps_in_of {x : Int32} {n : Nat} (hn : n < 2 ^ 31) (h0 : ¬ x < 0) (h1 : ¬ nI n ≤ x) : ps_in x n := by
  rcases pk_ix x hn with h | h | h
  · exact absurd h h0
  · exact absurd h h1
  · exact h
theorem ps_in_le {x : Int32} {n : Nat} (hn : n < 2 ^ 30) (h0 : ¬ x < 0) (h1 : ¬ nI n < x) : ps_in x (n + 1) := by
  obtain ⟨j, hj, e⟩ := nI_of h0
  rw [e] at h1
  have h2 := mt (nI_ltI (by omega) hj).mpr h1
  exact ⟨j, by omega, e⟩
theorem ps_nin_neg {x : Int32} {n : Nat} (hn : n < 2 ^ 31) (h : x < 0) : ¬ ps_in x n := by
  rintro ⟨k, hk, e⟩
  rw [e] at h
  exact nI_pos (by omega) h
theorem ps_nin_ge {x : Int32} {n : Nat} (hn : n < 2 ^ 31) (h : nI n ≤ x) : ¬ ps_in x n := by
  rintro ⟨k, hk, e⟩
  rw [e] at h
  have := (nI_leI hn (by omega)).mp h
  omega
theorem ps_nin_gt {x : Int32} {n : Nat} (hn : n < 2 ^ 30) (h : nI n < x) : ¬ ps_in x (n + 1) := by
  rintro ⟨k, hk, e⟩
  rw [e] at h
  have := (nI_ltI (by omega) (by omega)).mp h
  omega
theorem lN_0 : lN 0 = 0 := rfl
theorem ps_lN0 {n : Nat} (hn : n < 2 ^ 63) (h : lN n = 0) : n = 0 := (pk_lEQ hn (by decide)).mp (h.trans lN_0.symm)
theorem ps_lNne {n : Nat} (hn : n < 2 ^ 63) (h : 0 < n) : ¬ lN n = 0 := fun q => by
  have := ps_lN0 hn q
  omega
/-- a long by its size -/
theorem ps_abs_pos {a : Int64} {n : Nat} (h : a.toInt.natAbs = n) (h0 : 0 ≤ a) : a = lN n := by
  have h1 : 0 ≤ a.toInt := by simpa [Int64.le_iff_toInt_le] using h0
  have h2 := Int64.toInt_lt a
  apply Int64.toInt_inj.mp
  rw [pk_lT (by omega)]
  omega
theorem ps_abs_neg {a : Int64} {n : Nat} (h : a.toInt.natAbs = n) (hn : n < 2 ^ 63) (h0 : ¬ 0 ≤ a) : -a = lN n := by
  have h1 : ¬ 0 ≤ a.toInt := by simpa [Int64.le_iff_toInt_le] using h0
  apply Int64.toInt_inj.mp
  rw [pk_lT hn, Int64.toInt_neg, Int.bmod_eq_of_le (by omega) (by omega)]
  omega
theorem ps_gcd_lt {a b : Nat} (hb : 0 < b) (h : b < 2 ^ 63) : Nat.gcd a b < 2 ^ 63 := Nat.lt_of_le_of_lt (Nat.gcd_le_right a hb) h
theorem ps_gcd_pos {a b : Nat} (hb : 0 < b) : 0 < Nat.gcd a b := Nat.gcd_pos_of_pos_right a hb
def ps_okR (x1 x2 x3 : Int32) : Prop := ps_in x1 4 ∧ ps_in x2 2 ∧ ¬ x3 < -20 ∧ x3 ≤ nI 20
theorem ps_r20 {x : Int32} (h1 : ¬ x < -20) (h2 : x ≤ nI 20) : -20 ≤ x.toInt ∧ x.toInt ≤ 20 := by
  have h3 : ¬ x.toInt < -20 := fun q => h1 (Int32.lt_iff_toInt_lt.mpr q)
  have h4 := Int32.le_iff_toInt_le.mp h2
  rw [nI_toInt (by decide)] at h4
  omega
theorem ps_in_le2 {x : Int32} {n : Nat} (hn : n < 2 ^ 30) (h0 : ¬ x < 0) (h1 : x ≤ nI n) : ps_in x (n + 1) := by
  obtain ⟨j, hj, e⟩ := nI_of h0
  rw [e] at h1
  have h2 := (nI_leI hj (by omega)).mp h1
  exact ⟨j, by omega, e⟩
theorem ps_nin_nle {x : Int32} {n : Nat} (hn : n < 2 ^ 30) (h : ¬ x ≤ nI n) : ¬ ps_in x (n + 1) := by
  rintro ⟨k, hk, e⟩
  rw [e] at h
  exact h ((nI_leI (by omega) (by omega)).mpr (by omega))
def ps_dig (n : Nat) : Nat := n / 125 + n / 25 % 5 + n / 5 % 5 + n % 5
def ps_okS (x1 x2 x3 : Int32) : Prop := ps_in x1 4 ∧ ps_in x2 2 ∧ ∃ n, n < 625 ∧ x3 = nI n ∧ ps_dig n = 4
theorem ps_okS_n {x1 x2 : Int32} {n : Nat} (hn : n < 625) (h : ps_dig n ≠ 4) : ¬ ps_okS x1 x2 (nI n) := by
  rintro ⟨-, -, k, hk, e, h2⟩
  rw [← (nI_eq (show n < 2 ^ 31 by omega) (show k < 2 ^ 31 by omega)).mp e] at h2
  exact h h2
theorem ps_okS_i {x1 x2 x3 : Int32} (h : ¬ ps_in x3 625) : ¬ ps_okS x1 x2 x3 := by
  rintro ⟨-, -, k, hk, e, _⟩
  exact h ⟨k, hk, e⟩
theorem ps_nar01 {b : Nat} (h : b < 2) : narrow .boolean (.int (nI b)) = .int (nI b) := by
  rcases (show b = 0 ∨ b = 1 by omega) with rfl | rfl <;> rfl
theorem ps_absT {t : Int} (h : t.natAbs < 2 ^ 34) : (Int64.ofInt t).toInt.natAbs = t.natAbs := by rw [ps_oi (by omega)]
theorem ps_mulb {x y : Int} {X Y : Nat} (hx : x.natAbs ≤ 2 ^ 34) (hy : y.natAbs ≤ 2 ^ 17) : (x * y).natAbs < 2 ^ 63 := by
  have h := ps_bm hx hy
  exact Nat.lt_of_le_of_lt h (by decide)
/-- products of values and denominators as longs -/
theorem ps_pr {R S : Nat → Int32} (hok : ps_Ok R S) (p q s : Nat) : (ps_tp R S p s * ps_bo R S q).natAbs < 2 ^ 63 := by
  have h1 := ps_tp_b hok p s
  have h2 := ps_bo_b hok q
  exact ps_mulb (X := 0) (Y := 0) (by omega) (by omega)
theorem ps_prL {R S : Nat → Int32} (hok : ps_Ok R S) (p q s p' q' s' : Nat) : Int64.ofInt (ps_tp R S p s) * Int64.ofInt (ps_bo R S q) < Int64.ofInt (ps_tp R S p' s') * Int64.ofInt (ps_bo R S q') ↔ ps_tp R S p s * ps_bo R S q < ps_tp R S p' s' * ps_bo R S q' := by
  rw [← Int64.ofInt_mul, ← Int64.ofInt_mul]
  exact ps_oi_lt (ps_pr hok p q s) (ps_pr hok p' q' s')
theorem ps_prE {R S : Nat → Int32} (hok : ps_Ok R S) (p q s p' q' s' : Nat) : Int64.ofInt (ps_tp R S p s) * Int64.ofInt (ps_bo R S q) ≤ Int64.ofInt (ps_tp R S p' s') * Int64.ofInt (ps_bo R S q') ↔ ps_tp R S p s * ps_bo R S q ≤ ps_tp R S p' s' * ps_bo R S q' := by
  rw [← Int64.ofInt_mul, ← Int64.ofInt_mul]
  exact ps_oi_le (ps_pr hok p q s) (ps_pr hok p' q' s')
theorem ps_boN {R S : Nat → Int32} (hok : ps_Ok R S) (p : Nat) : Int64.ofInt (ps_bo R S p) = lN (ps_bo R S p).toNat ∧ 0 < (ps_bo R S p).toNat ∧ (ps_bo R S p).toNat < 2 ^ 17 := by
  have h2 := ps_bo_b hok p
  exact ⟨ps_oiN (by omega), by omega, by omega⟩
/-- an answer that hangs on two numbers in range, at numbers in range -/
theorem ps_in2 {r : Int32} {p s n1 n2 : Nat} {f : Nat → Nat → Int32} {bad : Int32} (hp : p < n1) (hs : s < n2) (h1 : n1 < 2 ^ 31) (h2 : n2 < 2 ^ 31) (h : (∃ p1 s1, p1 < n1 ∧ s1 < n2 ∧ nI p = nI p1 ∧ nI s = nI s1 ∧ r = f p1 s1) ∨ (¬ (ps_in (nI p) n1 ∧ ps_in (nI s) n2) ∧ r = bad)) : r = f p s := by
  rcases h with ⟨p1, s1, k1, k2, e1, e2, e3⟩ | ⟨k, _⟩
  · rw [(nI_eq (show p < 2 ^ 31 by omega) (show p1 < 2 ^ 31 by omega)).mp e1, (nI_eq (show s < 2 ^ 31 by omega) (show s1 < 2 ^ 31 by omega)).mp e2]
    exact e3
  · exact absurd ⟨⟨p, hp, rfl⟩, ⟨s, hs, rfl⟩⟩ k
end
section
/-! PURE: the component's answers are the reference's -/
def ps_gb (R S : Nat → Int32) (p s a : Nat) : Bool := decide (ps_gn R S p (2 * s + a) = 8 * ps_tp R S p s)
theorem ps_gb_iff {R S : Nat → Int32} {p s a : Nat} : ps_gb R S p s a = true ↔ ps_gn R S p (2 * s + a) = 8 * ps_tp R S p s := decide_eq_true_iff
theorem ps_mk_gb (R S : Nat → Int32) (p s : Nat) : ps_mk R S p s = (if ps_gb R S p s 0 = true then 1 else 0) + (if ps_gb R S p s 1 = true then 2 else 0) := by
  unfold ps_mk
  simp only [ps_gb_iff]
theorem ps_some {R S : Nat → Int32} (hok : ps_Ok R S) (p : Nat) {s : Nat} (hs : s < 4) : (ps_gb R S p s 0 || ps_gb R S p s 1) = true := by
  have h := pi_own (ps_pi hok) p s hs
  have h2 := Nat.mod_lt (p / 2 ^ s) (show 0 < 2 by omega)
  unfold ps_act at h
  rcases (show p / 2 ^ s % 2 = 0 ∨ p / 2 ^ s % 2 = 1 by omega) with e | e
  · rw [e] at h
    rw [ps_gb_iff.mpr h]
    rfl
  · rw [e] at h
    rw [(ps_gb_iff (a := 1)).mpr h, Bool.or_true]
theorem ps_bb_gb {R S : Nat → Int32} (hok : ps_Ok R S) {p : Nat} (hp : p < 16) (hlo : ps_LO R S p) (q : Nat) : ps_bb R S q = pb_best (ps_gb R S p) q := by
  have h := pi_best_iff (ps_pi hok) hp hlo q
  have k : pb_best (ps_gb R S p) q = true ↔ ∀ s, s < 4 → pi_gain (ps_r R) (ps_g S) (ps_tp R S p) (ps_bo R S p) (ps_act q s) = 8 * ps_tp R S p s := by
    unfold pb_best
    rw [Bool.and_eq_true, Bool.and_eq_true, Bool.and_eq_true, ps_gb_iff, ps_gb_iff, ps_gb_iff, ps_gb_iff]
    constructor
    · rintro ⟨⟨⟨h0, h1⟩, h2⟩, h3⟩ s hs
      rcases (show s = 0 ∨ s = 1 ∨ s = 2 ∨ s = 3 by omega) with rfl | rfl | rfl | rfl
      · exact h0
      · exact h1
      · exact h2
      · exact h3
    · intro h
      exact ⟨⟨⟨h 0 (by omega), h 1 (by omega)⟩, h 2 (by omega)⟩, h 3 (by omega)⟩
  cases hb : pb_best (ps_gb R S p) q with
  | true => exact ps_bb_t (h.mpr (k.mp hb))
  | false =>
    refine ps_bb_f (fun z => ?_)
    rw [k.mpr (h.mp z)] at hb
    cases hb
theorem ps_policy {R S : Nat → Int32} (hok : ps_Ok R S) {p : Nat} (hp : p < 16) (hlo : ps_LO R S p) : px_po (ps_mk R S p) 4 0 0 = pm_fb (ps_bb R S) 16 0 := by
  rw [pb_first (ps_gb R S p) (fun q _ => ps_bb_gb hok hp hlo q) (fun s hs => ps_some hok p hs)]
  have m : ∀ s, (ps_mk R S p s % 2 = 0) = (ps_gb R S p s 0 = false) := fun s => by
    rw [ps_mk_gb]
    cases ps_gb R S p s 0 <;> cases ps_gb R S p s 1 <;> decide
  simp only [px_po, m]
  cases ps_gb R S p 0 0 <;> cases ps_gb R S p 1 0 <;> cases ps_gb R S p 2 0 <;> cases ps_gb R S p 3 0 <;> decide
theorem ps_policies {R S : Nat → Int32} (hok : ps_Ok R S) {p : Nat} (hp : p < 16) (hlo : ps_LO R S p) : px_pc (ps_mk R S p) 4 0 1 = pm_ct (ps_bb R S) 16 0 0 := by
  rw [pb_count (ps_gb R S p) (fun q _ => ps_bb_gb hok hp hlo q) (fun s hs => ps_some hok p hs)]
  have m : ∀ s, (ps_mk R S p s = 3) = ((ps_gb R S p s 0 && ps_gb R S p s 1) = true) := fun s => by
    rw [ps_mk_gb]
    cases ps_gb R S p s 0 <;> cases ps_gb R S p s 1 <;> decide
  simp only [px_pc, m]
  cases (ps_gb R S p 0 0 && ps_gb R S p 0 1) <;> cases (ps_gb R S p 1 0 && ps_gb R S p 1 1) <;> cases (ps_gb R S p 2 0 && ps_gb R S p 2 1) <;> cases (ps_gb R S p 3 0 && ps_gb R S p 3 1) <;> decide
theorem ps_gd {R S : Nat → Int32} (hok : ps_Ok R S) {p : Nat} (hp : p < 16) (hlo : ps_LO R S p) {s a : Nat} (hs : s < 4) (ha : a < 2) : pm_gd (ps_bb R S) s a 16 0 = ps_gb R S p s a := pb_good (ps_gb R S p) (fun q _ => ps_bb_gb hok hp hlo q) (fun s hs => ps_some hok p hs) hs ha
theorem ps_mk_bit (R S : Nat → Int32) (p s : Nat) {a : Nat} (ha : a < 2) : ps_mk R S p s / 2 ^ a % 2 = 0 ↔ ps_gb R S p s a = false := by
  rw [ps_mk_gb]
  rcases (show a = 0 ∨ a = 1 by omega) with rfl | rfl <;> cases ps_gb R S p s 0 <;> cases ps_gb R S p s 1 <;> decide
theorem ps_good {R S : Nat → Int32} (hok : ps_Ok R S) {p : Nat} (hp : p < 16) (hlo : ps_LO R S p) {s a : Nat} (hs : s < 4) (ha : a < 2) : (if ps_mk R S p s / 2 ^ a % 2 = 0 then (0 : Int32) else 1) = (if pm_gd (ps_bb R S) s a 16 0 = true then 1 else 0) := by
  rw [ps_gd hok hp hlo hs ha]
  have h := ps_mk_bit R S p s ha
  cases e : ps_gb R S p s a with
  | true =>
    rw [if_neg (fun z => by rw [h.mp z] at e; cases e), if_pos rfl]
  | false =>
    rw [if_pos (h.mpr e), if_neg (by decide)]
/-! fractions in lowest terms -/
theorem ps_low {m1 n1 m2 n2 : Nat} (h1 : 0 < n1) (h2 : 0 < n2) (e : m1 * n2 = m2 * n1) : n1 / Nat.gcd m1 n1 = n2 / Nat.gcd m2 n2 := by
  have g1 : 0 < Nat.gcd m1 n1 := Nat.gcd_pos_of_pos_right _ h1
  have g2 : 0 < Nat.gcd m2 n2 := Nat.gcd_pos_of_pos_right _ h2
  have c1 := Nat.coprime_div_gcd_div_gcd g1
  have c2 := Nat.coprime_div_gcd_div_gcd g2
  have a1 := Nat.div_mul_cancel (Nat.gcd_dvd_left m1 n1)
  have a2 := Nat.div_mul_cancel (Nat.gcd_dvd_right m1 n1)
  have a3 := Nat.div_mul_cancel (Nat.gcd_dvd_left m2 n2)
  have a4 := Nat.div_mul_cancel (Nat.gcd_dvd_right m2 n2)
  generalize m1 / Nat.gcd m1 n1 = x1 at *
  generalize n1 / Nat.gcd m1 n1 = y1 at *
  generalize m2 / Nat.gcd m2 n2 = x2 at *
  generalize n2 / Nat.gcd m2 n2 = y2 at *
  generalize hg1 : Nat.gcd m1 n1 = k1 at *
  generalize hg2 : Nat.gcd m2 n2 = k2 at *
  have e2 : x1 * y2 = x2 * y1 := by
    rw [← a1, ← a2, ← a3, ← a4] at e
    have e3 : (k1 * k2) * (x1 * y2) = (k1 * k2) * (x2 * y1) := by
      calc (k1 * k2) * (x1 * y2) = x1 * k1 * (y2 * k2) := by simp only [Nat.mul_comm, Nat.mul_left_comm]
        _ = x2 * k2 * (y1 * k1) := e
        _ = (k1 * k2) * (x2 * y1) := by simp only [Nat.mul_comm, Nat.mul_left_comm]
    exact Nat.eq_of_mul_eq_mul_left (Nat.mul_pos g1 g2) e3
  have d1 : y1 ∣ y2 := by
    have : y1 ∣ x1 * y2 := ⟨x2, by rw [e2, Nat.mul_comm]⟩
    exact (Nat.Coprime.symm c1).dvd_of_dvd_mul_left this
  have d2 : y2 ∣ y1 := by
    have : y2 ∣ x2 * y1 := ⟨x1, by rw [← e2, Nat.mul_comm]⟩
    exact (Nat.Coprime.symm c2).dvd_of_dvd_mul_left this
  exact Nat.dvd_antisymm d1 d2
theorem ps_frac {t1 b1 t2 b2 : Int} (h1 : 0 < b1) (h2 : 0 < b2) (l1 : b1 < 2 ^ 17) (l2 : b2 < 2 ^ 17) (u1 : t1.natAbs < 2 ^ 34) (u2 : t2.natAbs < 2 ^ 34) (e : t1 * b2 = t2 * b1) : ps_frT t1 b1 = ps_frT t2 b2 ∧ ps_frB t1 b1 = ps_frB t2 b2 := by
  have n1 : 0 < b1.toNat := by omega
  have n2 : 0 < b2.toNat := by omega
  have eN : t1.natAbs * b2.toNat = t2.natAbs * b1.toNat := by
    have := congrArg Int.natAbs e
    rw [Int.natAbs_mul, Int.natAbs_mul] at this
    rw [show b2.toNat = b2.natAbs by omega, show b1.toNat = b1.natAbs by omega]
    exact this
  have lo := ps_low n1 n2 eN
  have g1 : 0 < Nat.gcd t1.natAbs b1.toNat := Nat.gcd_pos_of_pos_right _ n1
  have g2 : 0 < Nat.gcd t2.natAbs b2.toNat := Nat.gcd_pos_of_pos_right _ n2
  have k1 : Nat.gcd t1.natAbs b1.toNat ≤ b1.toNat := Nat.gcd_le_right _ n1
  have k2 : Nat.gcd t2.natAbs b2.toNat ≤ b2.toNat := Nat.gcd_le_right _ n2
  refine ⟨?_, ?_⟩
  · obtain ⟨x1, e1⟩ : ∃ x : Int, t1 = (Nat.gcd t1.natAbs b1.toNat : Int) * x := Int.ofNat_dvd_left.mpr (Nat.gcd_dvd_left _ _)
    obtain ⟨x2, e2⟩ : ∃ x : Int, t2 = (Nat.gcd t2.natAbs b2.toNat : Int) * x := Int.ofNat_dvd_left.mpr (Nat.gcd_dvd_left _ _)
    have b1e : b1 = (Nat.gcd t1.natAbs b1.toNat : Int) * (b1.toNat / Nat.gcd t1.natAbs b1.toNat : Nat) := by
      have := Nat.mul_div_cancel' (Nat.gcd_dvd_right t1.natAbs b1.toNat)
      rw [← Int.natCast_mul, this]
      omega
    have b2e : b2 = (Nat.gcd t2.natAbs b2.toNat : Int) * (b1.toNat / Nat.gcd t1.natAbs b1.toNat : Nat) := by
      have := Nat.mul_div_cancel' (Nat.gcd_dvd_right t2.natAbs b2.toNat)
      rw [lo, ← Int.natCast_mul, this]
      omega
    have yp : 0 < b1.toNat / Nat.gcd t1.natAbs b1.toNat := Nat.div_pos k1 g1
    unfold ps_frT
    generalize hk1 : Nat.gcd t1.natAbs b1.toNat = q1 at *
    generalize hk2 : Nat.gcd t2.natAbs b2.toNat = q2 at *
    generalize b1.toNat / q1 = y at *
    have ex : x1 = x2 := by
      have e3 : ((q1 : Int) * q2 * y) * x1 = ((q1 : Int) * q2 * y) * x2 := by
        have e4 : t1 * b2 = ((q1 : Int) * q2 * y) * x1 := by
          rw [e1, b2e]
          grind
        have e5 : t2 * b1 = ((q1 : Int) * q2 * y) * x2 := by
          rw [e2, b1e]
          grind
        rw [← e4, ← e5, e]
      have hpos : (q1 : Int) * q2 * y ≠ 0 := by
        have : 0 < (q1 : Int) * q2 * y := Int.mul_pos (Int.mul_pos (by omega) (by omega)) (by omega)
        omega
      exact Int.eq_of_mul_eq_mul_left hpos e3
    have bx (t x : Int) (qq : Nat) (hq : 0 < qq) (ht : t.natAbs < 2 ^ 34) (ee : t = (qq : Int) * x) : x.natAbs < 2 ^ 35 := by
      have := congrArg Int.natAbs ee
      rw [Int.natAbs_mul, Int.natAbs_natCast] at this
      have k : 1 * x.natAbs ≤ qq * x.natAbs := Nat.mul_le_mul_right _ hq
      omega
    have d1 : Int64.ofInt t1 / lN q1 = Int64.ofInt x1 := by
      rw [show lN q1 = Int64.ofInt (q1 : Int) from (Int64.ofInt_eq_ofNat).symm]
      exact ps_div e1 (by omega) (by omega) (bx t1 x1 q1 g1 u1 e1)
    have d2 : Int64.ofInt t2 / lN q2 = Int64.ofInt x2 := by
      rw [show lN q2 = Int64.ofInt (q2 : Int) from (Int64.ofInt_eq_ofNat).symm]
      exact ps_div e2 (by omega) (by omega) (bx t2 x2 q2 g2 u2 e2)
    rw [d1, d2, ex]
  · unfold ps_frB
    rw [pk_lDiv (by omega) g1 (by omega), pk_lDiv (by omega) g2 (by omega), lo]
/-- two best policies have the same values -/
theorem ps_bestEq {R S : Nat → Int32} (hok : ps_Ok R S) {p : Nat} (hp : p < 16) (hlo : ps_LO R S p) {s : Nat} (hs : s < 4) : ps_frT (ps_tp R S p s) (ps_bo R S p) = ps_frT (ps_tp R S (pm_fb (ps_bb R S) 16 0) s) (ps_bo R S (pm_fb (ps_bb R S) 16 0)) ∧ ps_frB (ps_tp R S p s) (ps_bo R S p) = ps_frB (ps_tp R S (pm_fb (ps_bb R S) 16 0) s) (ps_bo R S (pm_fb (ps_bb R S) 16 0)) := by
  have hb : pi_best (ps_tp R S) (ps_bo R S) p := (pi_best_iff (ps_pi hok) hp hlo p).mpr (fun t ht => pi_own (ps_pi hok) p t ht)
  have hf : ∀ n i, i ≤ p → p < i + n → ps_bb R S (pm_fb (ps_bb R S) n i) = true := by
    intro n
    induction n with
    | zero => intro i h1 h2; omega
    | succ n ih =>
      intro i h1 h2
      rw [pm_fb]
      split
      · assumption
      · rename_i hne
        refine ih (i + 1) ?_ (by omega)
        rcases Nat.lt_or_ge i p with z | z
        · exact z
        · exact absurd (by rw [show i = p by omega]; exact ps_bb_t hb) hne
  have hF := ps_bb_iff.mp (hf 16 0 (by omega) (by omega))
  have hF16 := pm_fb16 (ps_bb R S)
  generalize pm_fb (ps_bb R S) 16 0 = q at *
  have e : ps_tp R S p s * ps_bo R S q = ps_tp R S q s * ps_bo R S p := by
    have z1 := hb q hF16 s hs
    have z2 := hF p hp s hs
    omega
  have b1 := ps_bo_b hok p
  have b2 := ps_bo_b hok q
  exact ps_frac b1.1 b2.1 b1.2 b2.2 (ps_tp_b hok p s) (ps_tp_b hok q s) e
/-! reward, shares keep the arrays good -/
theorem ps_Ok_R {R S : Nat → Int32} (hok : ps_Ok R S) {k : Nat} {v : Int32} (h1 : -20 ≤ v.toInt) (h2 : v.toInt ≤ 20) : ps_Ok (upd R k v) S := by
  intro j hj
  obtain ⟨h3, h4⟩ := hok j hj
  refine ⟨?_, h4⟩
  by_cases e : j = k
  · rw [e, pk_us]
    exact ⟨h1, h2⟩
  · rw [pk_un e]
    exact h3
theorem ps_y1 {n : Nat} (hn : n < 625) : n / 5 / 5 / 5 % 5 = n / 125 := by omega
theorem ps_y2 (n : Nat) : n / 5 / 5 % 5 = n / 25 % 5 := by omega
theorem ps_Ok_S {R S : Nat → Int32} (hok : ps_Ok R S) {k n : Nat} (hn : n < 625) (hd : ps_dig n = 4) : ps_Ok R (px_sh S k n) := by
  intro j hj
  obtain ⟨h3, h4⟩ := hok j hj
  refine ⟨h3, ?_⟩
  unfold ps_dig at hd
  unfold px_sh
  by_cases e : j = k
  · subst e
    have z3 : (upd (upd (upd (upd S (4 * j + 3) (nI (n % 5))) (4 * j + 2) (nI (n / 5 % 5))) (4 * j + 1) (nI (n / 5 / 5 % 5))) (4 * j + 0) (nI (n / 5 / 5 / 5 % 5))) (4 * j + 3) = nI (n % 5) := by
      rw [pk_un (by omega), pk_un (by omega), pk_un (by omega), pk_us]
    have z2 : (upd (upd (upd (upd S (4 * j + 3) (nI (n % 5))) (4 * j + 2) (nI (n / 5 % 5))) (4 * j + 1) (nI (n / 5 / 5 % 5))) (4 * j + 0) (nI (n / 5 / 5 / 5 % 5))) (4 * j + 2) = nI (n / 5 % 5) := by
      rw [pk_un (by omega), pk_un (by omega), pk_us]
    have z1 : (upd (upd (upd (upd S (4 * j + 3) (nI (n % 5))) (4 * j + 2) (nI (n / 5 % 5))) (4 * j + 1) (nI (n / 5 / 5 % 5))) (4 * j + 0) (nI (n / 5 / 5 / 5 % 5))) (4 * j + 1) = nI (n / 5 / 5 % 5) := by
      rw [pk_un (by omega), pk_us]
    have y1 := ps_y1 hn
    have y2 := ps_y2 n
    rw [z3, z2, z1, pk_us, nI_toInt (by omega), nI_toInt (by omega), nI_toInt (by omega), nI_toInt (by omega), y1, y2]
    omega
  · have z : ∀ t, t < 4 → (upd (upd (upd (upd S (4 * k + 3) (nI (n % 5))) (4 * k + 2) (nI (n / 5 % 5))) (4 * k + 1) (nI (n / 5 / 5 % 5))) (4 * k + 0) (nI (n / 5 / 5 / 5 % 5))) (4 * j + t) = S (4 * j + t) := fun t ht => by
      rw [pk_un (by omega), pk_un (by omega), pk_un (by omega), pk_un (by omega)]
    rw [z 0 (by omega), z 1 (by omega), z 2 (by omega), z 3 (by omega)]
    exact h4
/-! prune: the same copies, the same count -/
theorem px_cp_S {x y : Nat} (hxy : x ≠ y) : ∀ n t S b, t + n ≤ 4 → (∀ t', t' < 4 → vp_nar .byte (S (4 * x + t')) = S (4 * x + t')) → (px_cp x y n t (S, b)).1 = pm_cp x y n t S := by
  intro n
  induction n with
  | zero => intro t S b _ _; rfl
  | succ n ih =>
    intro t S b h1 h2
    have e : ∀ (b' : Nat), (px_cp x y n (t + 1) (upd S (4 * y + t) (vp_nar .byte (S (4 * x + t))), b')).1 = pm_cp x y n (t + 1) (upd S (4 * y + t) (S (4 * x + t))) := fun b' => by
      rw [h2 t (by omega)]
      exact ih (t + 1) _ b' (by omega) (fun t' ht' => by rw [pk_un (by omega)]; exact h2 t' ht')
    rw [px_cp, pm_cp]
    exact e _
theorem px_cp_0 {x y : Nat} (hxy : x ≠ y) : ∀ n t S b, t + n ≤ 4 → (px_cp x y n t (S, b)).2 = 0 → b = 0 ∧ ∀ t', t ≤ t' → t' < t + n → S (4 * x + t') = S (4 * y + t') := by
  intro n
  induction n with
  | zero => intro t S b _ h; exact ⟨h, fun t' h1 h2 => by omega⟩
  | succ n ih =>
    intro t S b h1 h
    rw [px_cp] at h
    obtain ⟨k1, k2⟩ := ih (t + 1) _ _ (by omega) h
    dsimp only at k1 k2
    by_cases e : S (4 * x + t) = S (4 * y + t)
    · rw [if_pos e] at k1
      refine ⟨k1, fun t' a1 a2 => ?_⟩
      rcases Nat.lt_or_ge t t' with z | z
      · have := k2 t' z (by omega)
        rw [pk_un (by omega), pk_un (by omega)] at this
        exact this
      · rw [show t' = t by omega]
        exact e
    · rw [if_neg e] at k1
      cases k1
theorem px_df_0 {R S : Nat → Int32} {x y : Nat} (hxy : x ≠ y) (h : (px_df R S x y).2 = 0) : R x = R y ∧ ∀ t, t < 4 → S (4 * x + t) = S (4 * y + t) := by
  obtain ⟨h1, h2⟩ := px_cp_0 hxy 4 0 S _ (by decide) h
  refine ⟨?_, fun t ht => h2 t (by omega) (by omega)⟩
  by_cases e : R x = R y
  · exact e
  · rw [if_neg e] at h1
    cases h1
theorem pm_cp_at {x y : Nat} (hxy : x ≠ y) : ∀ n t S, t + n ≤ 4 → ∀ j, pm_cp x y n t S j = if 4 * y + t ≤ j ∧ j < 4 * y + t + n then S (4 * x + (j - 4 * y)) else S j := by
  intro n
  induction n with
  | zero =>
    intro t S _ j
    rw [if_neg (by omega)]
    rfl
  | succ n ih =>
    intro t S h j
    rw [pm_cp, ih (t + 1) _ (by omega) j]
    by_cases e : j = 4 * y + t
    · rw [if_neg (by omega), if_pos (by omega), e, pk_us]
      congr 1
      omega
    · by_cases e2 : 4 * y + (t + 1) ≤ j ∧ j < 4 * y + (t + 1) + n
      · rw [if_pos e2, if_pos (by omega), pk_un (by omega)]
      · rw [if_neg e2, if_neg (by omega), pk_un e]
theorem pm_cp_y {x y : Nat} (hxy : x ≠ y) (S : Nat → Int32) {t : Nat} (ht : t < 4) : pm_cp x y 4 0 S (4 * y + t) = S (4 * x + t) := by
  rw [pm_cp_at hxy 4 0 S (by decide), if_pos (by omega)]
  congr 1
  omega
theorem pm_cp_o {x y : Nat} (hxy : x ≠ y) (S : Nat → Int32) {k t : Nat} (hk : k ≠ y) (ht : t < 4) : pm_cp x y 4 0 S (4 * k + t) = S (4 * k + t) := by
  rw [pm_cp_at hxy 4 0 S (by decide), if_neg (by omega)]
theorem ps_Ok_cp {R S : Nat → Int32} (hok : ps_Ok R S) {x y : Nat} (hx : x < 8) (hxy : x ≠ y) : ps_Ok (upd R y (R x)) (pm_cp x y 4 0 S) := by
  intro j hj
  by_cases e : j = y
  · subst e
    rw [pk_us, pm_cp_y hxy S (by decide), pm_cp_y hxy S (by decide), pm_cp_y hxy S (by decide), pm_cp_y hxy S (by decide)]
    exact hok x hx
  · rw [pk_un e, pm_cp_o hxy S e (by decide), pm_cp_o hxy S e (by decide), pm_cp_o hxy S e (by decide), pm_cp_o hxy S e (by decide)]
    exact hok j hj
/-- one copy: the component's is the reference's -/
theorem ps_cpE {R S : Nat → Int32} (hok : ps_Ok R S) {x y : Nat} (hx : x < 8) (hxy : x ≠ y) : upd R y (vp_nar .byte (R x)) = upd R y (R x) ∧ (px_df R S x y).1 = pm_cp x y 4 0 S := by
  obtain ⟨⟨h1, h2⟩, _⟩ := hok x hx
  refine ⟨by rw [(ps_narb (x := R x) (by omega) (by omega)).1], px_cp_S hxy 4 0 S _ (by decide) (fun t ht => ?_)⟩
  have h4 := ps_S4 hok hx ht
  exact (ps_narb (by omega) (by omega)).1
theorem ps_gn_eq {R S : Nat → Int32} {p x y : Nat} (h1 : R x = R y) (h2 : ∀ t, t < 4 → S (4 * x + t) = S (4 * y + t)) : ps_gn R S p x = ps_gn R S p y := by
  unfold ps_gn pi_gain pi_sum ps_r ps_g
  rw [h1, h2 0 (by decide), h2 1 (by decide), h2 2 (by decide), h2 3 (by decide)]
/-- one action of one state in the component's prune -/
theorem ps_act1 {R S R1 S1 : Nat → Int32} {p i j c : Nat} (hok1 : ps_Ok R1 S1) (hi : i < 4) (hj : j < 2) (hag : ∀ a, a < 2 → R1 (2 * i + a) = R (2 * i + a) ∧ ∀ t, t < 4 → S1 (4 * (2 * i + a) + t) = S (4 * (2 * i + a) + t)) (ho : (ps_gb R S p i 0 || ps_gb R S p i 1) = true) (hb : ps_gb R S p i j = false) :
    px_p1 (ps_mk R S p) i j (R1, S1, c) = (upd R1 (2 * i + j) (R1 (2 * i + (1 - j))), pm_cp (2 * i + (1 - j)) (2 * i + j) 4 0 S1, c + 1) := by
  have h4 := (ps_mk_bit R S p i hj).mpr hb
  have hne : 2 * i + (1 - j) ≠ 2 * i + j := by omega
  obtain ⟨e1, e2⟩ := ps_cpE hok1 (x := 2 * i + (1 - j)) (y := 2 * i + j) (by omega) hne
  have h5 : ¬ (px_df R1 S1 (2 * i + (1 - j)) (2 * i + j)).2 = 0 := by
    intro h
    obtain ⟨k1, k2⟩ := px_df_0 hne h
    rw [(hag (1 - j) (by omega)).1, (hag j hj).1] at k1
    have k3 : ∀ t, t < 4 → S (4 * (2 * i + (1 - j)) + t) = S (4 * (2 * i + j) + t) := fun t ht => by
      have := k2 t ht
      rw [(hag (1 - j) (by omega)).2 t ht, (hag j hj).2 t ht] at this
      exact this
    have g := ps_gn_eq (p := p) k1 k3
    have g2 : ps_gb R S p i (1 - j) = ps_gb R S p i j := by
      unfold ps_gb
      rw [g]
    rcases (show j = 0 ∨ j = 1 by omega) with rfl | rfl
    · rw [hb] at g2
      rw [hb, show ps_gb R S p i 1 = false from g2] at ho
      cases ho
    · rw [hb] at g2
      rw [hb, show ps_gb R S p i 0 = false from g2] at ho
      cases ho
  rw [px_p1_1 h4 h5, e1, e2]
theorem pm_bd_congr {f h : Nat → Bool} : ∀ n k b, (∀ j, k ≤ j → j < k + n → f j = h j) → pm_bd f n k b = pm_bd h n k b := by
  intro n
  induction n with
  | zero => intro k b _; rfl
  | succ n ih =>
    intro k b hj
    rw [pm_bd, pm_bd, hj k (Nat.le_refl _) (by omega), ih (k + 1) _ (fun j h1 h2 => hj j (by omega) (by omega))]
set_option maxRecDepth 100000 in
set_option maxHeartbeats 4000000 in
theorem pb_bits8 : ∀ b00 b01 b10 b11 b20 b21 b30 b31 : Bool, ∀ k : Fin 8, decide (pm_bd (fun k => pb_of b00 b01 b10 b11 b20 b21 b30 b31 (k / 2) (k % 2)) 8 0 0 / 2 ^ k.val % 2 = 1) = !(pb_of b00 b01 b10 b11 b20 b21 b30 b31 (k.val / 2) (k.val % 2)) := by decide +kernel
theorem ps_bits {R S : Nat → Int32} (hok : ps_Ok R S) {p : Nat} (hp : p < 16) (hlo : ps_LO R S p) {i j : Nat} (hi : i < 4) (hj : j < 2) : pm_bd (fun k => pm_gd (ps_bb R S) (k / 2) (k % 2) 16 0) 8 0 0 / 2 ^ (2 * i + j) % 2 = 1 ↔ ps_gb R S p i j = false := by
  have e : ∀ s, s < 4 → ∀ a, a < 2 → ps_gb R S p s a = pb_of (ps_gb R S p 0 0) (ps_gb R S p 0 1) (ps_gb R S p 1 0) (ps_gb R S p 1 1) (ps_gb R S p 2 0) (ps_gb R S p 2 1) (ps_gb R S p 3 0) (ps_gb R S p 3 1) s a := by
    intro s hs a ha
    rcases (show s = 0 ∨ s = 1 ∨ s = 2 ∨ s = 3 by omega) with rfl | rfl | rfl | rfl <;> rcases (show a = 0 ∨ a = 1 by omega) with rfl | rfl <;> rfl
  rw [pm_bd_congr (h := fun k => pb_of (ps_gb R S p 0 0) (ps_gb R S p 0 1) (ps_gb R S p 1 0) (ps_gb R S p 1 1) (ps_gb R S p 2 0) (ps_gb R S p 2 1) (ps_gb R S p 3 0) (ps_gb R S p 3 1) (k / 2) (k % 2)) 8 0 0 (fun k _ hk => by
    rw [ps_gd hok hp hlo (by omega) (by omega)]
    exact e (k / 2) (by omega) (k % 2) (by omega))]
  have h := pb_bits8 (ps_gb R S p 0 0) (ps_gb R S p 0 1) (ps_gb R S p 1 0) (ps_gb R S p 1 1) (ps_gb R S p 2 0) (ps_gb R S p 2 1) (ps_gb R S p 3 0) (ps_gb R S p 3 1) ⟨2 * i + j, by omega⟩
  dsimp only at h
  rw [show (2 * i + j) / 2 = i by omega, show (2 * i + j) % 2 = j by omega, ← e i hi j hj] at h
  cases hb : ps_gb R S p i j with
  | true =>
    rw [hb] at h
    exact ⟨fun z => absurd z (of_decide_eq_false h), fun z => by cases z⟩
  | false =>
    rw [hb] at h
    exact ⟨fun _ => rfl, fun _ => of_decide_eq_true h⟩
/-- one action in the reference's prune -/
def pm_q (b k : Nat) (u : (Nat → Int32) × (Nat → Int32) × Nat) : (Nat → Int32) × (Nat → Int32) × Nat := if b / 2 ^ k % 2 = 1 then (upd u.1 k (u.1 (pm_pt k)), pm_cp (pm_pt k) k 4 0 u.2.1, u.2.2 + 1) else u
theorem pm_q_1 {b k c : Nat} {R S : Nat → Int32} (h : b / 2 ^ k % 2 = 1) : pm_q b k (R, S, c) = (upd R k (R (pm_pt k)), pm_cp (pm_pt k) k 4 0 S, c + 1) := by
  simp only [pm_q, if_pos h]
theorem pm_q_0 {b k c : Nat} {R S : Nat → Int32} (h : ¬ b / 2 ^ k % 2 = 1) : pm_q b k (R, S, c) = (R, S, c) := by
  simp only [pm_q, if_neg h]
/-- a state's two actions: both prunes do the same; the arrays stay good; other states stay -/
theorem ps_state {R S R1 S1 : Nat → Int32} {p i c B : Nat} (hok1 : ps_Ok R1 S1) (hi : i < 4) (hag : ∀ a, a < 2 → R1 (2 * i + a) = R (2 * i + a) ∧ ∀ t, t < 4 → S1 (4 * (2 * i + a) + t) = S (4 * (2 * i + a) + t)) (ho : (ps_gb R S p i 0 || ps_gb R S p i 1) = true) (hB : ∀ j, j < 2 → (B / 2 ^ (2 * i + j) % 2 = 1 ↔ ps_gb R S p i j = false)) :
    ∃ R2 S2 c2, px_pa (ps_mk R S p) i 2 0 (R1, S1, c) = (R2, S2, c2) ∧ pm_q B (2 * i + 1) (pm_q B (2 * i + 0) (R1, S1, c)) = (R2, S2, c2) ∧ ps_Ok R2 S2 ∧ ∀ k, k ≠ 2 * i + 0 → k ≠ 2 * i + 1 → R2 k = R1 k ∧ ∀ t, t < 4 → S2 (4 * k + t) = S1 (4 * k + t) := by
  have p0 : pm_pt (2 * i + 0) = 2 * i + (1 - 0) := by unfold pm_pt; rw [if_pos (by omega)]
  have p1 : pm_pt (2 * i + 1) = 2 * i + (1 - 1) := by unfold pm_pt; rw [if_neg (by omega)]; omega
  have n1 : ∀ j, j < 2 → ps_gb R S p i j = true → ¬ ps_mk R S p i / 2 ^ j % 2 = 0 := fun j hj h z => by
    rw [(ps_mk_bit R S p i hj).mp z] at h
    cases h
  have n2 : ∀ j, j < 2 → ps_gb R S p i j = true → ¬ B / 2 ^ (2 * i + j) % 2 = 1 := fun j hj h z => by
    rw [(hB j hj).mp z] at h
    cases h
  simp only [px_pa, Nat.reduceAdd]
  cases h0 : ps_gb R S p i 0 with
  | false =>
    have h1 : ps_gb R S p i 1 = true := by rw [h0] at ho; simpa using ho
    refine ⟨upd R1 (2 * i + 0) (R1 (2 * i + (1 - 0))), pm_cp (2 * i + (1 - 0)) (2 * i + 0) 4 0 S1, c + 1, ?_, ?_, ps_Ok_cp hok1 (by omega) (by omega), ?_⟩
    · rw [ps_act1 (j := 0) hok1 hi (by decide) hag ho h0, px_p1_n (n1 1 (by decide) h1)]
    · rw [pm_q_1 ((hB 0 (by decide)).mpr h0), pm_q_0 (n2 1 (by decide) h1), p0]
    · intro k k0 k1
      exact ⟨pk_un k0, fun t ht => pm_cp_o (by omega) S1 k0 ht⟩
  | true =>
    cases h1 : ps_gb R S p i 1 with
    | false =>
      refine ⟨upd R1 (2 * i + 1) (R1 (2 * i + (1 - 1))), pm_cp (2 * i + (1 - 1)) (2 * i + 1) 4 0 S1, c + 1, ?_, ?_, ps_Ok_cp hok1 (by omega) (by omega), ?_⟩
      · rw [px_p1_n (n1 0 (by decide) h0), ps_act1 (j := 1) hok1 hi (by decide) hag ho h1]
      · rw [pm_q_0 (n2 0 (by decide) h0), pm_q_1 ((hB 1 (by decide)).mpr h1), p1]
      · intro k k0 k1
        exact ⟨pk_un k1, fun t ht => pm_cp_o (by omega) S1 k1 ht⟩
    | true =>
      refine ⟨R1, S1, c, ?_, ?_, hok1, fun k _ _ => ⟨rfl, fun t _ => rfl⟩⟩
      · rw [px_p1_n (n1 0 (by decide) h0), px_p1_n (n1 1 (by decide) h1)]
      · rw [pm_q_0 (n2 0 (by decide) h0), pm_q_0 (n2 1 (by decide) h1)]
theorem ps_prune {R S : Nat → Int32} (hok : ps_Ok R S) {p : Nat} (hp : p < 16) (hlo : ps_LO R S p) : ∃ R2 S2 c2, px_ps (ps_mk R S p) 4 0 (R, S, 0) = (R2, S2, c2) ∧ pm_pr (pm_bd (fun k => pm_gd (ps_bb R S) (k / 2) (k % 2) 16 0) 8 0 0) 8 0 (R, S, 0) = (R2, S2, c2) ∧ ps_Ok R2 S2 := by
  have hB := fun (i : Nat) (hi : i < 4) => fun (j : Nat) (hj : j < 2) => ps_bits hok hp hlo hi hj
  generalize pm_bd (fun k => pm_gd (ps_bb R S) (k / 2) (k % 2) 16 0) 8 0 0 = B at hB
  obtain ⟨R1, S1, c1, a1, b1, o1, f1⟩ := ps_state (c := 0) hok (i := 0) (by decide) (fun a ha => ⟨rfl, fun t _ => rfl⟩) (ps_some hok p (by decide)) (hB 0 (by decide))
  obtain ⟨R2, S2, c2, a2, b2, o2, f2⟩ := ps_state (c := c1) o1 (i := 1) (by decide) (fun a ha => f1 (2 * 1 + a) (by omega) (by omega)) (ps_some hok p (by decide)) (hB 1 (by decide))
  have f2' : ∀ k, 4 ≤ k → R2 k = R k ∧ ∀ t, t < 4 → S2 (4 * k + t) = S (4 * k + t) := fun k hk => by
    obtain ⟨x1, x2⟩ := f2 k (by omega) (by omega)
    obtain ⟨y1, y2⟩ := f1 k (by omega) (by omega)
    exact ⟨x1.trans y1, fun t ht => (x2 t ht).trans (y2 t ht)⟩
  obtain ⟨R3, S3, c3, a3, b3, o3, f3⟩ := ps_state (c := c2) o2 (i := 2) (by decide) (fun a ha => f2' (2 * 2 + a) (by omega)) (ps_some hok p (by decide)) (hB 2 (by decide))
  have f3' : ∀ k, 6 ≤ k → R3 k = R k ∧ ∀ t, t < 4 → S3 (4 * k + t) = S (4 * k + t) := fun k hk => by
    obtain ⟨x1, x2⟩ := f3 k (by omega) (by omega)
    obtain ⟨y1, y2⟩ := f2' k (by omega)
    exact ⟨x1.trans y1, fun t ht => (x2 t ht).trans (y2 t ht)⟩
  obtain ⟨R4, S4, c4, a4, b4, o4, f4⟩ := ps_state (c := c3) o3 (i := 3) (by decide) (fun a ha => f3' (2 * 3 + a) (by omega)) (ps_some hok p (by decide)) (hB 3 (by decide))
  refine ⟨R4, S4, c4, ?_, ?_, o4⟩
  · simp only [px_ps, Nat.reduceAdd, a1, a2, a3, a4]
  · have u : pm_pr B 8 0 (R, S, 0) = pm_q B 7 (pm_q B 6 (pm_q B 5 (pm_q B 4 (pm_q B 3 (pm_q B 2 (pm_q B 1 (pm_q B 0 (R, S, 0)))))))) := rfl
    rw [u]
    simp only [Nat.reduceMul, Nat.reduceAdd] at b1 b2 b3 b4
    rw [b1, b2, b3, b4]
end
section
set_option maxHeartbeats 4000000 in
set_option maxRecDepth 100000 in
theorem px_isState (l : Launch) (D : va_G) (h : Nat) (q : Nat → Nat) (d : Nat → ClassId) (u0 : XS) (k : Int32) : CI l D (xF h q d) (xT d) yX0_isState cX0_isState 2 .boolean (rmK 0 0) [.ref h, .int k] u0 (fun r u => u = u0 ∧ ((r = 1 ∧ ps_in k 4) ∨ (r = 0 ∧ ¬ ps_in k 4))) := by
  refine CI.of (by decide) (Nat.le_of_ble_eq_true rfl) ?_
  intro p e s m below meth c A Q ls hc hret hw hl
  obtain ⟨hx, hb, hml, hown, hts, hK, hA⟩ := id hc
  have hl : lv_has ls 2 [(0, .ref h), (1, .int k)] := hl
  refine lv_iload_n hx hb dX0_isState_0 rfl (lv_at hl 1 rfl) ?_
  refine lv_if_lt (tgt := 13) hx hb dX0_isState_1 (by decide) (fun h1 => ?_) (fun h1 => ?_)
  · refine lv_iconst (v := 0) hx hb dX0_isState_13 (by decide) ?_
    exact hret _ _ _ _ _ _ dX0_isState_14 (rfl) (⟨rfl, Or.inr ⟨rfl, ps_nin_neg (by decide) h1⟩⟩) hw
  · refine lv_iload_n hx hb dX0_isState_4 rfl (lv_at hl 1 rfl) ?_
    refine lv_iconst (v := nI 4) hx hb dX0_isState_5 (by decide) ?_
    refine lv_icmp_ge (tgt := 13) hx hb dX0_isState_6 (by decide) (fun h2 => ?_) (fun h2 => ?_)
    · refine lv_iconst (v := 0) hx hb dX0_isState_13 (by decide) ?_
      exact hret _ _ _ _ _ _ dX0_isState_14 (rfl) (⟨rfl, Or.inr ⟨rfl, ps_nin_ge (by decide) h2⟩⟩) hw
    · refine lv_iconst (v := 1) hx hb dX0_isState_9 (by decide) ?_
      refine lv_goto (tgt := 14) hx hb dX0_isState_10 (by decide) ?_
      exact hret _ _ _ _ _ _ dX0_isState_14 (rfl) (⟨rfl, Or.inl ⟨rfl, ps_in_of (by decide) h1 h2⟩⟩) hw
set_option maxHeartbeats 4000000 in
set_option maxRecDepth 100000 in
theorem px_isPolicy (l : Launch) (D : va_G) (h : Nat) (q : Nat → Nat) (d : Nat → ClassId) (u0 : XS) (k : Int32) : CI l D (xF h q d) (xT d) yX0_isPolicy cX0_isPolicy 2 .boolean (rmK 0 0) [.ref h, .int k] u0 (fun r u => u = u0 ∧ ((r = 1 ∧ ps_in k 16) ∨ (r = 0 ∧ ¬ ps_in k 16))) := by
  refine CI.of (by decide) (Nat.le_of_ble_eq_true rfl) ?_
  intro p e s m below meth c A Q ls hc hret hw hl
  obtain ⟨hx, hb, hml, hown, hts, hK, hA⟩ := id hc
  have hl : lv_has ls 2 [(0, .ref h), (1, .int k)] := hl
  refine lv_iload_n hx hb dX0_isPolicy_0 rfl (lv_at hl 1 rfl) ?_
  refine lv_if_lt (tgt := 14) hx hb dX0_isPolicy_1 (by decide) (fun h1 => ?_) (fun h1 => ?_)
  · refine lv_iconst (v := 0) hx hb dX0_isPolicy_14 (by decide) ?_
    exact hret _ _ _ _ _ _ dX0_isPolicy_15 (rfl) (⟨rfl, Or.inr ⟨rfl, ps_nin_neg (by decide) h1⟩⟩) hw
  · refine lv_iload_n hx hb dX0_isPolicy_4 rfl (lv_at hl 1 rfl) ?_
    refine lv_bipush (v := nI 15) hx hb dX0_isPolicy_5 (by decide) ?_
    refine lv_icmp_gt (tgt := 14) hx hb dX0_isPolicy_7 (by decide) (fun h2 => ?_) (fun h2 => ?_)
    · refine lv_iconst (v := 0) hx hb dX0_isPolicy_14 (by decide) ?_
      exact hret _ _ _ _ _ _ dX0_isPolicy_15 (rfl) (⟨rfl, Or.inr ⟨rfl, ps_nin_gt (by decide) h2⟩⟩) hw
    · refine lv_iconst (v := 1) hx hb dX0_isPolicy_10 (by decide) ?_
      refine lv_goto (tgt := 15) hx hb dX0_isPolicy_11 (by decide) ?_
      exact hret _ _ _ _ _ _ dX0_isPolicy_15 (rfl) (⟨rfl, Or.inl ⟨rfl, ps_in_le (by decide) h1 h2⟩⟩) hw
set_option maxHeartbeats 4000000 in
set_option maxRecDepth 100000 in
theorem px_cd (l : Launch) (D : va_G) (h : Nat) (q : Nat → Nat) (d : Nat → ClassId) (u0 : XS) (a : Int64) (mm nn : Nat) (h1 : a.toInt.natAbs = mm) (h2 : mm < 2 ^ 63) (h3 : nn < 2 ^ 63) : CL l D (xF h q d) (xT d) yX0_commonDivisor cX0_commonDivisor 11 (rmK 0 0) [.ref h, .long a, .long (lN nn)] u0 (fun r u => u = u0 ∧ r = lN (Nat.gcd mm nn)) := by
  refine CL.of (by decide) (Nat.le_of_ble_eq_true rfl) ?_
  intro p e s m below meth c A Q ls hc hret hw hl
  obtain ⟨hx, hb, hml, hown, hts, hK, hA⟩ := id hc
  have hl : lv_has ls 11 [(0, .ref h), (1, .long a), (3, .long (lN nn))] := hl
  have L : ∀ (k x1 y1 : Nat), x1 < k → x1 < 2 ^ 63 → y1 < 2 ^ 63 → Nat.gcd x1 y1 = Nat.gcd mm nn → ∀ (H : Heap) (locs : List Loc) (ls : Array Slot), ww D (xF h q d) A s.heap H locs u0 → lv_has ls 11 [(0, .ref h), (1, .long a), (3, .long (lN nn)), (5, .long (lN x1)), (7, .long (lN y1))] → W p l e (rmK 0 0) s m [.ref h, .long a, .long (lN nn)].toArray below meth c H locs 0 0 Q (F0 m 17 ls []) := by
    intro k
    induction k with
    | zero =>
      intro x1 y1 g1
      exact absurd g1 (by omega)
    | succ k ih =>
      intro x1 y1 g1 g2 g3 g4 H locs ls hw hl
      refine lv_lload hx hb dX0_commonDivisor_17 (lv_at hl 3 rfl) ?_
      refine lv_lconst (v := 0) hx hb dX0_commonDivisor_19 (by decide) ?_
      refine W.lcmp hx hb dX0_commonDivisor_20 ?_
      refine j_if_eq (tgt := 42) hx hb dX0_commonDivisor_21 (by decide) (fun h4 => ?_) (fun h4 => ?_)
      · refine lv_lload hx hb dX0_commonDivisor_42 (lv_at hl 4 rfl) ?_
        exact hret _ _ _ _ _ _ dX0_commonDivisor_44 (⟨rfl, by rw [← g4, ps_lN0 g2 h4, Nat.gcd_zero_left]⟩) hw
      · have h5 : 0 < x1 := Nat.pos_of_ne_zero (fun q => h4 (by rw [q]; exact lN_0))
        refine lv_lload hx hb dX0_commonDivisor_24 (lv_at hl 4 rfl) ?_
        refine lv_lload hx hb dX0_commonDivisor_26 (lv_at hl 3 rfl) ?_
        refine lv_lrem hx hb dX0_commonDivisor_28 h4 ?_
        refine n_topl (y := lN (y1 % x1)) (pk_lRem g3 h5 g2) ?_
        refine lv_lstore (lv' := [(9, .long (lN (y1 % x1))), (0, .ref h), (1, .long a), (3, .long (lN nn)), (5, .long (lN x1)), (7, .long (lN y1))]) hx hb dX0_commonDivisor_29 hl (by decide) rfl (fun ls hl => ?_)
        refine lv_lload hx hb dX0_commonDivisor_31 (lv_at hl 4 rfl) ?_
        refine lv_lstore (lv' := [(7, .long (lN x1)), (9, .long (lN (y1 % x1))), (0, .ref h), (1, .long a), (3, .long (lN nn)), (5, .long (lN x1))]) hx hb dX0_commonDivisor_33 hl (by decide) rfl (fun ls hl => ?_)
        refine lv_lload hx hb dX0_commonDivisor_35 (lv_at hl 1 rfl) ?_
        refine lv_lstore (lv' := [(5, .long (lN (y1 % x1))), (7, .long (lN x1)), (9, .long (lN (y1 % x1))), (0, .ref h), (1, .long a), (3, .long (lN nn))]) hx hb dX0_commonDivisor_37 hl (by decide) rfl (fun ls hl => ?_)
        refine lv_goto (tgt := 17) hx hb dX0_commonDivisor_39 (by decide) ?_
        have h6 := Nat.mod_lt y1 h5
        exact ih (y1 % x1) x1 (by omega) (by omega) g2 (by rw [← Nat.gcd_rec]; exact g4) H locs ls hw (lv_sub hl [3, 4, 5, 0, 1] rfl)
  have J : W p l e (rmK 0 0) s m [.ref h, .long a, .long (lN nn)].toArray below meth c s.heap [] 0 0 Q (F0 m 12 ls [.long (lN mm)]) := by
    refine lv_lstore (lv' := [(5, .long (lN mm)), (0, .ref h), (1, .long a), (3, .long (lN nn))]) hx hb dX0_commonDivisor_12 hl (by decide) rfl (fun ls hl => ?_)
    refine lv_lload_n hx hb dX0_commonDivisor_14 rfl (lv_at hl 3 rfl) ?_
    refine lv_lstore (lv' := [(7, .long (lN nn)), (5, .long (lN mm)), (0, .ref h), (1, .long a), (3, .long (lN nn))]) hx hb dX0_commonDivisor_15 hl (by decide) rfl (fun ls hl => ?_)
    exact L (mm + 1) mm nn (by omega) h2 h3 rfl _ _ _ hw (lv_sub hl [2, 3, 4, 1, 0] rfl)
  refine lv_lload_n hx hb dX0_commonDivisor_0 rfl (lv_at hl 1 rfl) ?_
  refine lv_lconst (v := 0) hx hb dX0_commonDivisor_1 (by decide) ?_
  refine W.lcmp hx hb dX0_commonDivisor_2 ?_
  refine j_if_ge (tgt := 11) hx hb dX0_commonDivisor_3 (by decide) (fun h4 => ?_) (fun h4 => ?_)
  · refine lv_lload_n hx hb dX0_commonDivisor_11 rfl (lv_at hl 1 rfl) ?_
    refine n_topl (y := lN mm) (ps_abs_pos h1 h4) ?_
    exact J
  · refine lv_lload_n hx hb dX0_commonDivisor_6 rfl (lv_at hl 1 rfl) ?_
    refine lv_lneg hx hb dX0_commonDivisor_7 ?_
    refine lv_goto (tgt := 12) hx hb dX0_commonDivisor_8 (by decide) ?_
    refine n_topl (y := lN mm) (ps_abs_neg h1 h2 h4) ?_
    exact J
set_option maxHeartbeats 4000000 in
set_option maxRecDepth 100000 in
theorem px_lt (l : Launch) (D : va_G) (h : Nat) (q : Nat → Nat) (d : Nat → ClassId) (u0 : XS) (a : Int64) (mm nn : Nat) (h1 : a.toInt.natAbs = mm) (h2 : mm < 2 ^ 63) (h3 : nn < 2 ^ 63) (h4 : 0 < nn) : CI l D (xF h q d) (xT d) yX0_lowestTop cX0_lowestTop 7 .int (rmK 1 30) [.ref h, .long a, .long (lN nn)] u0 (fun r u => u = u0 ∧ r = (a / lN (Nat.gcd mm nn)).toInt32) := by
  refine CI.of (by decide) (Nat.le_of_ble_eq_true rfl) ?_
  intro p e s m below meth c A Q ls hc hret hw hl
  obtain ⟨hx, hb, hml, hown, hts, hK, hA⟩ := id hc
  have hl : lv_has ls 7 [(0, .ref h), (1, .long a), (3, .long (lN nn))] := hl
  refine lv_aload_n hx hb dX0_lowestTop_0 rfl (lv_at hl 0 rfl) ?_
  refine lv_lload_n hx hb dX0_lowestTop_1 rfl (lv_at hl 1 rfl) ?_
  refine lv_lload_n hx hb dX0_lowestTop_2 rfl (lv_at hl 2 rfl) ?_
  refine CL.call (As := [.long a, .long (lN nn)]) (rest := []) (ci := 0) (n := 2) (px_cd l D h q d u0 a mm nn h1 h2 h3) hc hw rfl rfl (cwV 2 hts (lw_V q114 q116 qs6 q27 q117) rfl rfl rfl (by decide +kernel) ⟨Nat.le_of_ble_eq_true rfl, Nat.le_of_ble_eq_true rfl⟩) rfl hl.1 rfl (Nat.le_of_ble_eq_true rfl) ⟨Nat.le_of_ble_eq_true rfl, Nat.le_of_ble_eq_true rfl⟩ dX0_lowestTop_3 (fun r u H locs hu hwc => ?_)
  have hw : ww D (xF h q d) A s.heap H locs u0 := by rw [hu.1] at hwc; exact hwc
  obtain ⟨-, rfl⟩ := hu
  refine lv_lstore (lv' := [(5, .long (lN (Nat.gcd mm nn))), (0, .ref h), (1, .long a), (3, .long (lN nn))]) hx hb dX0_lowestTop_6 hl (by decide) rfl (fun ls hl => ?_)
  refine lv_lload_n hx hb dX0_lowestTop_8 rfl (lv_at hl 2 rfl) ?_
  refine lv_lload hx hb dX0_lowestTop_9 (lv_at hl 0 rfl) ?_
  refine lv_ldiv hx hb dX0_lowestTop_11 (ps_lNne (ps_gcd_lt h4 h3) (ps_gcd_pos h4)) ?_
  refine lv_l2i (v := (a / (lN (Nat.gcd mm nn))).toInt32) hx hb dX0_lowestTop_12 rfl ?_
  exact hret _ _ _ _ _ _ dX0_lowestTop_13 (vp_nar_int _) (⟨rfl, rfl⟩) hw
set_option maxHeartbeats 4000000 in
set_option maxRecDepth 100000 in
theorem px_lb (l : Launch) (D : va_G) (h : Nat) (q : Nat → Nat) (d : Nat → ClassId) (u0 : XS) (a : Int64) (mm nn : Nat) (h1 : a.toInt.natAbs = mm) (h2 : mm < 2 ^ 63) (h3 : nn < 2 ^ 63) (h4 : 0 < nn) : CI l D (xF h q d) (xT d) yX0_lowestBottom cX0_lowestBottom 7 .int (rmK 1 30) [.ref h, .long a, .long (lN nn)] u0 (fun r u => u = u0 ∧ r = (lN nn / lN (Nat.gcd mm nn)).toInt32) := by
  refine CI.of (by decide) (Nat.le_of_ble_eq_true rfl) ?_
  intro p e s m below meth c A Q ls hc hret hw hl
  obtain ⟨hx, hb, hml, hown, hts, hK, hA⟩ := id hc
  have hl : lv_has ls 7 [(0, .ref h), (1, .long a), (3, .long (lN nn))] := hl
  refine lv_aload_n hx hb dX0_lowestBottom_0 rfl (lv_at hl 0 rfl) ?_
  refine lv_lload_n hx hb dX0_lowestBottom_1 rfl (lv_at hl 1 rfl) ?_
  refine lv_lload_n hx hb dX0_lowestBottom_2 rfl (lv_at hl 2 rfl) ?_
  refine CL.call (As := [.long a, .long (lN nn)]) (rest := []) (ci := 0) (n := 2) (px_cd l D h q d u0 a mm nn h1 h2 h3) hc hw rfl rfl (cwV 2 hts (lw_V q114 q116 qs6 q27 q117) rfl rfl rfl (by decide +kernel) ⟨Nat.le_of_ble_eq_true rfl, Nat.le_of_ble_eq_true rfl⟩) rfl hl.1 rfl (Nat.le_of_ble_eq_true rfl) ⟨Nat.le_of_ble_eq_true rfl, Nat.le_of_ble_eq_true rfl⟩ dX0_lowestBottom_3 (fun r u H locs hu hwc => ?_)
  have hw : ww D (xF h q d) A s.heap H locs u0 := by rw [hu.1] at hwc; exact hwc
  obtain ⟨-, rfl⟩ := hu
  refine lv_lstore (lv' := [(5, .long (lN (Nat.gcd mm nn))), (0, .ref h), (1, .long a), (3, .long (lN nn))]) hx hb dX0_lowestBottom_6 hl (by decide) rfl (fun ls hl => ?_)
  refine lv_lload_n hx hb dX0_lowestBottom_8 rfl (lv_at hl 3 rfl) ?_
  refine lv_lload hx hb dX0_lowestBottom_9 (lv_at hl 0 rfl) ?_
  refine lv_ldiv hx hb dX0_lowestBottom_11 (ps_lNne (ps_gcd_lt h4 h3) (ps_gcd_pos h4)) ?_
  refine lv_l2i (v := ((lN nn) / (lN (Nat.gcd mm nn))).toInt32) hx hb dX0_lowestBottom_12 rfl ?_
  exact hret _ _ _ _ _ _ dX0_lowestBottom_13 (vp_nar_int _) (⟨rfl, rfl⟩) hw
end
section
set_option maxHeartbeats 4000000 in
set_option maxRecDepth 100000 in
theorem px_fillRows (l : Launch) (D : va_G) (h : Nat) (q : Nat → Nat) (d : Nat → ClassId) (R S : Nat → Int32) (ra tp : Nat → Int64) (bo : Int64) (kt : Nat → Int64) (kb : Int64) (so bp : Int32) (bt : Nat → Int64) (bd : Int64) (g : Nat → Int32) (pp : Nat) (h1 : pp < 16) : CV l D (xF h q d) (xT d) yX0_fillRows cX0_fillRows 5 (rmK 0 0) [.ref h, .int (nI pp)] (R, S, ra, tp, bo, kt, kb, so, bp, bt, bd, g) (fun u => u = (R, S, px_fs R S pp 4 0 ra, tp, bo, kt, kb, so, bp, bt, bd, g)) := by
  refine CV.of (by decide) (Nat.le_of_ble_eq_true rfl) ?_
  intro p e s m below meth c A Q ls hc hret hw hl
  obtain ⟨hx, hb, hml, hown, hts, hK, hA⟩ := id hc
  have hl : lv_has ls 5 [(0, .ref h), (1, .int (nI pp))] := hl
  have L1 : ∀ (n i : Nat) (f : Nat → Int64), i + n = 4 → px_fs R S pp n i f = px_fs R S pp 4 0 ra → ∀ (H : Heap) (locs : List Loc) (ls : Array Slot), ww D (xF h q d) A s.heap H locs (R, S, f, tp, bo, kt, kb, so, bp, bt, bd, g) → lv_has ls 5 [(0, .ref h), (1, .int (nI pp)), (2, .int (nI i))] → W p l e (rmK 0 0) s m [.ref h, .int (nI pp)].toArray below meth c H locs 0 0 Q (F0 m 2 ls []) := by
    intro n
    induction n with
    | zero =>
      intro i f g1 g2 H locs ls hw hl
      refine lv_iload_n hx hb dX0_fillRows_2 rfl (lv_at hl 2 rfl) ?_
      refine lv_iconst (v := nI 4) hx hb dX0_fillRows_3 (by decide) ?_
      refine n_icmp_ge (tgt := 96) hx hb (by omega) (by omega) dX0_fillRows_4 (by decide) (fun h2 => ?_) (fun h2 => ?_)
      · exact hret _ _ _ _ _ dX0_fillRows_96 (by rw [← g2]; rfl) hw
      · exact absurd h2 (by omega)
    | succ n ih =>
      intro i f g1 g2 H locs ls hw hl
      refine lv_iload_n hx hb dX0_fillRows_2 rfl (lv_at hl 2 rfl) ?_
      refine lv_iconst (v := nI 4) hx hb dX0_fillRows_3 (by decide) ?_
      refine n_icmp_ge (tgt := 96) hx hb (by omega) (by omega) dX0_fillRows_4 (by decide) (fun h2 => ?_) (fun h2 => ?_)
      · exact absurd h2 (by omega)
      · have h3 : 2 * i + pp / 2 ^ i % 2 < 8 := ps_act_lt h2
        refine lv_iconst (v := nI 2) hx hb dX0_fillRows_7 (by decide) ?_
        refine lv_iload_n hx hb dX0_fillRows_8 rfl (lv_at hl 2 rfl) ?_
        refine n_imul hx hb dX0_fillRows_9 ?_
        refine lv_iload_n hx hb dX0_fillRows_10 rfl (lv_at hl 1 rfl) ?_
        refine lv_iload_n hx hb dX0_fillRows_11 rfl (lv_at hl 2 rfl) ?_
        refine n_ishr hx hb (by omega) (by omega) dX0_fillRows_12 ?_
        refine lv_iconst (v := nI 1) hx hb dX0_fillRows_13 (by decide) ?_
        refine n_iand1 hx hb (Nat.lt_of_le_of_lt (Nat.div_le_self _ _) (by omega)) dX0_fillRows_14 ?_
        refine n_iadd hx hb dX0_fillRows_15 ?_
        refine lv_istore_n (lv' := [(3, .int (nI ((2 * i) + ((pp / 2 ^ i) % 2)))), (0, .ref h), (1, .int (nI pp)), (2, .int (nI i))]) hx hb dX0_fillRows_16 rfl hl (by decide) rfl (fun ls hl => ?_)
        refine lv_iconst (v := nI 0) hx hb dX0_fillRows_17 (by decide) ?_
        refine lv_istore (lv' := [(4, .int (nI 0)), (3, .int (nI ((2 * i) + ((pp / 2 ^ i) % 2)))), (0, .ref h), (1, .int (nI pp)), (2, .int (nI i))]) hx hb dX0_fillRows_18 hl (by decide) rfl (fun ls hl => ?_)
        have L2 : ∀ (n2 j : Nat) (f2 : Nat → Int64), j + n2 = 4 → px_ft S i (2 * i + pp / 2 ^ i % 2) n2 j f2 = px_ft S i (2 * i + pp / 2 ^ i % 2) 4 0 f → ∀ (H : Heap) (locs : List Loc) (ls : Array Slot), ww D (xF h q d) A s.heap H locs (R, S, f2, tp, bo, kt, kb, so, bp, bt, bd, g) → lv_has ls 5 [(0, .ref h), (1, .int (nI pp)), (2, .int (nI i)), (3, .int (nI (2 * i + pp / 2 ^ i % 2))), (4, .int (nI j))] → W p l e (rmK 0 0) s m [.ref h, .int (nI pp)].toArray below meth c H locs 0 0 Q (F0 m 20 ls []) := by
          intro n2
          induction n2 with
          | zero =>
            intro j f2 g3 g4 H locs ls hw hl
            refine lv_iload hx hb dX0_fillRows_20 (lv_at hl 4 rfl) ?_
            refine lv_iconst (v := nI 4) hx hb dX0_fillRows_22 (by decide) ?_
            refine n_icmp_ge (tgt := 69) hx hb (by omega) (by omega) dX0_fillRows_23 (by decide) (fun h4 => ?_) (fun h4 => ?_)
            · refine lv_aload_n hx hb dX0_fillRows_69 rfl (lv_at hl 0 rfl) ?_
              refine x_get2 hc hw dX0_fillRows_70 ?_
              refine lv_iconst (v := nI 5) hx hb dX0_fillRows_73 (by decide) ?_
              refine lv_iload_n hx hb dX0_fillRows_74 rfl (lv_at hl 2 rfl) ?_
              refine n_imul hx hb dX0_fillRows_75 ?_
              refine lv_iconst (v := nI 4) hx hb dX0_fillRows_76 (by decide) ?_
              refine n_iadd hx hb dX0_fillRows_77 ?_
              refine lv_ldc2 (v := 8) hx hb hown (hts _ q105) dX0_fillRows_78 ?_
              refine lv_aload_n hx hb dX0_fillRows_81 rfl (lv_at hl 0 rfl) ?_
              refine x_get0 hc hw dX0_fillRows_82 ?_
              refine lv_iload_n hx hb dX0_fillRows_85 rfl (lv_at hl 3 rfl) ?_
              refine x_ld0 hc hw (by omega) dX0_fillRows_86 ?_
              refine lv_i2l (v := (R (2 * i + pp / 2 ^ i % 2)).toInt64) hx hb dX0_fillRows_87 rfl ?_
              refine lv_lmul hx hb dX0_fillRows_88 ?_
              refine x_st2 hc hw (by omega) dX0_fillRows_89 (fun H locs hw => ?_)
              refine lv_iinc (v := nI (i + 1)) (lv' := [(2, .int (nI (i + 1))), (0, .ref h), (1, .int (nI pp)), (3, .int (nI (2 * i + pp / 2 ^ i % 2))), (4, .int (nI j))]) hx hb dX0_fillRows_90 hl (k := 2) rfl (n_inc _) (by decide) rfl (fun ls hl => ?_)
              refine lv_goto (tgt := 2) hx hb dX0_fillRows_93 (by decide) ?_
              exact ih (i + 1) _ (by omega) (by rw [show f2 = _ from g4]; exact g2) H locs ls hw (lv_sub hl [1, 2, 0] rfl)
            · exact absurd h4 (by omega)
          | succ n2 ih2 =>
            intro j f2 g3 g4 H locs ls hw hl
            refine lv_iload hx hb dX0_fillRows_20 (lv_at hl 4 rfl) ?_
            refine lv_iconst (v := nI 4) hx hb dX0_fillRows_22 (by decide) ?_
            refine n_icmp_ge (tgt := 69) hx hb (by omega) (by omega) dX0_fillRows_23 (by decide) (fun h4 => ?_) (fun h4 => ?_)
            · exact absurd h4 (by omega)
            · refine lv_aload_n hx hb dX0_fillRows_26 rfl (lv_at hl 0 rfl) ?_
              refine x_get2 hc hw dX0_fillRows_27 ?_
              refine lv_iconst (v := nI 5) hx hb dX0_fillRows_30 (by decide) ?_
              refine lv_iload_n hx hb dX0_fillRows_31 rfl (lv_at hl 2 rfl) ?_
              refine n_imul hx hb dX0_fillRows_32 ?_
              refine lv_iload hx hb dX0_fillRows_33 (lv_at hl 4 rfl) ?_
              refine n_iadd hx hb dX0_fillRows_35 ?_
              have J : ∀ v : Int64, v = (if i = j then 8 else 0) → W p l e (rmK 0 0) s m [.ref h, .int (nI pp)].toArray below meth c H locs 0 0 Q (F0 m 49 ls [.long v, .int (nI ((5 * i) + j)), .ref (q 2)]) := by
                intro v hv
                subst hv
                refine lv_aload_n hx hb dX0_fillRows_49 rfl (lv_at hl 0 rfl) ?_
                refine x_get1 hc hw dX0_fillRows_50 ?_
                refine lv_iconst (v := nI 4) hx hb dX0_fillRows_53 (by decide) ?_
                refine lv_iload_n hx hb dX0_fillRows_54 rfl (lv_at hl 3 rfl) ?_
                refine n_imul hx hb dX0_fillRows_55 ?_
                refine lv_iload hx hb dX0_fillRows_56 (lv_at hl 4 rfl) ?_
                refine n_iadd hx hb dX0_fillRows_58 ?_
                refine x_ld1 hc hw (by omega) dX0_fillRows_59 ?_
                refine lv_i2l (v := (S ((4 * (2 * i + pp / 2 ^ i % 2)) + j)).toInt64) hx hb dX0_fillRows_60 rfl ?_
                refine lv_lsub hx hb dX0_fillRows_61 ?_
                refine x_st2 hc hw (by omega) dX0_fillRows_62 (fun H locs hw => ?_)
                refine lv_iinc (v := nI (j + 1)) (lv' := [(4, .int (nI (j + 1))), (0, .ref h), (1, .int (nI pp)), (2, .int (nI i)), (3, .int (nI (2 * i + pp / 2 ^ i % 2)))]) hx hb dX0_fillRows_63 hl (k := 4) rfl (n_inc _) (by decide) rfl (fun ls hl => ?_)
                refine lv_goto (tgt := 20) hx hb dX0_fillRows_66 (by decide) ?_
                exact ih2 (j + 1) _ (by omega) g4 H locs ls hw (lv_sub hl [1, 2, 3, 4, 0] rfl)
              refine lv_iload_n hx hb dX0_fillRows_36 rfl (lv_at hl 2 rfl) ?_
              refine lv_iload hx hb dX0_fillRows_37 (lv_at hl 4 rfl) ?_
              refine n_icmp_ne (tgt := 48) hx hb (by omega) (by omega) dX0_fillRows_39 (by decide) (fun h5 => ?_) (fun h5 => ?_)
              · refine lv_lconst (v := 0) hx hb dX0_fillRows_48 (by decide) ?_
                exact J 0 (by rw [if_neg h5])
              · refine lv_ldc2 (v := 8) hx hb hown (hts _ q105) dX0_fillRows_42 ?_
                refine lv_goto (tgt := 49) hx hb dX0_fillRows_45 (by decide) ?_
                exact J 8 (by rw [if_pos h5])
        exact L2 4 0 f rfl rfl _ _ _ hw (lv_sub hl [2, 3, 4, 1, 0] rfl)
  refine lv_iconst (v := nI 0) hx hb dX0_fillRows_0 (by decide) ?_
  refine lv_istore_n (lv' := [(2, .int (nI 0)), (0, .ref h), (1, .int (nI pp))]) hx hb dX0_fillRows_1 rfl hl (by decide) rfl (fun ls hl => ?_)
  exact L1 4 0 ra rfl rfl _ _ _ hw (lv_sub hl [1, 2, 0] rfl)
set_option maxHeartbeats 4000000 in
set_option maxRecDepth 100000 in
theorem px_reduce (l : Launch) (D : va_G) (h : Nat) (q : Nat → Nat) (d : Nat → ClassId) (R S : Nat → Int32) (ra tp : Nat → Int64) (bo : Int64) (kt : Nat → Int64) (kb : Int64) (so bp : Int32) (bt : Nat → Int64) (bd : Int64) (g : Nat → Int32) (r1 k1 : Nat) (b1 : Int64) (h1 : r1 < 4) (h2 : k1 < 4) (h3 : ¬ b1 = 0) : CV l D (xF h q d) (xT d) yX0_reduce cX0_reduce 10 (rmK 0 0) [.ref h, .int (nI r1), .int (nI k1), .long b1] (R, S, ra, tp, bo, kt, kb, so, bp, bt, bd, g) (fun u => u = (R, S, px_red b1 r1 k1 ra, tp, bo, kt, kb, so, bp, bt, bd, g)) := by
  refine CV.of (by decide) (Nat.le_of_ble_eq_true rfl) ?_
  intro p e s m below meth c A Q ls hc hret hw hl
  obtain ⟨hx, hb, hml, hown, hts, hK, hA⟩ := id hc
  have hl : lv_has ls 10 [(0, .ref h), (1, .int (nI r1)), (2, .int (nI k1)), (3, .long b1)] := hl
  have L1 : ∀ (n j : Nat) (f : Nat → Int64), j + n = 5 → px_rd (ra (5 * k1 + k1)) (ra (5 * r1 + k1)) b1 r1 k1 n j f = px_red b1 r1 k1 ra → ∀ (H : Heap) (locs : List Loc) (ls : Array Slot), ww D (xF h q d) A s.heap H locs (R, S, f, tp, bo, kt, kb, so, bp, bt, bd, g) → lv_has ls 10 [(0, .ref h), (1, .int (nI r1)), (2, .int (nI k1)), (3, .long b1), (5, .long (ra (5 * k1 + k1))), (7, .long (ra (5 * r1 + k1))), (9, .int (nI j))] → W p l e (rmK 0 0) s m [.ref h, .int (nI r1), .int (nI k1), .long b1].toArray below meth c H locs 0 0 Q (F0 m 27 ls []) := by
    intro n
    induction n with
    | zero =>
      intro j f g1 g2 H locs ls hw hl
      refine lv_iload hx hb dX0_reduce_27 (lv_at hl 6 rfl) ?_
      refine lv_iconst (v := nI 5) hx hb dX0_reduce_29 (by decide) ?_
      refine n_icmp_ge (tgt := 81) hx hb (by omega) (by omega) dX0_reduce_30 (by decide) (fun h4 => ?_) (fun h4 => ?_)
      · exact hret _ _ _ _ _ dX0_reduce_81 (by rw [← g2]; rfl) hw
      · exact absurd h4 (by omega)
    | succ n ih =>
      intro j f g1 g2 H locs ls hw hl
      refine lv_iload hx hb dX0_reduce_27 (lv_at hl 6 rfl) ?_
      refine lv_iconst (v := nI 5) hx hb dX0_reduce_29 (by decide) ?_
      refine n_icmp_ge (tgt := 81) hx hb (by omega) (by omega) dX0_reduce_30 (by decide) (fun h4 => ?_) (fun h4 => ?_)
      · exact absurd h4 (by omega)
      · refine lv_aload_n hx hb dX0_reduce_33 rfl (lv_at hl 0 rfl) ?_
        refine x_get2 hc hw dX0_reduce_34 ?_
        refine lv_iconst (v := nI 5) hx hb dX0_reduce_37 (by decide) ?_
        refine lv_iload_n hx hb dX0_reduce_38 rfl (lv_at hl 1 rfl) ?_
        refine n_imul hx hb dX0_reduce_39 ?_
        refine lv_iload hx hb dX0_reduce_40 (lv_at hl 6 rfl) ?_
        refine n_iadd hx hb dX0_reduce_42 ?_
        refine lv_aload_n hx hb dX0_reduce_43 rfl (lv_at hl 0 rfl) ?_
        refine x_get2 hc hw dX0_reduce_44 ?_
        refine lv_iconst (v := nI 5) hx hb dX0_reduce_47 (by decide) ?_
        refine lv_iload_n hx hb dX0_reduce_48 rfl (lv_at hl 1 rfl) ?_
        refine n_imul hx hb dX0_reduce_49 ?_
        refine lv_iload hx hb dX0_reduce_50 (lv_at hl 6 rfl) ?_
        refine n_iadd hx hb dX0_reduce_52 ?_
        refine x_ld2 hc hw (by omega) dX0_reduce_53 ?_
        refine lv_lload hx hb dX0_reduce_54 (lv_at hl 4 rfl) ?_
        refine lv_lmul hx hb dX0_reduce_56 ?_
        refine lv_lload hx hb dX0_reduce_57 (lv_at hl 5 rfl) ?_
        refine lv_aload_n hx hb dX0_reduce_59 rfl (lv_at hl 0 rfl) ?_
        refine x_get2 hc hw dX0_reduce_60 ?_
        refine lv_iconst (v := nI 5) hx hb dX0_reduce_63 (by decide) ?_
        refine lv_iload_n hx hb dX0_reduce_64 rfl (lv_at hl 2 rfl) ?_
        refine n_imul hx hb dX0_reduce_65 ?_
        refine lv_iload hx hb dX0_reduce_66 (lv_at hl 6 rfl) ?_
        refine n_iadd hx hb dX0_reduce_68 ?_
        refine x_ld2 hc hw (by omega) dX0_reduce_69 ?_
        refine lv_lmul hx hb dX0_reduce_70 ?_
        refine lv_lsub hx hb dX0_reduce_71 ?_
        refine lv_lload_n hx hb dX0_reduce_72 rfl (lv_at hl 3 rfl) ?_
        refine lv_ldiv hx hb dX0_reduce_73 h3 ?_
        refine x_st2 hc hw (by omega) dX0_reduce_74 (fun H locs hw => ?_)
        refine lv_iinc (v := nI (j + 1)) (lv' := [(9, .int (nI (j + 1))), (0, .ref h), (1, .int (nI r1)), (2, .int (nI k1)), (3, .long b1), (5, .long (ra (5 * k1 + k1))), (7, .long (ra (5 * r1 + k1)))]) hx hb dX0_reduce_75 hl (k := 6) rfl (n_inc _) (by decide) rfl (fun ls hl => ?_)
        refine lv_goto (tgt := 27) hx hb dX0_reduce_78 (by decide) ?_
        exact ih (j + 1) _ (by omega) g2 H locs ls hw (lv_sub hl [1, 2, 3, 4, 5, 6, 0] rfl)
  refine lv_aload_n hx hb dX0_reduce_0 rfl (lv_at hl 0 rfl) ?_
  refine x_get2 hc hw dX0_reduce_1 ?_
  refine lv_iconst (v := nI 5) hx hb dX0_reduce_4 (by decide) ?_
  refine lv_iload_n hx hb dX0_reduce_5 rfl (lv_at hl 2 rfl) ?_
  refine n_imul hx hb dX0_reduce_6 ?_
  refine lv_iload_n hx hb dX0_reduce_7 rfl (lv_at hl 2 rfl) ?_
  refine n_iadd hx hb dX0_reduce_8 ?_
  refine x_ld2 hc hw (by omega) dX0_reduce_9 ?_
  refine lv_lstore (lv' := [(5, .long (ra ((5 * k1) + k1))), (0, .ref h), (1, .int (nI r1)), (2, .int (nI k1)), (3, .long b1)]) hx hb dX0_reduce_10 hl (by decide) rfl (fun ls hl => ?_)
  refine lv_aload_n hx hb dX0_reduce_12 rfl (lv_at hl 1 rfl) ?_
  refine x_get2 hc hw dX0_reduce_13 ?_
  refine lv_iconst (v := nI 5) hx hb dX0_reduce_16 (by decide) ?_
  refine lv_iload_n hx hb dX0_reduce_17 rfl (lv_at hl 2 rfl) ?_
  refine n_imul hx hb dX0_reduce_18 ?_
  refine lv_iload_n hx hb dX0_reduce_19 rfl (lv_at hl 3 rfl) ?_
  refine n_iadd hx hb dX0_reduce_20 ?_
  refine x_ld2 hc hw (by omega) dX0_reduce_21 ?_
  refine lv_lstore (lv' := [(7, .long (ra ((5 * r1) + k1))), (5, .long (ra ((5 * k1) + k1))), (0, .ref h), (1, .int (nI r1)), (2, .int (nI k1)), (3, .long b1)]) hx hb dX0_reduce_22 hl (by decide) rfl (fun ls hl => ?_)
  refine lv_iconst (v := nI 0) hx hb dX0_reduce_24 (by decide) ?_
  refine lv_istore (lv' := [(9, .int (nI 0)), (7, .long (ra ((5 * r1) + k1))), (5, .long (ra ((5 * k1) + k1))), (0, .ref h), (1, .int (nI r1)), (2, .int (nI k1)), (3, .long b1)]) hx hb dX0_reduce_25 hl (by decide) rfl (fun ls hl => ?_)
  exact L1 5 0 ra rfl rfl _ _ _ hw (lv_sub hl [3, 4, 5, 6, 2, 1, 0] rfl)
set_option maxHeartbeats 4000000 in
set_option maxRecDepth 100000 in
theorem px_evaluate (l : Launch) (D : va_G) (h : Nat) (q : Nat → Nat) (d : Nat → ClassId) (R S : Nat → Int32) (ra tp : Nat → Int64) (bo : Int64) (kt : Nat → Int64) (kb : Int64) (so bp : Int32) (bt : Nat → Int64) (bd : Int64) (g : Nat → Int32) (pp : Nat) (h1 : pp < 16) (hok : ps_Ok R S) : CV l D (xF h q d) (xT d) yX0_evaluate cX0_evaluate 6 (rmK 1 30) [.ref h, .int (nI pp)] (R, S, ra, tp, bo, kt, kb, so, bp, bt, bd, g) (fun u => ∃ ra1 tp1, (∀ t, t < 4 → tp1 t = Int64.ofInt (ps_tp R S pp t)) ∧ u = (R, S, ra1, tp1, Int64.ofInt (ps_bo R S pp), kt, kb, so, bp, bt, bd, g)) := by
  refine CV.of (by decide) (Nat.le_of_ble_eq_true rfl) ?_
  intro p e s m below meth c A Q ls hc hret hw hl
  obtain ⟨hx, hb, hml, hown, hts, hK, hA⟩ := id hc
  have hl : lv_has ls 6 [(0, .ref h), (1, .int (nI pp))] := hl
  refine lv_aload_n hx hb dX0_evaluate_0 rfl (lv_at hl 0 rfl) ?_
  refine lv_iload_n hx hb dX0_evaluate_1 rfl (lv_at hl 1 rfl) ?_
  refine CV.call (As := [.int (nI pp)]) (rest := []) (ci := 0) (n := 1) (px_fillRows l D h q d R S ra tp bo kt kb so bp bt bd g pp h1) hc hw rfl rfl (cwV 1 hts (lw_V q101 q103 qs3 q27 q104) rfl rfl rfl (by decide +kernel) ⟨Nat.le_of_ble_eq_true rfl, Nat.le_of_ble_eq_true rfl⟩) rfl hl.1 rfl (Nat.le_of_ble_eq_true rfl) ⟨Nat.le_of_ble_eq_true rfl, Nat.le_of_ble_eq_true rfl⟩ dX0_evaluate_2 (fun u H locs hu hwc => ?_)
  subst hu
  have hw : ww D (xF h q d) A s.heap H locs (R, S, (px_fs R S pp 4 0 ra), tp, bo, kt, kb, so, bp, bt, bd, g) := hwc
  generalize hf : px_fs R S pp 4 0 ra = f at hw
  obtain ⟨hn, he1, he2⟩ := px_eval hok pp f (fun r j hr hj => by rw [← hf]; exact px_fill R S pp ra hr hj)
  generalize hE : px_ek 4 0 (1, f) = E at he1 he2
  have L1 : ∀ (n k1 : Nat) (b1 : Int64) (f1 : Nat → Int64), k1 + n = 4 → px_ne n k1 (b1, f1) → px_ek n k1 (b1, f1) = E → ∀ (H : Heap) (locs : List Loc) (ls : Array Slot), ww D (xF h q d) A s.heap H locs (R, S, f1, tp, bo, kt, kb, so, bp, bt, bd, g) → lv_has ls 6 [(0, .ref h), (1, .int (nI pp)), (2, .long b1), (4, .int (nI k1))] → W p l e (rmK 1 30) s m [.ref h, .int (nI pp)].toArray below meth c H locs 0 0 Q (F0 m 10 ls []) := by
    intro n
    induction n with
    | zero =>
      intro k1 b1 f1 g1 g2 g3 H locs ls hw hl
      refine lv_iload hx hb dX0_evaluate_10 (lv_at hl 3 rfl) ?_
      refine lv_iconst (v := nI 4) hx hb dX0_evaluate_12 (by decide) ?_
      refine n_icmp_ge (tgt := 66) hx hb (by omega) (by omega) dX0_evaluate_13 (by decide) (fun h2 => ?_) (fun h2 => ?_)
      · have g3 : (b1, f1) = E := g3
        rw [← g3] at he1 he2
        refine lv_aload_n hx hb dX0_evaluate_66 rfl (lv_at hl 0 rfl) ?_
        refine lv_lload_n hx hb dX0_evaluate_67 rfl (lv_at hl 2 rfl) ?_
        refine x_put4 hc hw dX0_evaluate_68 (fun H locs hw => ?_)
        refine lv_iconst (v := nI 0) hx hb dX0_evaluate_71 (by decide) ?_
        refine lv_istore (lv' := [(4, .int (nI 0)), (0, .ref h), (1, .int (nI pp)), (2, .long b1)]) hx hb dX0_evaluate_72 hl (by decide) rfl (fun ls hl => ?_)
        have L3 : ∀ (n j : Nat) (t1 : Nat → Int64), j + n = 4 → px_tc f1 n j t1 = px_tc f1 4 0 tp → ∀ (H : Heap) (locs : List Loc) (ls : Array Slot), ww D (xF h q d) A s.heap H locs (R, S, f1, t1, b1, kt, kb, so, bp, bt, bd, g) → lv_has ls 6 [(0, .ref h), (4, .int (nI j))] → W p l e (rmK 1 30) s m [.ref h, .int (nI pp)].toArray below meth c H locs 0 0 Q (F0 m 74 ls []) := by
          intro n
          induction n with
          | zero =>
            intro j t1 g4 g5 H locs ls hw hl
            refine lv_iload hx hb dX0_evaluate_74 (lv_at hl 1 rfl) ?_
            refine lv_iconst (v := nI 4) hx hb dX0_evaluate_76 (by decide) ?_
            refine n_icmp_ge (tgt := 104) hx hb (by omega) (by omega) dX0_evaluate_77 (by decide) (fun h3 => ?_) (fun h3 => ?_)
            · exact hret _ _ _ _ _ dX0_evaluate_104 (⟨f1, t1, fun t ht => by rw [show t1 = _ from g5, px_tc_at f1 tp ht]; exact he2 t ht, by rw [show b1 = _ from he1]⟩) hw
            · exact absurd h3 (by omega)
          | succ n ih3 =>
            intro j t1 g4 g5 H locs ls hw hl
            refine lv_iload hx hb dX0_evaluate_74 (lv_at hl 1 rfl) ?_
            refine lv_iconst (v := nI 4) hx hb dX0_evaluate_76 (by decide) ?_
            refine n_icmp_ge (tgt := 104) hx hb (by omega) (by omega) dX0_evaluate_77 (by decide) (fun h3 => ?_) (fun h3 => ?_)
            · exact absurd h3 (by omega)
            · refine lv_aload_n hx hb dX0_evaluate_80 rfl (lv_at hl 0 rfl) ?_
              refine x_get3 hc hw dX0_evaluate_81 ?_
              refine lv_iload hx hb dX0_evaluate_84 (lv_at hl 1 rfl) ?_
              refine lv_aload_n hx hb dX0_evaluate_86 rfl (lv_at hl 0 rfl) ?_
              refine x_get2 hc hw dX0_evaluate_87 ?_
              refine lv_iconst (v := nI 5) hx hb dX0_evaluate_90 (by decide) ?_
              refine lv_iload hx hb dX0_evaluate_91 (lv_at hl 1 rfl) ?_
              refine n_imul hx hb dX0_evaluate_93 ?_
              refine lv_iconst (v := nI 4) hx hb dX0_evaluate_94 (by decide) ?_
              refine n_iadd hx hb dX0_evaluate_95 ?_
              refine x_ld2 hc hw (by omega) dX0_evaluate_96 ?_
              refine x_st3 hc hw (by omega) dX0_evaluate_97 (fun H locs hw => ?_)
              refine lv_iinc (v := nI (j + 1)) (lv' := [(4, .int (nI (j + 1))), (0, .ref h)]) hx hb dX0_evaluate_98 hl (k := 1) rfl (n_inc _) (by decide) rfl (fun ls hl => ?_)
              refine lv_goto (tgt := 74) hx hb dX0_evaluate_101 (by decide) ?_
              exact ih3 (j + 1) _ (by omega) g5 H locs ls hw (lv_sub hl [1, 0] rfl)
        exact L3 4 0 tp rfl rfl _ _ _ hw (lv_sub hl [1, 0] rfl)
      · exact absurd h2 (by omega)
    | succ n ih =>
      intro k1 b1 f1 g1 g2 g3 H locs ls hw hl
      refine lv_iload hx hb dX0_evaluate_10 (lv_at hl 3 rfl) ?_
      refine lv_iconst (v := nI 4) hx hb dX0_evaluate_12 (by decide) ?_
      refine n_icmp_ge (tgt := 66) hx hb (by omega) (by omega) dX0_evaluate_13 (by decide) (fun h2 => ?_) (fun h2 => ?_)
      · exact absurd h2 (by omega)
      · refine lv_iconst (v := nI 0) hx hb dX0_evaluate_16 (by decide) ?_
        refine lv_istore (lv' := [(5, .int (nI 0)), (0, .ref h), (1, .int (nI pp)), (2, .long b1), (4, .int (nI k1))]) hx hb dX0_evaluate_17 hl (by decide) rfl (fun ls hl => ?_)
        have L2 : ∀ (n2 j : Nat) (f2 : Nat → Int64), j + n2 = 4 → px_er b1 k1 n2 j f2 = px_er b1 k1 4 0 f1 → ∀ (H : Heap) (locs : List Loc) (ls : Array Slot), ww D (xF h q d) A s.heap H locs (R, S, f2, tp, bo, kt, kb, so, bp, bt, bd, g) → lv_has ls 6 [(0, .ref h), (1, .int (nI pp)), (2, .long b1), (4, .int (nI k1)), (5, .int (nI j))] → W p l e (rmK 1 30) s m [.ref h, .int (nI pp)].toArray below meth c H locs 0 0 Q (F0 m 19 ls []) := by
          intro n2
          induction n2 with
          | zero =>
            intro j f2 g4 g5 H locs ls hw hl
            refine lv_iload hx hb dX0_evaluate_19 (lv_at hl 4 rfl) ?_
            refine lv_iconst (v := nI 4) hx hb dX0_evaluate_21 (by decide) ?_
            refine n_icmp_ge (tgt := 47) hx hb (by omega) (by omega) dX0_evaluate_22 (by decide) (fun h3 => ?_) (fun h3 => ?_)
            · refine lv_aload_n hx hb dX0_evaluate_47 rfl (lv_at hl 0 rfl) ?_
              refine x_get2 hc hw dX0_evaluate_48 ?_
              refine lv_iconst (v := nI 5) hx hb dX0_evaluate_51 (by decide) ?_
              refine lv_iload hx hb dX0_evaluate_52 (lv_at hl 3 rfl) ?_
              refine n_imul hx hb dX0_evaluate_54 ?_
              refine lv_iload hx hb dX0_evaluate_55 (lv_at hl 3 rfl) ?_
              refine n_iadd hx hb dX0_evaluate_57 ?_
              refine x_ld2 hc hw (by omega) dX0_evaluate_58 ?_
              refine lv_lstore_n (lv' := [(2, .long (f2 ((5 * k1) + k1))), (0, .ref h), (1, .int (nI pp)), (4, .int (nI k1)), (5, .int (nI j))]) hx hb dX0_evaluate_59 rfl hl (by decide) rfl (fun ls hl => ?_)
              refine lv_iinc (v := nI (k1 + 1)) (lv' := [(4, .int (nI (k1 + 1))), (2, .long (f2 ((5 * k1) + k1))), (0, .ref h), (1, .int (nI pp)), (5, .int (nI j))]) hx hb dX0_evaluate_60 hl (k := 3) rfl (n_inc _) (by decide) rfl (fun ls hl => ?_)
              refine lv_goto (tgt := 10) hx hb dX0_evaluate_63 (by decide) ?_
              exact ih (k1 + 1) _ _ (by omega) (by rw [show f2 = _ from g5]; exact g2.2) (by rw [show f2 = _ from g5]; exact g3) H locs ls hw (lv_sub hl [2, 3, 1, 0] rfl)
            · exact absurd h3 (by omega)
          | succ n2 ih2 =>
            intro j f2 g4 g5 H locs ls hw hl
            refine lv_iload hx hb dX0_evaluate_19 (lv_at hl 4 rfl) ?_
            refine lv_iconst (v := nI 4) hx hb dX0_evaluate_21 (by decide) ?_
            refine n_icmp_ge (tgt := 47) hx hb (by omega) (by omega) dX0_evaluate_22 (by decide) (fun h3 => ?_) (fun h3 => ?_)
            · exact absurd h3 (by omega)
            · refine lv_iload hx hb dX0_evaluate_25 (lv_at hl 4 rfl) ?_
              refine lv_iload hx hb dX0_evaluate_27 (lv_at hl 3 rfl) ?_
              refine n_icmp_eq (tgt := 41) hx hb (by omega) (by omega) dX0_evaluate_29 (by decide) (fun h5 => ?_) (fun h5 => ?_)
              · refine lv_iinc (v := nI (j + 1)) (lv' := [(5, .int (nI (j + 1))), (0, .ref h), (1, .int (nI pp)), (2, .long b1), (4, .int (nI k1))]) hx hb dX0_evaluate_41 hl (k := 4) rfl (n_inc _) (by decide) rfl (fun ls hl => ?_)
                refine lv_goto (tgt := 19) hx hb dX0_evaluate_44 (by decide) ?_
                exact ih2 (j + 1) f2 (by omega) (by rw [← g5, px_er, if_pos h5]) H locs ls hw (lv_sub hl [1, 2, 3, 4, 0] rfl)
              · refine lv_aload_n hx hb dX0_evaluate_32 rfl (lv_at hl 0 rfl) ?_
                refine lv_iload hx hb dX0_evaluate_33 (lv_at hl 4 rfl) ?_
                refine lv_iload hx hb dX0_evaluate_35 (lv_at hl 3 rfl) ?_
                refine lv_lload_n hx hb dX0_evaluate_37 rfl (lv_at hl 2 rfl) ?_
                refine CV.call (As := [.int (nI j), .int (nI k1), .long b1]) (rest := []) (ci := 0) (n := 3) (px_reduce l D h q d R S f2 tp bo kt kb so bp bt bd g j k1 b1 h3 h2 g2.1) hc hw rfl rfl (cwV 3 hts (lw_V q106 q108 qs4 q27 q109) rfl rfl rfl (by decide +kernel) ⟨Nat.le_of_ble_eq_true rfl, Nat.le_of_ble_eq_true rfl⟩) rfl hl.1 rfl (Nat.le_of_ble_eq_true rfl) ⟨Nat.le_of_ble_eq_true rfl, Nat.le_of_ble_eq_true rfl⟩ dX0_evaluate_38 (fun u H locs hu hwc => ?_)
                subst hu
                have hw : ww D (xF h q d) A s.heap H locs (R, S, (px_red b1 j k1 f2), tp, bo, kt, kb, so, bp, bt, bd, g) := hwc
                refine lv_iinc (v := nI (j + 1)) (lv' := [(5, .int (nI (j + 1))), (0, .ref h), (1, .int (nI pp)), (2, .long b1), (4, .int (nI k1))]) hx hb dX0_evaluate_41 hl (k := 4) rfl (n_inc _) (by decide) rfl (fun ls hl => ?_)
                refine lv_goto (tgt := 19) hx hb dX0_evaluate_44 (by decide) ?_
                exact ih2 (j + 1) _ (by omega) (by rw [← g5, px_er, if_neg h5]) H locs ls hw (lv_sub hl [1, 2, 3, 4, 0] rfl)
        exact L2 4 0 f1 rfl rfl _ _ _ hw (lv_sub hl [1, 2, 3, 4, 0] rfl)
  refine lv_lconst (v := 1) hx hb dX0_evaluate_5 (by decide) ?_
  refine lv_lstore_n (lv' := [(2, .long 1), (0, .ref h), (1, .int (nI pp))]) hx hb dX0_evaluate_6 rfl hl (by decide) rfl (fun ls hl => ?_)
  refine lv_iconst (v := nI 0) hx hb dX0_evaluate_7 (by decide) ?_
  refine lv_istore (lv' := [(4, .int (nI 0)), (2, .long 1), (0, .ref h), (1, .int (nI pp))]) hx hb dX0_evaluate_8 hl (by decide) rfl (fun ls hl => ?_)
  exact L1 4 0 1 f rfl hn hE _ _ _ hw (lv_sub hl [2, 3, 1, 0] rfl)
set_option maxHeartbeats 4000000 in
set_option maxRecDepth 100000 in
theorem px_keepValues (l : Launch) (D : va_G) (h : Nat) (q : Nat → Nat) (d : Nat → ClassId) (R S : Nat → Int32) (ra tp : Nat → Int64) (bo : Int64) (kt : Nat → Int64) (kb : Int64) (so bp : Int32) (bt : Nat → Int64) (bd : Int64) (g : Nat → Int32) : CV l D (xF h q d) (xT d) yX0_keepValues cX0_keepValues 2 (rmK 0 0) [.ref h] (R, S, ra, tp, bo, kt, kb, so, bp, bt, bd, g) (fun u => u = (R, S, ra, tp, bo, px_kv tp 4 0 kt, bo, so, bp, bt, bd, g)) := by
  refine CV.of (by decide) (Nat.le_of_ble_eq_true rfl) ?_
  intro p e s m below meth c A Q ls hc hret hw hl
  obtain ⟨hx, hb, hml, hown, hts, hK, hA⟩ := id hc
  have hl : lv_has ls 2 [(0, .ref h)] := hl
  have L1 : ∀ (n j : Nat) (t1 : Nat → Int64), j + n = 4 → px_kv tp n j t1 = px_kv tp 4 0 kt → ∀ (H : Heap) (locs : List Loc) (ls : Array Slot), ww D (xF h q d) A s.heap H locs (R, S, ra, tp, bo, t1, kb, so, bp, bt, bd, g) → lv_has ls 2 [(0, .ref h), (1, .int (nI j))] → W p l e (rmK 0 0) s m [.ref h].toArray below meth c H locs 0 0 Q (F0 m 2 ls []) := by
    intro n
    induction n with
    | zero =>
      intro j t1 g1 g2 H locs ls hw hl
      refine lv_iload_n hx hb dX0_keepValues_2 rfl (lv_at hl 1 rfl) ?_
      refine lv_iconst (v := nI 4) hx hb dX0_keepValues_3 (by decide) ?_
      refine n_icmp_ge (tgt := 25) hx hb (by omega) (by omega) dX0_keepValues_4 (by decide) (fun h2 => ?_) (fun h2 => ?_)
      · refine lv_aload_n hx hb dX0_keepValues_25 rfl (lv_at hl 0 rfl) ?_
        refine lv_aload_n hx hb dX0_keepValues_26 rfl (lv_at hl 0 rfl) ?_
        refine x_get4 hc hw dX0_keepValues_27 ?_
        refine x_put6 hc hw dX0_keepValues_30 (fun H locs hw => ?_)
        exact hret _ _ _ _ _ dX0_keepValues_33 (by rw [← g2]; rfl) hw
      · exact absurd h2 (by omega)
    | succ n ih =>
      intro j t1 g1 g2 H locs ls hw hl
      refine lv_iload_n hx hb dX0_keepValues_2 rfl (lv_at hl 1 rfl) ?_
      refine lv_iconst (v := nI 4) hx hb dX0_keepValues_3 (by decide) ?_
      refine n_icmp_ge (tgt := 25) hx hb (by omega) (by omega) dX0_keepValues_4 (by decide) (fun h2 => ?_) (fun h2 => ?_)
      · exact absurd h2 (by omega)
      · refine lv_aload_n hx hb dX0_keepValues_7 rfl (lv_at hl 0 rfl) ?_
        refine x_get5 hc hw dX0_keepValues_8 ?_
        refine lv_iload_n hx hb dX0_keepValues_11 rfl (lv_at hl 1 rfl) ?_
        refine lv_aload_n hx hb dX0_keepValues_12 rfl (lv_at hl 0 rfl) ?_
        refine x_get3 hc hw dX0_keepValues_13 ?_
        refine lv_iload_n hx hb dX0_keepValues_16 rfl (lv_at hl 1 rfl) ?_
        refine x_ld3 hc hw (by omega) dX0_keepValues_17 ?_
        refine x_st5 hc hw (by omega) dX0_keepValues_18 (fun H locs hw => ?_)
        refine lv_iinc (v := nI (j + 1)) (lv' := [(1, .int (nI (j + 1))), (0, .ref h)]) hx hb dX0_keepValues_19 hl (k := 1) rfl (n_inc _) (by decide) rfl (fun ls hl => ?_)
        refine lv_goto (tgt := 2) hx hb dX0_keepValues_22 (by decide) ?_
        exact ih (j + 1) _ (by omega) g2 H locs ls hw (lv_sub hl [1, 0] rfl)
  refine lv_iconst (v := nI 0) hx hb dX0_keepValues_0 (by decide) ?_
  refine lv_istore_n (lv' := [(1, .int (nI 0)), (0, .ref h)]) hx hb dX0_keepValues_1 rfl hl (by decide) rfl (fun ls hl => ?_)
  exact L1 4 0 kt rfl rfl _ _ _ hw (lv_sub hl [1, 0] rfl)
set_option maxHeartbeats 4000000 in
set_option maxRecDepth 100000 in
theorem px_gainOf (l : Launch) (D : va_G) (h : Nat) (q : Nat → Nat) (d : Nat → ClassId) (R S : Nat → Int32) (ra tp : Nat → Int64) (bo : Int64) (kt : Nat → Int64) (kb : Int64) (so bp : Int32) (bt : Nat → Int64) (bd : Int64) (g : Nat → Int32) (i1 a1 : Nat) (h1 : i1 < 4) (h2 : a1 < 2) : CL l D (xF h q d) (xT d) yX0_gainOf cX0_gainOf 7 (rmK 0 0) [.ref h, .int (nI i1), .int (nI a1)] (R, S, ra, tp, bo, kt, kb, so, bp, bt, bd, g) (fun r u => u = (R, S, ra, tp, bo, kt, kb, so, bp, bt, bd, g) ∧ r = px_gain R S bt bd (2 * i1 + a1)) := by
  refine CL.of (by decide) (Nat.le_of_ble_eq_true rfl) ?_
  intro p e s m below meth c A Q ls hc hret hw hl
  obtain ⟨hx, hb, hml, hown, hts, hK, hA⟩ := id hc
  have hl : lv_has ls 7 [(0, .ref h), (1, .int (nI i1)), (2, .int (nI a1))] := hl
  have L1 : ∀ (n j : Nat) (x1 : Int64), j + n = 4 → px_gl S bt (2 * i1 + a1) n j x1 = px_gain R S bt bd (2 * i1 + a1) → ∀ (H : Heap) (locs : List Loc) (ls : Array Slot), ww D (xF h q d) A s.heap H locs (R, S, ra, tp, bo, kt, kb, so, bp, bt, bd, g) → lv_has ls 7 [(0, .ref h), (3, .int (nI (2 * i1 + a1))), (4, .long x1), (6, .int (nI j))] → W p l e (rmK 0 0) s m [.ref h, .int (nI i1), .int (nI a1)].toArray below meth c H locs 0 0 Q (F0 m 27 ls []) := by
    intro n
    induction n with
    | zero =>
      intro j x1 g1 g2 H locs ls hw hl
      refine lv_iload hx hb dX0_gainOf_27 (lv_at hl 3 rfl) ?_
      refine lv_iconst (v := nI 4) hx hb dX0_gainOf_29 (by decide) ?_
      refine n_icmp_ge (tgt := 64) hx hb (by omega) (by omega) dX0_gainOf_30 (by decide) (fun h3 => ?_) (fun h3 => ?_)
      · refine lv_lload hx hb dX0_gainOf_64 (lv_at hl 2 rfl) ?_
        exact hret _ _ _ _ _ _ dX0_gainOf_66 (⟨rfl, g2⟩) hw
      · exact absurd h3 (by omega)
    | succ n ih =>
      intro j x1 g1 g2 H locs ls hw hl
      refine lv_iload hx hb dX0_gainOf_27 (lv_at hl 3 rfl) ?_
      refine lv_iconst (v := nI 4) hx hb dX0_gainOf_29 (by decide) ?_
      refine n_icmp_ge (tgt := 64) hx hb (by omega) (by omega) dX0_gainOf_30 (by decide) (fun h3 => ?_) (fun h3 => ?_)
      · exact absurd h3 (by omega)
      · refine lv_lload hx hb dX0_gainOf_33 (lv_at hl 2 rfl) ?_
        refine lv_aload_n hx hb dX0_gainOf_35 rfl (lv_at hl 0 rfl) ?_
        refine x_get1 hc hw dX0_gainOf_36 ?_
        refine lv_iconst (v := nI 4) hx hb dX0_gainOf_39 (by decide) ?_
        refine lv_iload_n hx hb dX0_gainOf_40 rfl (lv_at hl 1 rfl) ?_
        refine n_imul hx hb dX0_gainOf_41 ?_
        refine lv_iload hx hb dX0_gainOf_42 (lv_at hl 3 rfl) ?_
        refine n_iadd hx hb dX0_gainOf_44 ?_
        refine x_ld1 hc hw (by omega) dX0_gainOf_45 ?_
        refine lv_i2l (v := (S ((4 * (2 * i1 + a1)) + j)).toInt64) hx hb dX0_gainOf_46 rfl ?_
        refine lv_aload_n hx hb dX0_gainOf_47 rfl (lv_at hl 0 rfl) ?_
        refine x_get9 hc hw dX0_gainOf_48 ?_
        refine lv_iload hx hb dX0_gainOf_51 (lv_at hl 3 rfl) ?_
        refine x_ld9 hc hw (by omega) dX0_gainOf_53 ?_
        refine lv_lmul hx hb dX0_gainOf_54 ?_
        refine lv_ladd hx hb dX0_gainOf_55 ?_
        refine lv_lstore (lv' := [(4, .long (x1 + (((S ((4 * (2 * i1 + a1)) + j)).toInt64) * (bt j)))), (0, .ref h), (3, .int (nI (2 * i1 + a1))), (6, .int (nI j))]) hx hb dX0_gainOf_56 hl (by decide) rfl (fun ls hl => ?_)
        refine lv_iinc (v := nI (j + 1)) (lv' := [(6, .int (nI (j + 1))), (4, .long (x1 + (((S ((4 * (2 * i1 + a1)) + j)).toInt64) * (bt j)))), (0, .ref h), (3, .int (nI (2 * i1 + a1)))]) hx hb dX0_gainOf_58 hl (k := 3) rfl (n_inc _) (by decide) rfl (fun ls hl => ?_)
        refine lv_goto (tgt := 27) hx hb dX0_gainOf_61 (by decide) ?_
        exact ih (j + 1) _ (by omega) g2 H locs ls hw (lv_sub hl [2, 3, 1, 0] rfl)
  refine lv_iconst (v := nI 2) hx hb dX0_gainOf_0 (by decide) ?_
  refine lv_iload_n hx hb dX0_gainOf_1 rfl (lv_at hl 1 rfl) ?_
  refine n_imul hx hb dX0_gainOf_2 ?_
  refine lv_iload_n hx hb dX0_gainOf_3 rfl (lv_at hl 2 rfl) ?_
  refine n_iadd hx hb dX0_gainOf_4 ?_
  refine lv_istore_n (lv' := [(3, .int (nI ((2 * i1) + a1))), (0, .ref h), (1, .int (nI i1)), (2, .int (nI a1))]) hx hb dX0_gainOf_5 rfl hl (by decide) rfl (fun ls hl => ?_)
  refine lv_ldc2 (v := 8) hx hb hown (hts _ q105) dX0_gainOf_6 ?_
  refine lv_aload_n hx hb dX0_gainOf_9 rfl (lv_at hl 1 rfl) ?_
  refine x_get0 hc hw dX0_gainOf_10 ?_
  refine lv_iload_n hx hb dX0_gainOf_13 rfl (lv_at hl 0 rfl) ?_
  refine x_ld0 hc hw (by omega) dX0_gainOf_14 ?_
  refine lv_i2l (v := (R ((2 * i1) + a1)).toInt64) hx hb dX0_gainOf_15 rfl ?_
  refine lv_lmul hx hb dX0_gainOf_16 ?_
  refine lv_aload_n hx hb dX0_gainOf_17 rfl (lv_at hl 1 rfl) ?_
  refine x_get10 hc hw dX0_gainOf_18 ?_
  refine lv_lmul hx hb dX0_gainOf_21 ?_
  refine lv_lstore (lv' := [(4, .long ((8 * ((R ((2 * i1) + a1)).toInt64)) * bd)), (3, .int (nI ((2 * i1) + a1))), (0, .ref h), (1, .int (nI i1)), (2, .int (nI a1))]) hx hb dX0_gainOf_22 hl (by decide) rfl (fun ls hl => ?_)
  refine lv_iconst (v := nI 0) hx hb dX0_gainOf_24 (by decide) ?_
  refine lv_istore (lv' := [(6, .int (nI 0)), (4, .long ((8 * ((R ((2 * i1) + a1)).toInt64)) * bd)), (3, .int (nI ((2 * i1) + a1))), (0, .ref h), (1, .int (nI i1)), (2, .int (nI a1))]) hx hb dX0_gainOf_25 hl (by decide) rfl (fun ls hl => ?_)
  exact L1 4 0 _ rfl rfl _ _ _ hw (lv_sub hl [3, 2, 1, 0] rfl)
end
section
set_option maxHeartbeats 4000000 in
set_option maxRecDepth 100000 in
theorem px_improve (l : Launch) (D : va_G) (h : Nat) (q : Nat → Nat) (d : Nat → ClassId) (R S : Nat → Int32) (ra tp : Nat → Int64) (bo : Int64) (kt : Nat → Int64) (kb : Int64) (so bp : Int32) (bt : Nat → Int64) (bd : Int64) (g : Nat → Int32) : CI l D (xF h q d) (xT d) yX0_improve cX0_improve 8 .boolean (rmK 1 30) [.ref h] (R, S, ra, tp, bo, kt, kb, so, bp, bt, bd, g) (fun r u => r = nI (px_is (px_gain R S bt bd) (fun i => 8 * bt i) 4 0 (bp, g, 0)).2.2 ∧ u = (R, S, ra, tp, bo, kt, kb, so, (px_is (px_gain R S bt bd) (fun i => 8 * bt i) 4 0 (bp, g, 0)).1, bt, bd, (px_is (px_gain R S bt bd) (fun i => 8 * bt i) 4 0 (bp, g, 0)).2.1)) := by
  refine CI.of (by decide) (Nat.le_of_ble_eq_true rfl) ?_
  intro p e s m below meth c A Q ls hc hret hw hl
  obtain ⟨hx, hb, hml, hown, hts, hK, hA⟩ := id hc
  have hl : lv_has ls 8 [(0, .ref h)] := hl
  have L1 : ∀ (n i : Nat) (x1 : Int32) (g1 : Nat → Int32) (b1 : Nat), i + n = 4 → b1 < 2 → px_is (px_gain R S bt bd) (fun i => 8 * bt i) n i (x1, g1, b1) = px_is (px_gain R S bt bd) (fun i => 8 * bt i) 4 0 (bp, g, 0) → ∀ (H : Heap) (locs : List Loc) (ls : Array Slot), ww D (xF h q d) A s.heap H locs (R, S, ra, tp, bo, kt, kb, so, x1, bt, bd, g1) → lv_has ls 8 [(0, .ref h), (1, .int (nI b1)), (2, .int (nI i))] → W p l e (rmK 1 30) s m [.ref h].toArray below meth c H locs 0 0 Q (F0 m 4 ls []) := by
    intro n
    induction n with
    | zero =>
      intro i x1 g1 b1 k1 k2 k3 H locs ls hw hl
      refine lv_iload_n hx hb dX0_improve_4 rfl (lv_at hl 2 rfl) ?_
      refine lv_iconst (v := nI 4) hx hb dX0_improve_5 (by decide) ?_
      refine n_icmp_ge (tgt := 109) hx hb (by omega) (by omega) dX0_improve_6 (by decide) (fun h2 => ?_) (fun h2 => ?_)
      · refine lv_iload_n hx hb dX0_improve_109 rfl (lv_at hl 1 rfl) ?_
        exact hret _ _ _ _ _ _ dX0_improve_110 (ps_nar01 k2) (⟨by rw [← k3]; rfl, by rw [← k3]; rfl⟩) hw
      · exact absurd h2 (by omega)
    | succ n ih =>
      intro i x1 g1 b1 k1 k2 k3 H locs ls hw hl
      refine lv_iload_n hx hb dX0_improve_4 rfl (lv_at hl 2 rfl) ?_
      refine lv_iconst (v := nI 4) hx hb dX0_improve_5 (by decide) ?_
      refine n_icmp_ge (tgt := 109) hx hb (by omega) (by omega) dX0_improve_6 (by decide) (fun h2 => ?_) (fun h2 => ?_)
      · exact absurd h2 (by omega)
      · refine lv_ldc2 (v := 8) hx hb hown (hts _ q105) dX0_improve_9 ?_
        refine lv_aload_n hx hb dX0_improve_12 rfl (lv_at hl 0 rfl) ?_
        refine x_get9 hc hw dX0_improve_13 ?_
        refine lv_iload_n hx hb dX0_improve_16 rfl (lv_at hl 2 rfl) ?_
        refine x_ld9 hc hw (by omega) dX0_improve_17 ?_
        refine lv_lmul hx hb dX0_improve_18 ?_
        refine lv_lstore_n (lv' := [(3, .long (8 * (bt i))), (0, .ref h), (1, .int (nI b1)), (2, .int (nI i))]) hx hb dX0_improve_19 rfl hl (by decide) rfl (fun ls hl => ?_)
        refine lv_aload_n hx hb dX0_improve_20 rfl (lv_at hl 1 rfl) ?_
        refine x_get11 hc hw dX0_improve_21 ?_
        refine lv_iload_n hx hb dX0_improve_24 rfl (lv_at hl 3 rfl) ?_
        refine lv_iconst (v := nI 0) hx hb dX0_improve_25 (by decide) ?_
        refine x_st11 hc hw (by omega) dX0_improve_26 (fun H locs hw => ?_)
        refine lv_iconst (v := nI 0) hx hb dX0_improve_27 (by decide) ?_
        refine lv_istore (lv' := [(5, .int (nI 0)), (3, .long (8 * (bt i))), (0, .ref h), (1, .int (nI b1)), (2, .int (nI i))]) hx hb dX0_improve_28 hl (by decide) rfl (fun ls hl => ?_)
        have L2 : ∀ (n2 j : Nat) (x2 : Int32) (g2 : Nat → Int32) (b2 : Nat), j + n2 = 2 → b2 < 2 → px_ia (px_gain R S bt bd) (fun i => 8 * bt i) i n2 j (x2, g2, b2) = px_ia (px_gain R S bt bd) (fun i => 8 * bt i) i 2 0 (x1, upd g1 i (vp_nar .byte (nI 0)), b1) → ∀ (H : Heap) (locs : List Loc) (ls : Array Slot), ww D (xF h q d) A s.heap H locs (R, S, ra, tp, bo, kt, kb, so, x2, bt, bd, g2) → lv_has ls 8 [(0, .ref h), (1, .int (nI b2)), (2, .int (nI i)), (3, .long (8 * (bt i))), (5, .int (nI j))] → W p l e (rmK 1 30) s m [.ref h].toArray below meth c H locs 0 0 Q (F0 m 30 ls []) := by
          intro n2
          induction n2 with
          | zero =>
            intro j x2 g2 b2 k4 k5 k6 H locs ls hw hl
            refine lv_iload hx hb dX0_improve_30 (lv_at hl 4 rfl) ?_
            refine lv_iconst (v := nI 2) hx hb dX0_improve_32 (by decide) ?_
            refine n_icmp_ge (tgt := 103) hx hb (by omega) (by omega) dX0_improve_33 (by decide) (fun h3 => ?_) (fun h3 => ?_)
            · refine lv_iinc (v := nI (i + 1)) (lv' := [(2, .int (nI (i + 1))), (0, .ref h), (1, .int (nI b2)), (3, .long (8 * (bt i))), (5, .int (nI j))]) hx hb dX0_improve_103 hl (k := 2) rfl (n_inc _) (by decide) rfl (fun ls hl => ?_)
              refine lv_goto (tgt := 4) hx hb dX0_improve_106 (by decide) ?_
              exact ih (i + 1) x2 g2 b2 (by omega) k5 (by rw [show (x2, g2, b2) = _ from k6]; exact k3) H locs ls hw (lv_sub hl [1, 2, 0] rfl)
            · exact absurd h3 (by omega)
          | succ n2 ih2 =>
            intro j x2 g2 b2 k4 k5 k6 H locs ls hw hl
            refine lv_iload hx hb dX0_improve_30 (lv_at hl 4 rfl) ?_
            refine lv_iconst (v := nI 2) hx hb dX0_improve_32 (by decide) ?_
            refine n_icmp_ge (tgt := 103) hx hb (by omega) (by omega) dX0_improve_33 (by decide) (fun h3 => ?_) (fun h3 => ?_)
            · exact absurd h3 (by omega)
            · refine lv_aload_n hx hb dX0_improve_36 rfl (lv_at hl 0 rfl) ?_
              refine lv_iload_n hx hb dX0_improve_37 rfl (lv_at hl 2 rfl) ?_
              refine lv_iload hx hb dX0_improve_38 (lv_at hl 4 rfl) ?_
              refine CL.call (As := [.int (nI i), .int (nI j)]) (rest := []) (ci := 0) (n := 2) (px_gainOf l D h q d R S ra tp bo kt kb so x2 bt bd g2 i j h2 h3) hc hw rfl rfl (cwV 2 hts (lw_V q138 q140 qs10 q27 q141) rfl rfl rfl (by decide +kernel) ⟨Nat.le_of_ble_eq_true rfl, Nat.le_of_ble_eq_true rfl⟩) rfl hl.1 rfl (Nat.le_of_ble_eq_true rfl) ⟨Nat.le_of_ble_eq_true rfl, Nat.le_of_ble_eq_true rfl⟩ dX0_improve_40 (fun r u H locs hu hwc => ?_)
              obtain ⟨rfl, rfl⟩ := hu
              have hw : ww D (xF h q d) A s.heap H locs (R, S, ra, tp, bo, kt, kb, so, x2, bt, bd, g2) := hwc
              refine lv_lstore (lv' := [(6, .long (px_gain R S bt bd (2 * i + j))), (0, .ref h), (1, .int (nI b2)), (2, .int (nI i)), (3, .long (8 * (bt i))), (5, .int (nI j))]) hx hb dX0_improve_43 hl (by decide) rfl (fun ls hl => ?_)
              refine lv_lload hx hb dX0_improve_45 (lv_at hl 0 rfl) ?_
              refine lv_lload_n hx hb dX0_improve_47 rfl (lv_at hl 4 rfl) ?_
              refine W.lcmp hx hb dX0_improve_48 ?_
              refine j_if_ne (tgt := 66) hx hb dX0_improve_49 (by decide) (fun h5 => ?_) (fun h5 => ?_)
              · refine lv_lload hx hb dX0_improve_66 (lv_at hl 0 rfl) ?_
                refine lv_lload_n hx hb dX0_improve_68 rfl (lv_at hl 4 rfl) ?_
                refine W.lcmp hx hb dX0_improve_69 ?_
                refine j_if_gt (tgt := 76) hx hb dX0_improve_70 (by decide) (fun h6 => ?_) (fun h6 => ?_)
                · refine lv_aload_n hx hb dX0_improve_76 rfl (lv_at hl 1 rfl) ?_
                  refine lv_aload_n hx hb dX0_improve_77 rfl (lv_at hl 1 rfl) ?_
                  refine x_get8 hc hw dX0_improve_78 ?_
                  refine lv_iconst (v := nI 1) hx hb dX0_improve_81 (by decide) ?_
                  refine lv_iload_n hx hb dX0_improve_82 rfl (lv_at hl 3 rfl) ?_
                  refine lv_ishl hx hb dX0_improve_83 ?_
                  refine lv_iconst (v := (-1)) hx hb dX0_improve_84 (by decide) ?_
                  refine lv_ixor hx hb dX0_improve_85 ?_
                  refine lv_iand hx hb dX0_improve_86 ?_
                  refine lv_iload hx hb dX0_improve_87 (lv_at hl 5 rfl) ?_
                  refine lv_iload_n hx hb dX0_improve_89 rfl (lv_at hl 3 rfl) ?_
                  refine lv_ishl hx hb dX0_improve_90 ?_
                  refine lv_ior hx hb dX0_improve_91 ?_
                  refine x_put8 hc hw dX0_improve_92 (fun H locs hw => ?_)
                  refine lv_iconst (v := nI 1) hx hb dX0_improve_95 (by decide) ?_
                  refine lv_istore_n (lv' := [(1, .int (nI 1)), (6, .long (px_gain R S bt bd (2 * i + j))), (0, .ref h), (2, .int (nI i)), (3, .long (8 * (bt i))), (5, .int (nI j))]) hx hb dX0_improve_96 rfl hl (by decide) rfl (fun ls hl => ?_)
                  refine lv_iinc (v := nI (j + 1)) (lv' := [(5, .int (nI (j + 1))), (1, .int (nI 1)), (6, .long (px_gain R S bt bd (2 * i + j))), (0, .ref h), (2, .int (nI i)), (3, .long (8 * (bt i)))]) hx hb dX0_improve_97 hl (k := 5) rfl (n_inc _) (by decide) rfl (fun ls hl => ?_)
                  refine lv_goto (tgt := 30) hx hb dX0_improve_100 (by decide) ?_
                  exact ih2 (j + 1) _ _ _ (by omega) (by omega) (by rw [← k6]; exact (congrArg (px_ia (px_gain R S bt bd) (fun i => 8 * bt i) i n2 (j + 1)) (px_i1_ng h5 h6)).symm) H locs ls hw (lv_sub hl [3, 1, 4, 5, 0] rfl)
                · refine lv_goto (tgt := 97) hx hb dX0_improve_73 (by decide) ?_
                  refine lv_iinc (v := nI (j + 1)) (lv' := [(5, .int (nI (j + 1))), (6, .long (px_gain R S bt bd (2 * i + j))), (0, .ref h), (1, .int (nI b2)), (2, .int (nI i)), (3, .long (8 * (bt i)))]) hx hb dX0_improve_97 hl (k := 5) rfl (n_inc _) (by decide) rfl (fun ls hl => ?_)
                  refine lv_goto (tgt := 30) hx hb dX0_improve_100 (by decide) ?_
                  exact ih2 (j + 1) _ _ _ (by omega) (by omega) (by rw [← k6]; exact (congrArg (px_ia (px_gain R S bt bd) (fun i => 8 * bt i) i n2 (j + 1)) (px_i1_nn h5 h6)).symm) H locs ls hw (lv_sub hl [2, 3, 4, 5, 0] rfl)
              · refine lv_aload_n hx hb dX0_improve_52 rfl (lv_at hl 1 rfl) ?_
                refine x_get11 hc hw dX0_improve_53 ?_
                refine lv_iload_n hx hb dX0_improve_56 rfl (lv_at hl 3 rfl) ?_
                refine lv_dup2_11 hx hb dX0_improve_57 rfl rfl ?_
                refine x_ld11 hc hw (by omega) dX0_improve_58 ?_
                refine lv_iconst (v := nI 1) hx hb dX0_improve_59 (by decide) ?_
                refine lv_iload hx hb dX0_improve_60 (lv_at hl 5 rfl) ?_
                refine lv_ishl hx hb dX0_improve_62 ?_
                refine lv_ior hx hb dX0_improve_63 ?_
                refine lv_i2b (v := ((g2 i) ||| (nI 1 <<< (nI j &&& 31))).toInt8.toInt32) hx hb dX0_improve_64 rfl ?_
                refine x_st11 hc hw (by omega) dX0_improve_65 (fun H locs hw => ?_)
                refine lv_lload hx hb dX0_improve_66 (lv_at hl 0 rfl) ?_
                refine lv_lload_n hx hb dX0_improve_68 rfl (lv_at hl 4 rfl) ?_
                refine W.lcmp hx hb dX0_improve_69 ?_
                refine j_if_gt (tgt := 76) hx hb dX0_improve_70 (by decide) (fun h6 => ?_) (fun h6 => ?_)
                · refine lv_aload_n hx hb dX0_improve_76 rfl (lv_at hl 1 rfl) ?_
                  refine lv_aload_n hx hb dX0_improve_77 rfl (lv_at hl 1 rfl) ?_
                  refine x_get8 hc hw dX0_improve_78 ?_
                  refine lv_iconst (v := nI 1) hx hb dX0_improve_81 (by decide) ?_
                  refine lv_iload_n hx hb dX0_improve_82 rfl (lv_at hl 3 rfl) ?_
                  refine lv_ishl hx hb dX0_improve_83 ?_
                  refine lv_iconst (v := (-1)) hx hb dX0_improve_84 (by decide) ?_
                  refine lv_ixor hx hb dX0_improve_85 ?_
                  refine lv_iand hx hb dX0_improve_86 ?_
                  refine lv_iload hx hb dX0_improve_87 (lv_at hl 5 rfl) ?_
                  refine lv_iload_n hx hb dX0_improve_89 rfl (lv_at hl 3 rfl) ?_
                  refine lv_ishl hx hb dX0_improve_90 ?_
                  refine lv_ior hx hb dX0_improve_91 ?_
                  refine x_put8 hc hw dX0_improve_92 (fun H locs hw => ?_)
                  refine lv_iconst (v := nI 1) hx hb dX0_improve_95 (by decide) ?_
                  refine lv_istore_n (lv' := [(1, .int (nI 1)), (6, .long (px_gain R S bt bd (2 * i + j))), (0, .ref h), (2, .int (nI i)), (3, .long (8 * (bt i))), (5, .int (nI j))]) hx hb dX0_improve_96 rfl hl (by decide) rfl (fun ls hl => ?_)
                  refine lv_iinc (v := nI (j + 1)) (lv' := [(5, .int (nI (j + 1))), (1, .int (nI 1)), (6, .long (px_gain R S bt bd (2 * i + j))), (0, .ref h), (2, .int (nI i)), (3, .long (8 * (bt i)))]) hx hb dX0_improve_97 hl (k := 5) rfl (n_inc _) (by decide) rfl (fun ls hl => ?_)
                  refine lv_goto (tgt := 30) hx hb dX0_improve_100 (by decide) ?_
                  exact ih2 (j + 1) _ _ _ (by omega) (by omega) (by rw [← k6]; exact (congrArg (px_ia (px_gain R S bt bd) (fun i => 8 * bt i) i n2 (j + 1)) (px_i1_eg h5 h6)).symm) H locs ls hw (lv_sub hl [3, 1, 4, 5, 0] rfl)
                · refine lv_goto (tgt := 97) hx hb dX0_improve_73 (by decide) ?_
                  refine lv_iinc (v := nI (j + 1)) (lv' := [(5, .int (nI (j + 1))), (6, .long (px_gain R S bt bd (2 * i + j))), (0, .ref h), (1, .int (nI b2)), (2, .int (nI i)), (3, .long (8 * (bt i)))]) hx hb dX0_improve_97 hl (k := 5) rfl (n_inc _) (by decide) rfl (fun ls hl => ?_)
                  refine lv_goto (tgt := 30) hx hb dX0_improve_100 (by decide) ?_
                  exact ih2 (j + 1) _ _ _ (by omega) (by omega) (by rw [← k6]; exact (congrArg (px_ia (px_gain R S bt bd) (fun i => 8 * bt i) i n2 (j + 1)) (px_i1_en h5 h6)).symm) H locs ls hw (lv_sub hl [2, 3, 4, 5, 0] rfl)
        exact L2 2 0 x1 _ b1 rfl k2 rfl _ _ _ hw (lv_sub hl [2, 3, 4, 1, 0] rfl)
  refine lv_iconst (v := nI 0) hx hb dX0_improve_0 (by decide) ?_
  refine lv_istore_n (lv' := [(1, .int (nI 0)), (0, .ref h)]) hx hb dX0_improve_1 rfl hl (by decide) rfl (fun ls hl => ?_)
  refine lv_iconst (v := nI 0) hx hb dX0_improve_2 (by decide) ?_
  refine lv_istore_n (lv' := [(2, .int (nI 0)), (1, .int (nI 0)), (0, .ref h)]) hx hb dX0_improve_3 rfl hl (by decide) rfl (fun ls hl => ?_)
  exact L1 4 0 bp g 0 rfl (by decide) rfl _ _ _ hw (lv_sub hl [2, 1, 0] rfl)
set_option maxHeartbeats 4000000 in
set_option maxRecDepth 100000 in
theorem px_solve (l : Launch) (D : va_G) (h : Nat) (q : Nat → Nat) (d : Nat → ClassId) (R S : Nat → Int32) (ra tp : Nat → Int64) (bo : Int64) (kt : Nat → Int64) (kb : Int64) (so bp : Int32) (bt : Nat → Int64) (bd : Int64) (g : Nat → Int32) (hok : ps_Ok R S) (hsv : ps_sv R S so bt bd g) : CV l D (xF h q d) (xT d) yX0_solve cX0_solve 4 (rmK 2 60) [.ref h] (R, S, ra, tp, bo, kt, kb, so, bp, bt, bd, g) (fun u => ∃ ra1 tp1 bo1 bp1 bt1 bd1 g1 p1, u = (R, S, ra1, tp1, bo1, kt, kb, 1, bp1, bt1, bd1, g1) ∧ ps_sol R S p1 bt1 bd1 g1) := by
  refine CV.of (by decide) (Nat.le_of_ble_eq_true rfl) ?_
  intro p e s m below meth c A Q ls hc hret hw hl
  obtain ⟨hx, hb, hml, hown, hts, hK, hA⟩ := id hc
  have hl : lv_has ls 4 [(0, .ref h)] := hl
  refine lv_aload_n hx hb dX0_solve_0 rfl (lv_at hl 0 rfl) ?_
  refine x_get7 hc hw dX0_solve_1 ?_
  refine lv_if_eq (tgt := 8) hx hb dX0_solve_4 (by decide) (fun h1 => ?_) (fun h1 => ?_)
  · have L1 : ∀ (n i p1 b1 : Nat) (ra1 tp1 : Nat → Int64) (bo1 : Int64) (bt1 : Nat → Int64) (bd1 : Int64) (g1 : Nat → Int32), i + n = 17 → p1 < 16 → ((b1 = 1 ∧ ps_rank R S p1 < n) ∨ (b1 = 0 ∧ ∃ p2, ps_sol R S p2 bt1 bd1 g1)) → ∀ (H : Heap) (locs : List Loc) (ls : Array Slot), ww D (xF h q d) A s.heap H locs (R, S, ra1, tp1, bo1, kt, kb, 1, (nI p1), bt1, bd1, g1) → lv_has ls 4 [(0, .ref h), (1, .int (nI b1)), (2, .int (nI i))] → W p l e (rmK 2 60) s m [.ref h].toArray below meth c H locs 0 0 Q (F0 m 22 ls []) := by
      intro n
      induction n with
      | zero =>
        intro i p1 b1 ra1 tp1 bo1 bt1 bd1 g1 k1 k2 k3 H locs ls hw hl
        refine lv_iload_n hx hb dX0_solve_22 rfl (lv_at hl 2 rfl) ?_
        refine lv_bipush (v := nI 17) hx hb dX0_solve_23 (by decide) ?_
        refine n_icmp_ge (tgt := 84) hx hb (by omega) (by omega) dX0_solve_25 (by decide) (fun h2 => ?_) (fun h2 => ?_)
        · rcases k3 with ⟨-, k3⟩ | ⟨-, p2, k3⟩
          · exact absurd k3 (by omega)
          · exact hret _ _ _ _ _ dX0_solve_84 (⟨_, _, _, _, _, _, _, p2, rfl, k3⟩) hw
        · exact absurd h2 (by omega)
      | succ n ih =>
        intro i p1 b1 ra1 tp1 bo1 bt1 bd1 g1 k1 k2 k3 H locs ls hw hl
        have kb1 : b1 < 2 := by rcases k3 with ⟨e, _⟩ | ⟨e, _⟩ <;> omega
        refine lv_iload_n hx hb dX0_solve_22 rfl (lv_at hl 2 rfl) ?_
        refine lv_bipush (v := nI 17) hx hb dX0_solve_23 (by decide) ?_
        refine n_icmp_ge (tgt := 84) hx hb (by omega) (by omega) dX0_solve_25 (by decide) (fun h2 => ?_) (fun h2 => ?_)
        · exact absurd h2 (by omega)
        · refine lv_iload_n hx hb dX0_solve_28 rfl (lv_at hl 1 rfl) ?_
          refine n_if_eq (tgt := 84) hx hb (by omega) dX0_solve_29 (by decide) (fun h3 => ?_) (fun h3 => ?_)
          · rcases k3 with ⟨k3, -⟩ | ⟨-, p2, k3⟩
            · exact absurd k3 (by omega)
            · exact hret _ _ _ _ _ dX0_solve_84 (⟨_, _, _, _, _, _, _, p2, rfl, k3⟩) hw
          · have k4 : ps_rank R S p1 < n + 1 := by
              rcases k3 with ⟨_, k3⟩ | ⟨k3, _⟩
              · exact k3
              · exact absurd k3 h3
            refine lv_aload_n hx hb dX0_solve_32 rfl (lv_at hl 0 rfl) ?_
            refine lv_aload_n hx hb dX0_solve_33 rfl (lv_at hl 0 rfl) ?_
            refine x_get8 hc hw dX0_solve_34 ?_
            refine CV.call (As := [.int (nI p1)]) (rest := []) (ci := 0) (n := 1) (px_evaluate l D h q d R S ra1 tp1 bo1 kt kb 1 (nI p1) bt1 bd1 g1 p1 k2 hok) hc hw rfl rfl (cwV 1 hts (lw_V q97 q99 qs2 q27 q100) rfl rfl rfl (by decide +kernel) ⟨Nat.le_of_ble_eq_true rfl, Nat.le_of_ble_eq_true rfl⟩) rfl hl.1 rfl (Nat.le_of_ble_eq_true rfl) ⟨Nat.le_of_ble_eq_true rfl, Nat.le_of_ble_eq_true rfl⟩ dX0_solve_37 (fun u H locs hu hwc => ?_)
            obtain ⟨ra2, tp2, ht2, rfl⟩ := hu
            have hw : ww D (xF h q d) A s.heap H locs (R, S, ra2, tp2, (Int64.ofInt (ps_bo R S p1)), kt, kb, 1, (nI p1), bt1, bd1, g1) := hwc
            refine lv_iconst (v := nI 0) hx hb dX0_solve_40 (by decide) ?_
            refine lv_istore_n (lv' := [(3, .int (nI 0)), (0, .ref h), (1, .int (nI b1)), (2, .int (nI i))]) hx hb dX0_solve_41 rfl hl (by decide) rfl (fun ls hl => ?_)
            have L2 : ∀ (n2 j : Nat) (t2 : Nat → Int64), j + n2 = 4 → px_kv tp2 n2 j t2 = px_kv tp2 4 0 bt1 → ∀ (H : Heap) (locs : List Loc) (ls : Array Slot), ww D (xF h q d) A s.heap H locs (R, S, ra2, tp2, (Int64.ofInt (ps_bo R S p1)), kt, kb, 1, (nI p1), t2, bd1, g1) → lv_has ls 4 [(0, .ref h), (1, .int (nI b1)), (2, .int (nI i)), (3, .int (nI j))] → W p l e (rmK 2 60) s m [.ref h].toArray below meth c H locs 0 0 Q (F0 m 42 ls []) := by
              intro n2
              induction n2 with
              | zero =>
                intro j t2 k5 k6 H locs ls hw hl
                refine lv_iload_n hx hb dX0_solve_42 rfl (lv_at hl 3 rfl) ?_
                refine lv_iconst (v := nI 4) hx hb dX0_solve_43 (by decide) ?_
                refine n_icmp_ge (tgt := 65) hx hb (by omega) (by omega) dX0_solve_44 (by decide) (fun h4 => ?_) (fun h4 => ?_)
                · have k7 : ∀ t, t < 4 → t2 t = Int64.ofInt (ps_tp R S p1 t) := fun t ht => by rw [show t2 = _ from k6, px_kv_at tp2 bt1 ht]; exact ht2 t ht
                  refine lv_aload_n hx hb dX0_solve_65 rfl (lv_at hl 0 rfl) ?_
                  refine lv_aload_n hx hb dX0_solve_66 rfl (lv_at hl 0 rfl) ?_
                  refine x_get4 hc hw dX0_solve_67 ?_
                  refine x_put10 hc hw dX0_solve_70 (fun H locs hw => ?_)
                  refine lv_aload_n hx hb dX0_solve_73 rfl (lv_at hl 0 rfl) ?_
                  obtain ⟨p3, g3, b3, e3, q1, q2, q3⟩ := px_is_ok hok k2 k7 rfl g1
                  refine CI.call (As := []) (rest := []) (ci := 0) (n := 0) (px_improve l D h q d R S ra2 tp2 (Int64.ofInt (ps_bo R S p1)) kt kb 1 (nI p1) t2 (Int64.ofInt (ps_bo R S p1)) g1) hc hw rfl rfl (cwV 0 hts (lw_V q134 q136 qs9 q27 q137) rfl rfl rfl (by decide +kernel) ⟨Nat.le_of_ble_eq_true rfl, Nat.le_of_ble_eq_true rfl⟩) rfl hl.1 rfl (Nat.le_of_ble_eq_true rfl) ⟨Nat.le_of_ble_eq_true rfl, Nat.le_of_ble_eq_true rfl⟩ dX0_solve_74 (fun r u H locs hu hwc => ?_)
                  rw [e3] at hu
                  obtain ⟨rfl, rfl⟩ := hu
                  have hw : ww D (xF h q d) A s.heap H locs (R, S, ra2, tp2, (Int64.ofInt (ps_bo R S p1)), kt, kb, 1, (nI p3), t2, (Int64.ofInt (ps_bo R S p1)), g3) := hwc
                  refine lv_istore_n (lv' := [(1, .int (nI b3)), (0, .ref h), (2, .int (nI i)), (3, .int (nI j))]) hx hb dX0_solve_77 rfl hl (by decide) rfl (fun ls hl => ?_)
                  refine lv_iinc (v := nI (i + 1)) (lv' := [(2, .int (nI (i + 1))), (1, .int (nI b3)), (0, .ref h), (3, .int (nI j))]) hx hb dX0_solve_78 hl (k := 2) rfl (n_inc _) (by decide) rfl (fun ls hl => ?_)
                  refine lv_goto (tgt := 22) hx hb dX0_solve_81 (by decide) ?_
                  exact ih (i + 1) p3 b3 _ _ _ _ _ _ (by omega) q1 (by
                    rcases q3 with ⟨z1, z2⟩ | ⟨z1, z2⟩
                    · exact Or.inr ⟨z1, p1, k2, z2, k7, rfl, q2⟩
                    · exact Or.inl ⟨z1, by omega⟩) H locs ls hw (lv_sub hl [2, 1, 0] rfl)
                · exact absurd h4 (by omega)
              | succ n2 ih2 =>
                intro j t2 k5 k6 H locs ls hw hl
                refine lv_iload_n hx hb dX0_solve_42 rfl (lv_at hl 3 rfl) ?_
                refine lv_iconst (v := nI 4) hx hb dX0_solve_43 (by decide) ?_
                refine n_icmp_ge (tgt := 65) hx hb (by omega) (by omega) dX0_solve_44 (by decide) (fun h4 => ?_) (fun h4 => ?_)
                · exact absurd h4 (by omega)
                · refine lv_aload_n hx hb dX0_solve_47 rfl (lv_at hl 0 rfl) ?_
                  refine x_get9 hc hw dX0_solve_48 ?_
                  refine lv_iload_n hx hb dX0_solve_51 rfl (lv_at hl 3 rfl) ?_
                  refine lv_aload_n hx hb dX0_solve_52 rfl (lv_at hl 0 rfl) ?_
                  refine x_get3 hc hw dX0_solve_53 ?_
                  refine lv_iload_n hx hb dX0_solve_56 rfl (lv_at hl 3 rfl) ?_
                  refine x_ld3 hc hw (by omega) dX0_solve_57 ?_
                  refine x_st9 hc hw (by omega) dX0_solve_58 (fun H locs hw => ?_)
                  refine lv_iinc (v := nI (j + 1)) (lv' := [(3, .int (nI (j + 1))), (0, .ref h), (1, .int (nI b1)), (2, .int (nI i))]) hx hb dX0_solve_59 hl (k := 3) rfl (n_inc _) (by decide) rfl (fun ls hl => ?_)
                  refine lv_goto (tgt := 42) hx hb dX0_solve_62 (by decide) ?_
                  exact ih2 (j + 1) _ (by omega) k6 H locs ls hw (lv_sub hl [1, 2, 3, 0] rfl)
            exact L2 4 0 bt1 rfl rfl _ _ _ hw (lv_sub hl [1, 2, 3, 0] rfl)
    refine lv_aload_n hx hb dX0_solve_8 rfl (lv_at hl 0 rfl) ?_
    refine lv_iconst (v := 1) hx hb dX0_solve_9 (by decide) ?_
    refine x_put7 hc hw (by decide) dX0_solve_10 (fun H locs hw => ?_)
    refine lv_aload_n hx hb dX0_solve_13 rfl (lv_at hl 0 rfl) ?_
    refine lv_iconst (v := 0) hx hb dX0_solve_14 (by decide) ?_
    refine x_put8 hc hw dX0_solve_15 (fun H locs hw => ?_)
    refine lv_iconst (v := nI 1) hx hb dX0_solve_18 (by decide) ?_
    refine lv_istore_n (lv' := [(1, .int (nI 1)), (0, .ref h)]) hx hb dX0_solve_19 rfl hl (by decide) rfl (fun ls hl => ?_)
    refine lv_iconst (v := nI 0) hx hb dX0_solve_20 (by decide) ?_
    refine lv_istore_n (lv' := [(2, .int (nI 0)), (1, .int (nI 1)), (0, .ref h)]) hx hb dX0_solve_21 rfl hl (by decide) rfl (fun ls hl => ?_)
    exact L1 17 0 0 1 _ _ _ _ _ _ rfl (by decide) (Or.inl ⟨rfl, Nat.lt_succ_of_le (pi_rank_le _ _ _)⟩) _ _ _ hw (lv_sub hl [2, 1, 0] rfl)
  · rcases hsv with h2 | ⟨h2, p1, h3⟩
    · exact absurd h2 h1
    · exact hret _ _ _ _ _ dX0_solve_7 (⟨_, _, _, _, _, _, _, p1, by rw [h2], h3⟩) hw
end
section
set_option maxHeartbeats 4000000 in
set_option maxRecDepth 100000 in
theorem px_valueTop (l : Launch) (D : va_G) (h : Nat) (q : Nat → Nat) (d : Nat → ClassId) (R S : Nat → Int32) (ra tp : Nat → Int64) (bo : Int64) (kt : Nat → Int64) (kb : Int64) (so bp : Int32) (bt : Nat → Int64) (bd : Int64) (g : Nat → Int32) (x1 x2 : Int32) (hok : ps_Ok R S) : CI l D (xF h q d) (xT d) yX0_valueTop cX0_valueTop 3 .int (rmK 2 60) [.ref h, .int x1, .int x2] (R, S, ra, tp, bo, kt, kb, so, bp, bt, bd, g) (fun r u => ∃ ra1 tp1 bo1, u = (R, S, ra1, tp1, bo1, kt, kb, so, bp, bt, bd, g) ∧ ((∃ p1 s1, p1 < 16 ∧ s1 < 4 ∧ x1 = nI p1 ∧ x2 = nI s1 ∧ r = ps_frT (ps_tp R S p1 s1) (ps_bo R S p1)) ∨ (¬ (ps_in x1 16 ∧ ps_in x2 4) ∧ r = -1000000))) := by
  refine CI.of (by decide) (Nat.le_of_ble_eq_true rfl) ?_
  intro p e s m below meth c A Q ls hc hret hw hl
  obtain ⟨hx, hb, hml, hown, hts, hK, hA⟩ := id hc
  have hl : lv_has ls 3 [(0, .ref h), (1, .int x1), (2, .int x2)] := hl
  refine lv_aload_n hx hb dX0_valueTop_0 rfl (lv_at hl 0 rfl) ?_
  refine lv_iload_n hx hb dX0_valueTop_1 rfl (lv_at hl 1 rfl) ?_
  refine CI.call (As := [.int x1]) (rest := []) (ci := 0) (n := 1) (px_isPolicy l D h q d (R, S, ra, tp, bo, kt, kb, so, bp, bt, bd, g) x1) hc hw rfl rfl (cwV 1 hts (lw_V q92 q94 qs1 q27 q95) rfl rfl rfl (by decide +kernel) ⟨Nat.le_of_ble_eq_true rfl, Nat.le_of_ble_eq_true rfl⟩) rfl hl.1 rfl (Nat.le_of_ble_eq_true rfl) ⟨Nat.le_of_ble_eq_true rfl, Nat.le_of_ble_eq_true rfl⟩ dX0_valueTop_2 (fun r u H locs hu hwc => ?_)
  have hw : ww D (xF h q d) A s.heap H locs (R, S, ra, tp, bo, kt, kb, so, bp, bt, bd, g) := by rw [hu.1] at hwc; exact hwc
  obtain ⟨-, hu⟩ := hu
  rcases hu with ⟨rfl, h1⟩ | ⟨rfl, h1⟩
  · refine lv_if_eq (tgt := 16) hx hb dX0_valueTop_5 (by decide) (fun hN => ?_) (fun hN => ?_)
    · exact absurd hN (by decide)
    · refine lv_aload_n hx hb dX0_valueTop_8 rfl (lv_at hl 0 rfl) ?_
      refine lv_iload_n hx hb dX0_valueTop_9 rfl (lv_at hl 2 rfl) ?_
      refine CI.call (As := [.int x2]) (rest := []) (ci := 0) (n := 1) (px_isState l D h q d (R, S, ra, tp, bo, kt, kb, so, bp, bt, bd, g) x2) hc hw rfl rfl (cwV 1 hts (lw_V q80 q82 qs0 q27 q83) rfl rfl rfl (by decide +kernel) ⟨Nat.le_of_ble_eq_true rfl, Nat.le_of_ble_eq_true rfl⟩) rfl hl.1 rfl (Nat.le_of_ble_eq_true rfl) ⟨Nat.le_of_ble_eq_true rfl, Nat.le_of_ble_eq_true rfl⟩ dX0_valueTop_10 (fun r u H locs hu hwc => ?_)
      have hw : ww D (xF h q d) A s.heap H locs (R, S, ra, tp, bo, kt, kb, so, bp, bt, bd, g) := by rw [hu.1] at hwc; exact hwc
      obtain ⟨-, hu⟩ := hu
      rcases hu with ⟨rfl, h2⟩ | ⟨rfl, h2⟩
      · refine lv_if_ne (tgt := 19) hx hb dX0_valueTop_13 (by decide) (fun hN => ?_) (fun hN => ?_)
        · obtain ⟨p1, hp1, rfl⟩ := h1
          obtain ⟨s1, hs1, rfl⟩ := h2
          refine lv_aload_n hx hb dX0_valueTop_19 rfl (lv_at hl 0 rfl) ?_
          refine lv_iload_n hx hb dX0_valueTop_20 rfl (lv_at hl 1 rfl) ?_
          refine CV.call (As := [.int (nI p1)]) (rest := []) (ci := 0) (n := 1) (px_evaluate l D h q d R S ra tp bo kt kb so bp bt bd g p1 hp1 hok) hc hw rfl rfl (cwV 1 hts (lw_V q97 q99 qs2 q27 q100) rfl rfl rfl (by decide +kernel) ⟨Nat.le_of_ble_eq_true rfl, Nat.le_of_ble_eq_true rfl⟩) rfl hl.1 rfl (Nat.le_of_ble_eq_true rfl) ⟨Nat.le_of_ble_eq_true rfl, Nat.le_of_ble_eq_true rfl⟩ dX0_valueTop_21 (fun u H locs hu hwc => ?_)
          obtain ⟨ra1, tp1, ht1, rfl⟩ := hu
          have hw : ww D (xF h q d) A s.heap H locs (R, S, ra1, tp1, (Int64.ofInt (ps_bo R S p1)), kt, kb, so, bp, bt, bd, g) := hwc
          refine lv_aload_n hx hb dX0_valueTop_24 rfl (lv_at hl 0 rfl) ?_
          refine lv_aload_n hx hb dX0_valueTop_25 rfl (lv_at hl 0 rfl) ?_
          refine x_get3 hc hw dX0_valueTop_26 ?_
          refine lv_iload_n hx hb dX0_valueTop_29 rfl (lv_at hl 2 rfl) ?_
          refine x_ld3 hc hw (by omega) dX0_valueTop_30 ?_
          refine n_topl (y := Int64.ofInt (ps_tp R S p1 s1)) (ht1 s1 hs1) ?_
          refine lv_aload_n hx hb dX0_valueTop_31 rfl (lv_at hl 0 rfl) ?_
          refine x_get4 hc hw dX0_valueTop_32 ?_
          refine n_topl (y := lN (ps_bo R S p1).toNat) (ps_boN hok p1).1 ?_
          refine CI.call (As := [.long (Int64.ofInt (ps_tp R S p1 s1)), .long (lN (ps_bo R S p1).toNat)]) (rest := []) (ci := 0) (n := 2) (px_lt l D h q d (R, S, ra1, tp1, (Int64.ofInt (ps_bo R S p1)), kt, kb, so, bp, bt, bd, g) (Int64.ofInt (ps_tp R S p1 s1)) (ps_tp R S p1 s1).natAbs (ps_bo R S p1).toNat (ps_absT (ps_tp_b hok p1 s1)) (Nat.lt_trans (ps_tp_b hok p1 s1) (by decide)) (Nat.lt_trans (ps_boN hok p1).2.2 (by decide)) (ps_boN hok p1).2.1) hc hw rfl rfl (cwV 2 hts (lw_V q110 q112 qs5 q27 q113) rfl rfl rfl (by decide +kernel) ⟨Nat.le_of_ble_eq_true rfl, Nat.le_of_ble_eq_true rfl⟩) rfl hl.1 rfl (Nat.le_of_ble_eq_true rfl) ⟨Nat.le_of_ble_eq_true rfl, Nat.le_of_ble_eq_true rfl⟩ dX0_valueTop_35 (fun r u H locs hu hwc => ?_)
          have hw : ww D (xF h q d) A s.heap H locs (R, S, ra1, tp1, (Int64.ofInt (ps_bo R S p1)), kt, kb, so, bp, bt, bd, g) := by rw [hu.1] at hwc; exact hwc
          obtain ⟨-, rfl⟩ := hu
          exact hret _ _ _ _ _ _ dX0_valueTop_38 (vp_nar_int _) (⟨_, _, _, rfl, Or.inl ⟨p1, s1, hp1, hs1, rfl, rfl, rfl⟩⟩) hw
        · exact absurd hN (by decide)
      · refine lv_if_ne (tgt := 19) hx hb dX0_valueTop_13 (by decide) (fun hN => ?_) (fun hN => ?_)
        · exact absurd hN (by decide)
        · refine lv_ldc (v := -1000000) hx hb hown (hts _ q96) dX0_valueTop_16 ?_
          exact hret _ _ _ _ _ _ dX0_valueTop_18 (rfl) (⟨_, _, _, rfl, Or.inr ⟨fun z => h2 z.2, rfl⟩⟩) hw
  · refine lv_if_eq (tgt := 16) hx hb dX0_valueTop_5 (by decide) (fun hN => ?_) (fun hN => ?_)
    · refine lv_ldc (v := -1000000) hx hb hown (hts _ q96) dX0_valueTop_16 ?_
      exact hret _ _ _ _ _ _ dX0_valueTop_18 (rfl) (⟨_, _, _, rfl, Or.inr ⟨fun z => h1 z.1, rfl⟩⟩) hw
    · exact absurd hN (by decide)
set_option maxHeartbeats 4000000 in
set_option maxRecDepth 100000 in
theorem px_valueBottom (l : Launch) (D : va_G) (h : Nat) (q : Nat → Nat) (d : Nat → ClassId) (R S : Nat → Int32) (ra tp : Nat → Int64) (bo : Int64) (kt : Nat → Int64) (kb : Int64) (so bp : Int32) (bt : Nat → Int64) (bd : Int64) (g : Nat → Int32) (x1 x2 : Int32) (hok : ps_Ok R S) : CI l D (xF h q d) (xT d) yX0_valueBottom cX0_valueBottom 3 .int (rmK 2 60) [.ref h, .int x1, .int x2] (R, S, ra, tp, bo, kt, kb, so, bp, bt, bd, g) (fun r u => ∃ ra1 tp1 bo1, u = (R, S, ra1, tp1, bo1, kt, kb, so, bp, bt, bd, g) ∧ ((∃ p1 s1, p1 < 16 ∧ s1 < 4 ∧ x1 = nI p1 ∧ x2 = nI s1 ∧ r = ps_frB (ps_tp R S p1 s1) (ps_bo R S p1)) ∨ (¬ (ps_in x1 16 ∧ ps_in x2 4) ∧ r = -1000000))) := by
  refine CI.of (by decide) (Nat.le_of_ble_eq_true rfl) ?_
  intro p e s m below meth c A Q ls hc hret hw hl
  obtain ⟨hx, hb, hml, hown, hts, hK, hA⟩ := id hc
  have hl : lv_has ls 3 [(0, .ref h), (1, .int x1), (2, .int x2)] := hl
  refine lv_aload_n hx hb dX0_valueBottom_0 rfl (lv_at hl 0 rfl) ?_
  refine lv_iload_n hx hb dX0_valueBottom_1 rfl (lv_at hl 1 rfl) ?_
  refine CI.call (As := [.int x1]) (rest := []) (ci := 0) (n := 1) (px_isPolicy l D h q d (R, S, ra, tp, bo, kt, kb, so, bp, bt, bd, g) x1) hc hw rfl rfl (cwV 1 hts (lw_V q92 q94 qs1 q27 q95) rfl rfl rfl (by decide +kernel) ⟨Nat.le_of_ble_eq_true rfl, Nat.le_of_ble_eq_true rfl⟩) rfl hl.1 rfl (Nat.le_of_ble_eq_true rfl) ⟨Nat.le_of_ble_eq_true rfl, Nat.le_of_ble_eq_true rfl⟩ dX0_valueBottom_2 (fun r u H locs hu hwc => ?_)
  have hw : ww D (xF h q d) A s.heap H locs (R, S, ra, tp, bo, kt, kb, so, bp, bt, bd, g) := by rw [hu.1] at hwc; exact hwc
  obtain ⟨-, hu⟩ := hu
  rcases hu with ⟨rfl, h1⟩ | ⟨rfl, h1⟩
  · refine lv_if_eq (tgt := 16) hx hb dX0_valueBottom_5 (by decide) (fun hN => ?_) (fun hN => ?_)
    · exact absurd hN (by decide)
    · refine lv_aload_n hx hb dX0_valueBottom_8 rfl (lv_at hl 0 rfl) ?_
      refine lv_iload_n hx hb dX0_valueBottom_9 rfl (lv_at hl 2 rfl) ?_
      refine CI.call (As := [.int x2]) (rest := []) (ci := 0) (n := 1) (px_isState l D h q d (R, S, ra, tp, bo, kt, kb, so, bp, bt, bd, g) x2) hc hw rfl rfl (cwV 1 hts (lw_V q80 q82 qs0 q27 q83) rfl rfl rfl (by decide +kernel) ⟨Nat.le_of_ble_eq_true rfl, Nat.le_of_ble_eq_true rfl⟩) rfl hl.1 rfl (Nat.le_of_ble_eq_true rfl) ⟨Nat.le_of_ble_eq_true rfl, Nat.le_of_ble_eq_true rfl⟩ dX0_valueBottom_10 (fun r u H locs hu hwc => ?_)
      have hw : ww D (xF h q d) A s.heap H locs (R, S, ra, tp, bo, kt, kb, so, bp, bt, bd, g) := by rw [hu.1] at hwc; exact hwc
      obtain ⟨-, hu⟩ := hu
      rcases hu with ⟨rfl, h2⟩ | ⟨rfl, h2⟩
      · refine lv_if_ne (tgt := 19) hx hb dX0_valueBottom_13 (by decide) (fun hN => ?_) (fun hN => ?_)
        · obtain ⟨p1, hp1, rfl⟩ := h1
          obtain ⟨s1, hs1, rfl⟩ := h2
          refine lv_aload_n hx hb dX0_valueBottom_19 rfl (lv_at hl 0 rfl) ?_
          refine lv_iload_n hx hb dX0_valueBottom_20 rfl (lv_at hl 1 rfl) ?_
          refine CV.call (As := [.int (nI p1)]) (rest := []) (ci := 0) (n := 1) (px_evaluate l D h q d R S ra tp bo kt kb so bp bt bd g p1 hp1 hok) hc hw rfl rfl (cwV 1 hts (lw_V q97 q99 qs2 q27 q100) rfl rfl rfl (by decide +kernel) ⟨Nat.le_of_ble_eq_true rfl, Nat.le_of_ble_eq_true rfl⟩) rfl hl.1 rfl (Nat.le_of_ble_eq_true rfl) ⟨Nat.le_of_ble_eq_true rfl, Nat.le_of_ble_eq_true rfl⟩ dX0_valueBottom_21 (fun u H locs hu hwc => ?_)
          obtain ⟨ra1, tp1, ht1, rfl⟩ := hu
          have hw : ww D (xF h q d) A s.heap H locs (R, S, ra1, tp1, (Int64.ofInt (ps_bo R S p1)), kt, kb, so, bp, bt, bd, g) := hwc
          refine lv_aload_n hx hb dX0_valueBottom_24 rfl (lv_at hl 0 rfl) ?_
          refine lv_aload_n hx hb dX0_valueBottom_25 rfl (lv_at hl 0 rfl) ?_
          refine x_get3 hc hw dX0_valueBottom_26 ?_
          refine lv_iload_n hx hb dX0_valueBottom_29 rfl (lv_at hl 2 rfl) ?_
          refine x_ld3 hc hw (by omega) dX0_valueBottom_30 ?_
          refine n_topl (y := Int64.ofInt (ps_tp R S p1 s1)) (ht1 s1 hs1) ?_
          refine lv_aload_n hx hb dX0_valueBottom_31 rfl (lv_at hl 0 rfl) ?_
          refine x_get4 hc hw dX0_valueBottom_32 ?_
          refine n_topl (y := lN (ps_bo R S p1).toNat) (ps_boN hok p1).1 ?_
          refine CI.call (As := [.long (Int64.ofInt (ps_tp R S p1 s1)), .long (lN (ps_bo R S p1).toNat)]) (rest := []) (ci := 0) (n := 2) (px_lb l D h q d (R, S, ra1, tp1, (Int64.ofInt (ps_bo R S p1)), kt, kb, so, bp, bt, bd, g) (Int64.ofInt (ps_tp R S p1 s1)) (ps_tp R S p1 s1).natAbs (ps_bo R S p1).toNat (ps_absT (ps_tp_b hok p1 s1)) (Nat.lt_trans (ps_tp_b hok p1 s1) (by decide)) (Nat.lt_trans (ps_boN hok p1).2.2 (by decide)) (ps_boN hok p1).2.1) hc hw rfl rfl (cwV 2 hts (lw_V q122 q124 qs7 q27 q125) rfl rfl rfl (by decide +kernel) ⟨Nat.le_of_ble_eq_true rfl, Nat.le_of_ble_eq_true rfl⟩) rfl hl.1 rfl (Nat.le_of_ble_eq_true rfl) ⟨Nat.le_of_ble_eq_true rfl, Nat.le_of_ble_eq_true rfl⟩ dX0_valueBottom_35 (fun r u H locs hu hwc => ?_)
          have hw : ww D (xF h q d) A s.heap H locs (R, S, ra1, tp1, (Int64.ofInt (ps_bo R S p1)), kt, kb, so, bp, bt, bd, g) := by rw [hu.1] at hwc; exact hwc
          obtain ⟨-, rfl⟩ := hu
          exact hret _ _ _ _ _ _ dX0_valueBottom_38 (vp_nar_int _) (⟨_, _, _, rfl, Or.inl ⟨p1, s1, hp1, hs1, rfl, rfl, rfl⟩⟩) hw
        · exact absurd hN (by decide)
      · refine lv_if_ne (tgt := 19) hx hb dX0_valueBottom_13 (by decide) (fun hN => ?_) (fun hN => ?_)
        · exact absurd hN (by decide)
        · refine lv_ldc (v := -1000000) hx hb hown (hts _ q96) dX0_valueBottom_16 ?_
          exact hret _ _ _ _ _ _ dX0_valueBottom_18 (rfl) (⟨_, _, _, rfl, Or.inr ⟨fun z => h2 z.2, rfl⟩⟩) hw
  · refine lv_if_eq (tgt := 16) hx hb dX0_valueBottom_5 (by decide) (fun hN => ?_) (fun hN => ?_)
    · refine lv_ldc (v := -1000000) hx hb hown (hts _ q96) dX0_valueBottom_16 ?_
      exact hret _ _ _ _ _ _ dX0_valueBottom_18 (rfl) (⟨_, _, _, rfl, Or.inr ⟨fun z => h1 z.1, rfl⟩⟩) hw
    · exact absurd hN (by decide)
set_option maxHeartbeats 4000000 in
set_option maxRecDepth 100000 in
theorem px_compare (l : Launch) (D : va_G) (h : Nat) (q : Nat → Nat) (d : Nat → ClassId) (R S : Nat → Int32) (ra tp : Nat → Int64) (bo : Int64) (kt : Nat → Int64) (kb : Int64) (so bp : Int32) (bt : Nat → Int64) (bd : Int64) (g : Nat → Int32) (x1 x2 x3 : Int32) (hok : ps_Ok R S) : CI l D (xF h q d) (xT d) yX0_compare cX0_compare 8 .int (rmK 2 60) [.ref h, .int x1, .int x2, .int x3] (R, S, ra, tp, bo, kt, kb, so, bp, bt, bd, g) (fun r u => ∃ ra1 tp1 bo1 kt1 kb1, u = (R, S, ra1, tp1, bo1, kt1, kb1, so, bp, bt, bd, g) ∧ ((∃ p1 p2 s1, p1 < 16 ∧ p2 < 16 ∧ s1 < 4 ∧ x1 = nI p1 ∧ x2 = nI p2 ∧ x3 = nI s1 ∧ r = ps_cmp (ps_tp R S p1 s1 * ps_bo R S p2) (ps_tp R S p2 s1 * ps_bo R S p1)) ∨ (¬ (ps_in x1 16 ∧ ps_in x2 16 ∧ ps_in x3 4) ∧ r = -2))) := by
  refine CI.of (by decide) (Nat.le_of_ble_eq_true rfl) ?_
  intro p e s m below meth c A Q ls hc hret hw hl
  obtain ⟨hx, hb, hml, hown, hts, hK, hA⟩ := id hc
  have hl : lv_has ls 8 [(0, .ref h), (1, .int x1), (2, .int x2), (3, .int x3)] := hl
  refine lv_aload_n hx hb dX0_compare_0 rfl (lv_at hl 0 rfl) ?_
  refine lv_iload_n hx hb dX0_compare_1 rfl (lv_at hl 1 rfl) ?_
  refine CI.call (As := [.int x1]) (rest := []) (ci := 0) (n := 1) (px_isPolicy l D h q d (R, S, ra, tp, bo, kt, kb, so, bp, bt, bd, g) x1) hc hw rfl rfl (cwV 1 hts (lw_V q92 q94 qs1 q27 q95) rfl rfl rfl (by decide +kernel) ⟨Nat.le_of_ble_eq_true rfl, Nat.le_of_ble_eq_true rfl⟩) rfl hl.1 rfl (Nat.le_of_ble_eq_true rfl) ⟨Nat.le_of_ble_eq_true rfl, Nat.le_of_ble_eq_true rfl⟩ dX0_compare_2 (fun r u H locs hu hwc => ?_)
  have hw : ww D (xF h q d) A s.heap H locs (R, S, ra, tp, bo, kt, kb, so, bp, bt, bd, g) := by rw [hu.1] at hwc; exact hwc
  obtain ⟨-, hu⟩ := hu
  rcases hu with ⟨rfl, h1⟩ | ⟨rfl, h1⟩
  · refine lv_if_eq (tgt := 24) hx hb dX0_compare_5 (by decide) (fun hN => ?_) (fun hN => ?_)
    · exact absurd hN (by decide)
    · refine lv_aload_n hx hb dX0_compare_8 rfl (lv_at hl 0 rfl) ?_
      refine lv_iload_n hx hb dX0_compare_9 rfl (lv_at hl 2 rfl) ?_
      refine CI.call (As := [.int x2]) (rest := []) (ci := 0) (n := 1) (px_isPolicy l D h q d (R, S, ra, tp, bo, kt, kb, so, bp, bt, bd, g) x2) hc hw rfl rfl (cwV 1 hts (lw_V q92 q94 qs1 q27 q95) rfl rfl rfl (by decide +kernel) ⟨Nat.le_of_ble_eq_true rfl, Nat.le_of_ble_eq_true rfl⟩) rfl hl.1 rfl (Nat.le_of_ble_eq_true rfl) ⟨Nat.le_of_ble_eq_true rfl, Nat.le_of_ble_eq_true rfl⟩ dX0_compare_10 (fun r u H locs hu hwc => ?_)
      have hw : ww D (xF h q d) A s.heap H locs (R, S, ra, tp, bo, kt, kb, so, bp, bt, bd, g) := by rw [hu.1] at hwc; exact hwc
      obtain ⟨-, hu⟩ := hu
      rcases hu with ⟨rfl, h2⟩ | ⟨rfl, h2⟩
      · refine lv_if_eq (tgt := 24) hx hb dX0_compare_13 (by decide) (fun hN => ?_) (fun hN => ?_)
        · exact absurd hN (by decide)
        · refine lv_aload_n hx hb dX0_compare_16 rfl (lv_at hl 0 rfl) ?_
          refine lv_iload_n hx hb dX0_compare_17 rfl (lv_at hl 3 rfl) ?_
          refine CI.call (As := [.int x3]) (rest := []) (ci := 0) (n := 1) (px_isState l D h q d (R, S, ra, tp, bo, kt, kb, so, bp, bt, bd, g) x3) hc hw rfl rfl (cwV 1 hts (lw_V q80 q82 qs0 q27 q83) rfl rfl rfl (by decide +kernel) ⟨Nat.le_of_ble_eq_true rfl, Nat.le_of_ble_eq_true rfl⟩) rfl hl.1 rfl (Nat.le_of_ble_eq_true rfl) ⟨Nat.le_of_ble_eq_true rfl, Nat.le_of_ble_eq_true rfl⟩ dX0_compare_18 (fun r u H locs hu hwc => ?_)
          have hw : ww D (xF h q d) A s.heap H locs (R, S, ra, tp, bo, kt, kb, so, bp, bt, bd, g) := by rw [hu.1] at hwc; exact hwc
          obtain ⟨-, hu⟩ := hu
          rcases hu with ⟨rfl, h3⟩ | ⟨rfl, h3⟩
          · refine lv_if_ne (tgt := 27) hx hb dX0_compare_21 (by decide) (fun hN => ?_) (fun hN => ?_)
            · obtain ⟨p1, hp1, rfl⟩ := h1
              obtain ⟨p2, hp2, rfl⟩ := h2
              obtain ⟨s1, hs1, rfl⟩ := h3
              refine lv_aload_n hx hb dX0_compare_27 rfl (lv_at hl 0 rfl) ?_
              refine lv_iload_n hx hb dX0_compare_28 rfl (lv_at hl 1 rfl) ?_
              refine CV.call (As := [.int (nI p1)]) (rest := []) (ci := 0) (n := 1) (px_evaluate l D h q d R S ra tp bo kt kb so bp bt bd g p1 hp1 hok) hc hw rfl rfl (cwV 1 hts (lw_V q97 q99 qs2 q27 q100) rfl rfl rfl (by decide +kernel) ⟨Nat.le_of_ble_eq_true rfl, Nat.le_of_ble_eq_true rfl⟩) rfl hl.1 rfl (Nat.le_of_ble_eq_true rfl) ⟨Nat.le_of_ble_eq_true rfl, Nat.le_of_ble_eq_true rfl⟩ dX0_compare_29 (fun u H locs hu hwc => ?_)
              obtain ⟨ra1, tp1, ht1, rfl⟩ := hu
              have hw : ww D (xF h q d) A s.heap H locs (R, S, ra1, tp1, (Int64.ofInt (ps_bo R S p1)), kt, kb, so, bp, bt, bd, g) := hwc
              refine lv_aload_n hx hb dX0_compare_32 rfl (lv_at hl 0 rfl) ?_
              refine CV.call (As := []) (rest := []) (ci := 0) (n := 0) (px_keepValues l D h q d R S ra1 tp1 (Int64.ofInt (ps_bo R S p1)) kt kb so bp bt bd g) hc hw rfl rfl (cwV 0 hts (lw_V q170 q172 qs12 q27 q173) rfl rfl rfl (by decide +kernel) ⟨Nat.le_of_ble_eq_true rfl, Nat.le_of_ble_eq_true rfl⟩) rfl hl.1 rfl (Nat.le_of_ble_eq_true rfl) ⟨Nat.le_of_ble_eq_true rfl, Nat.le_of_ble_eq_true rfl⟩ dX0_compare_33 (fun u H locs hu hwc => ?_)
              subst hu
              have hw : ww D (xF h q d) A s.heap H locs (R, S, ra1, tp1, (Int64.ofInt (ps_bo R S p1)), (px_kv tp1 4 0 kt), (Int64.ofInt (ps_bo R S p1)), so, bp, bt, bd, g) := hwc
              refine lv_aload_n hx hb dX0_compare_36 rfl (lv_at hl 0 rfl) ?_
              refine lv_iload_n hx hb dX0_compare_37 rfl (lv_at hl 2 rfl) ?_
              refine CV.call (As := [.int (nI p2)]) (rest := []) (ci := 0) (n := 1) (px_evaluate l D h q d R S ra1 tp1 (Int64.ofInt (ps_bo R S p1)) (px_kv tp1 4 0 kt) (Int64.ofInt (ps_bo R S p1)) so bp bt bd g p2 hp2 hok) hc hw rfl rfl (cwV 1 hts (lw_V q97 q99 qs2 q27 q100) rfl rfl rfl (by decide +kernel) ⟨Nat.le_of_ble_eq_true rfl, Nat.le_of_ble_eq_true rfl⟩) rfl hl.1 rfl (Nat.le_of_ble_eq_true rfl) ⟨Nat.le_of_ble_eq_true rfl, Nat.le_of_ble_eq_true rfl⟩ dX0_compare_38 (fun u H locs hu hwc => ?_)
              obtain ⟨ra2, tp2, ht2, rfl⟩ := hu
              have hw : ww D (xF h q d) A s.heap H locs (R, S, ra2, tp2, (Int64.ofInt (ps_bo R S p2)), (px_kv tp1 4 0 kt), (Int64.ofInt (ps_bo R S p1)), so, bp, bt, bd, g) := hwc
              refine lv_aload_n hx hb dX0_compare_41 rfl (lv_at hl 0 rfl) ?_
              refine x_get5 hc hw dX0_compare_42 ?_
              refine lv_iload_n hx hb dX0_compare_45 rfl (lv_at hl 3 rfl) ?_
              refine x_ld5 hc hw (by omega) dX0_compare_46 ?_
              refine n_topl (y := Int64.ofInt (ps_tp R S p1 s1)) ((px_kv_at tp1 kt hs1).trans (ht1 s1 hs1)) ?_
              refine lv_aload_n hx hb dX0_compare_47 rfl (lv_at hl 0 rfl) ?_
              refine x_get4 hc hw dX0_compare_48 ?_
              refine lv_lmul hx hb dX0_compare_51 ?_
              refine lv_lstore (lv' := [(4, .long ((Int64.ofInt (ps_tp R S p1 s1)) * (Int64.ofInt (ps_bo R S p2)))), (0, .ref h), (1, .int (nI p1)), (2, .int (nI p2)), (3, .int (nI s1))]) hx hb dX0_compare_52 hl (by decide) rfl (fun ls hl => ?_)
              refine lv_aload_n hx hb dX0_compare_54 rfl (lv_at hl 1 rfl) ?_
              refine x_get3 hc hw dX0_compare_55 ?_
              refine lv_iload_n hx hb dX0_compare_58 rfl (lv_at hl 4 rfl) ?_
              refine x_ld3 hc hw (by omega) dX0_compare_59 ?_
              refine n_topl (y := Int64.ofInt (ps_tp R S p2 s1)) (ht2 s1 hs1) ?_
              refine lv_aload_n hx hb dX0_compare_60 rfl (lv_at hl 1 rfl) ?_
              refine x_get6 hc hw dX0_compare_61 ?_
              refine lv_lmul hx hb dX0_compare_64 ?_
              refine lv_lstore (lv' := [(6, .long ((Int64.ofInt (ps_tp R S p2 s1)) * (Int64.ofInt (ps_bo R S p1)))), (4, .long ((Int64.ofInt (ps_tp R S p1 s1)) * (Int64.ofInt (ps_bo R S p2)))), (0, .ref h), (1, .int (nI p1)), (2, .int (nI p2)), (3, .int (nI s1))]) hx hb dX0_compare_65 hl (by decide) rfl (fun ls hl => ?_)
              refine lv_lload hx hb dX0_compare_67 (lv_at hl 1 rfl) ?_
              refine lv_lload hx hb dX0_compare_69 (lv_at hl 0 rfl) ?_
              refine W.lcmp hx hb dX0_compare_71 ?_
              refine j_if_ge (tgt := 79) hx hb dX0_compare_72 (by decide) (fun h4 => ?_) (fun h4 => ?_)
              · refine lv_lload hx hb dX0_compare_79 (lv_at hl 1 rfl) ?_
                refine lv_lload hx hb dX0_compare_81 (lv_at hl 0 rfl) ?_
                refine W.lcmp hx hb dX0_compare_83 ?_
                refine j_if_le (tgt := 91) hx hb dX0_compare_84 (by decide) (fun h5 => ?_) (fun h5 => ?_)
                · refine lv_iconst (v := 0) hx hb dX0_compare_91 (by decide) ?_
                  exact hret _ _ _ _ _ _ dX0_compare_92 (rfl) (⟨_, _, _, _, _, rfl, Or.inl ⟨p1, p2, s1, hp1, hp2, hs1, rfl, rfl, rfl, by
                    have z1 := (ps_prE hok _ _ _ _ _ _).mp h4
                    have z2 := (ps_prE hok _ _ _ _ _ _).mp h5
                    unfold ps_cmp
                    rw [if_neg (by omega), if_neg (by omega)]⟩⟩) hw
                · refine lv_iconst (v := 1) hx hb dX0_compare_87 (by decide) ?_
                  refine lv_goto (tgt := 92) hx hb dX0_compare_88 (by decide) ?_
                  exact hret _ _ _ _ _ _ dX0_compare_92 (rfl) (⟨_, _, _, _, _, rfl, Or.inl ⟨p1, p2, s1, hp1, hp2, hs1, rfl, rfl, rfl, by
                    have z1 := (ps_prE hok _ _ _ _ _ _).mp h4
                    have z2 := mt (ps_prE hok _ _ _ _ _ _).mpr h5
                    unfold ps_cmp
                    rw [if_neg (by omega), if_pos (by omega)]⟩⟩) hw
              · refine lv_iconst (v := (-1)) hx hb dX0_compare_75 (by decide) ?_
                refine lv_goto (tgt := 92) hx hb dX0_compare_76 (by decide) ?_
                exact hret _ _ _ _ _ _ dX0_compare_92 (rfl) (⟨_, _, _, _, _, rfl, Or.inl ⟨p1, p2, s1, hp1, hp2, hs1, rfl, rfl, rfl, by
                  have z1 := mt (ps_prE hok _ _ _ _ _ _).mpr h4
                  unfold ps_cmp
                  rw [if_pos (by omega)]⟩⟩) hw
            · exact absurd hN (by decide)
          · refine lv_if_ne (tgt := 27) hx hb dX0_compare_21 (by decide) (fun hN => ?_) (fun hN => ?_)
            · exact absurd hN (by decide)
            · refine lv_bipush (v := (-2)) hx hb dX0_compare_24 (by decide) ?_
              exact hret _ _ _ _ _ _ dX0_compare_26 (rfl) (⟨_, _, _, _, _, rfl, Or.inr ⟨fun z => h3 z.2.2, rfl⟩⟩) hw
      · refine lv_if_eq (tgt := 24) hx hb dX0_compare_13 (by decide) (fun hN => ?_) (fun hN => ?_)
        · refine lv_bipush (v := (-2)) hx hb dX0_compare_24 (by decide) ?_
          exact hret _ _ _ _ _ _ dX0_compare_26 (rfl) (⟨_, _, _, _, _, rfl, Or.inr ⟨fun z => h2 z.2.1, rfl⟩⟩) hw
        · exact absurd hN (by decide)
  · refine lv_if_eq (tgt := 24) hx hb dX0_compare_5 (by decide) (fun hN => ?_) (fun hN => ?_)
    · refine lv_bipush (v := (-2)) hx hb dX0_compare_24 (by decide) ?_
      exact hret _ _ _ _ _ _ dX0_compare_26 (rfl) (⟨_, _, _, _, _, rfl, Or.inr ⟨fun z => h1 z.1, rfl⟩⟩) hw
    · exact absurd hN (by decide)
set_option maxHeartbeats 4000000 in
set_option maxRecDepth 100000 in
theorem px_bestTop (l : Launch) (D : va_G) (h : Nat) (q : Nat → Nat) (d : Nat → ClassId) (R S : Nat → Int32) (ra tp : Nat → Int64) (bo : Int64) (kt : Nat → Int64) (kb : Int64) (so bp : Int32) (bt : Nat → Int64) (bd : Int64) (g : Nat → Int32) (x1 : Int32) (hok : ps_Ok R S) (hsv : ps_sv R S so bt bd g) : CI l D (xF h q d) (xT d) yX0_bestTop cX0_bestTop 2 .int (rmK 3 90) [.ref h, .int x1] (R, S, ra, tp, bo, kt, kb, so, bp, bt, bd, g) (fun r u => (∃ s1 ra1 tp1 bo1 bp1 bt1 bd1 g1 p1, s1 < 4 ∧ x1 = nI s1 ∧ u = (R, S, ra1, tp1, bo1, kt, kb, 1, bp1, bt1, bd1, g1) ∧ ps_sol R S p1 bt1 bd1 g1 ∧ r = ps_frT (ps_tp R S p1 s1) (ps_bo R S p1)) ∨ (¬ ps_in x1 4 ∧ u = (R, S, ra, tp, bo, kt, kb, so, bp, bt, bd, g) ∧ r = -1000000)) := by
  refine CI.of (by decide) (Nat.le_of_ble_eq_true rfl) ?_
  intro p e s m below meth c A Q ls hc hret hw hl
  obtain ⟨hx, hb, hml, hown, hts, hK, hA⟩ := id hc
  have hl : lv_has ls 2 [(0, .ref h), (1, .int x1)] := hl
  refine lv_aload_n hx hb dX0_bestTop_0 rfl (lv_at hl 0 rfl) ?_
  refine lv_iload_n hx hb dX0_bestTop_1 rfl (lv_at hl 1 rfl) ?_
  refine CI.call (As := [.int x1]) (rest := []) (ci := 0) (n := 1) (px_isState l D h q d (R, S, ra, tp, bo, kt, kb, so, bp, bt, bd, g) x1) hc hw rfl rfl (cwV 1 hts (lw_V q80 q82 qs0 q27 q83) rfl rfl rfl (by decide +kernel) ⟨Nat.le_of_ble_eq_true rfl, Nat.le_of_ble_eq_true rfl⟩) rfl hl.1 rfl (Nat.le_of_ble_eq_true rfl) ⟨Nat.le_of_ble_eq_true rfl, Nat.le_of_ble_eq_true rfl⟩ dX0_bestTop_2 (fun r u H locs hu hwc => ?_)
  have hw : ww D (xF h q d) A s.heap H locs (R, S, ra, tp, bo, kt, kb, so, bp, bt, bd, g) := by rw [hu.1] at hwc; exact hwc
  obtain ⟨-, hu⟩ := hu
  rcases hu with ⟨rfl, h1⟩ | ⟨rfl, h1⟩
  · refine lv_if_ne (tgt := 11) hx hb dX0_bestTop_5 (by decide) (fun hN => ?_) (fun hN => ?_)
    · obtain ⟨s1, hs1, rfl⟩ := h1
      refine lv_aload_n hx hb dX0_bestTop_11 rfl (lv_at hl 0 rfl) ?_
      refine CV.call (As := []) (rest := []) (ci := 0) (n := 0) (px_solve l D h q d R S ra tp bo kt kb so bp bt bd g hok hsv) hc hw rfl rfl (cwV 0 hts (lw_V q130 q132 qs8 q27 q133) rfl rfl rfl (by decide +kernel) ⟨Nat.le_of_ble_eq_true rfl, Nat.le_of_ble_eq_true rfl⟩) rfl hl.1 rfl (Nat.le_of_ble_eq_true rfl) ⟨Nat.le_of_ble_eq_true rfl, Nat.le_of_ble_eq_true rfl⟩ dX0_bestTop_12 (fun u H locs hu hwc => ?_)
      obtain ⟨ra1, tp1, bo1, bp1, bt1, bd1, g1, p1, rfl, hsol⟩ := hu
      have hw : ww D (xF h q d) A s.heap H locs (R, S, ra1, tp1, bo1, kt, kb, 1, bp1, bt1, bd1, g1) := hwc
      obtain ⟨hp1, hlo, hbt, hbd, hg⟩ := id hsol
      refine lv_aload_n hx hb dX0_bestTop_15 rfl (lv_at hl 0 rfl) ?_
      refine lv_aload_n hx hb dX0_bestTop_16 rfl (lv_at hl 0 rfl) ?_
      refine x_get9 hc hw dX0_bestTop_17 ?_
      refine lv_iload_n hx hb dX0_bestTop_20 rfl (lv_at hl 1 rfl) ?_
      refine x_ld9 hc hw (by omega) dX0_bestTop_21 ?_
      refine n_topl (y := Int64.ofInt (ps_tp R S p1 s1)) (hbt s1 hs1) ?_
      refine lv_aload_n hx hb dX0_bestTop_22 rfl (lv_at hl 0 rfl) ?_
      refine x_get10 hc hw dX0_bestTop_23 ?_
      refine n_topl (y := lN (ps_bo R S p1).toNat) (hbd.trans (ps_boN hok p1).1) ?_
      refine CI.call (As := [.long (Int64.ofInt (ps_tp R S p1 s1)), .long (lN (ps_bo R S p1).toNat)]) (rest := []) (ci := 0) (n := 2) (px_lt l D h q d (R, S, ra1, tp1, bo1, kt, kb, 1, bp1, bt1, bd1, g1) (Int64.ofInt (ps_tp R S p1 s1)) (ps_tp R S p1 s1).natAbs (ps_bo R S p1).toNat (ps_absT (ps_tp_b hok p1 s1)) (Nat.lt_trans (ps_tp_b hok p1 s1) (by decide)) (Nat.lt_trans (ps_boN hok p1).2.2 (by decide)) (ps_boN hok p1).2.1) hc hw rfl rfl (cwV 2 hts (lw_V q110 q112 qs5 q27 q113) rfl rfl rfl (by decide +kernel) ⟨Nat.le_of_ble_eq_true rfl, Nat.le_of_ble_eq_true rfl⟩) rfl hl.1 rfl (Nat.le_of_ble_eq_true rfl) ⟨Nat.le_of_ble_eq_true rfl, Nat.le_of_ble_eq_true rfl⟩ dX0_bestTop_26 (fun r u H locs hu hwc => ?_)
      have hw : ww D (xF h q d) A s.heap H locs (R, S, ra1, tp1, bo1, kt, kb, 1, bp1, bt1, bd1, g1) := by rw [hu.1] at hwc; exact hwc
      obtain ⟨-, rfl⟩ := hu
      exact hret _ _ _ _ _ _ dX0_bestTop_29 (vp_nar_int _) (Or.inl ⟨s1, ra1, tp1, bo1, bp1, bt1, bd1, g1, p1, hs1, rfl, rfl, hsol, rfl⟩) hw
    · exact absurd hN (by decide)
  · refine lv_if_ne (tgt := 11) hx hb dX0_bestTop_5 (by decide) (fun hN => ?_) (fun hN => ?_)
    · exact absurd hN (by decide)
    · refine lv_ldc (v := -1000000) hx hb hown (hts _ q96) dX0_bestTop_8 ?_
      exact hret _ _ _ _ _ _ dX0_bestTop_10 (rfl) (Or.inr ⟨h1, rfl, rfl⟩) hw
set_option maxHeartbeats 4000000 in
set_option maxRecDepth 100000 in
theorem px_bestBottom (l : Launch) (D : va_G) (h : Nat) (q : Nat → Nat) (d : Nat → ClassId) (R S : Nat → Int32) (ra tp : Nat → Int64) (bo : Int64) (kt : Nat → Int64) (kb : Int64) (so bp : Int32) (bt : Nat → Int64) (bd : Int64) (g : Nat → Int32) (x1 : Int32) (hok : ps_Ok R S) (hsv : ps_sv R S so bt bd g) : CI l D (xF h q d) (xT d) yX0_bestBottom cX0_bestBottom 2 .int (rmK 3 90) [.ref h, .int x1] (R, S, ra, tp, bo, kt, kb, so, bp, bt, bd, g) (fun r u => (∃ s1 ra1 tp1 bo1 bp1 bt1 bd1 g1 p1, s1 < 4 ∧ x1 = nI s1 ∧ u = (R, S, ra1, tp1, bo1, kt, kb, 1, bp1, bt1, bd1, g1) ∧ ps_sol R S p1 bt1 bd1 g1 ∧ r = ps_frB (ps_tp R S p1 s1) (ps_bo R S p1)) ∨ (¬ ps_in x1 4 ∧ u = (R, S, ra, tp, bo, kt, kb, so, bp, bt, bd, g) ∧ r = -1000000)) := by
  refine CI.of (by decide) (Nat.le_of_ble_eq_true rfl) ?_
  intro p e s m below meth c A Q ls hc hret hw hl
  obtain ⟨hx, hb, hml, hown, hts, hK, hA⟩ := id hc
  have hl : lv_has ls 2 [(0, .ref h), (1, .int x1)] := hl
  refine lv_aload_n hx hb dX0_bestBottom_0 rfl (lv_at hl 0 rfl) ?_
  refine lv_iload_n hx hb dX0_bestBottom_1 rfl (lv_at hl 1 rfl) ?_
  refine CI.call (As := [.int x1]) (rest := []) (ci := 0) (n := 1) (px_isState l D h q d (R, S, ra, tp, bo, kt, kb, so, bp, bt, bd, g) x1) hc hw rfl rfl (cwV 1 hts (lw_V q80 q82 qs0 q27 q83) rfl rfl rfl (by decide +kernel) ⟨Nat.le_of_ble_eq_true rfl, Nat.le_of_ble_eq_true rfl⟩) rfl hl.1 rfl (Nat.le_of_ble_eq_true rfl) ⟨Nat.le_of_ble_eq_true rfl, Nat.le_of_ble_eq_true rfl⟩ dX0_bestBottom_2 (fun r u H locs hu hwc => ?_)
  have hw : ww D (xF h q d) A s.heap H locs (R, S, ra, tp, bo, kt, kb, so, bp, bt, bd, g) := by rw [hu.1] at hwc; exact hwc
  obtain ⟨-, hu⟩ := hu
  rcases hu with ⟨rfl, h1⟩ | ⟨rfl, h1⟩
  · refine lv_if_ne (tgt := 11) hx hb dX0_bestBottom_5 (by decide) (fun hN => ?_) (fun hN => ?_)
    · obtain ⟨s1, hs1, rfl⟩ := h1
      refine lv_aload_n hx hb dX0_bestBottom_11 rfl (lv_at hl 0 rfl) ?_
      refine CV.call (As := []) (rest := []) (ci := 0) (n := 0) (px_solve l D h q d R S ra tp bo kt kb so bp bt bd g hok hsv) hc hw rfl rfl (cwV 0 hts (lw_V q130 q132 qs8 q27 q133) rfl rfl rfl (by decide +kernel) ⟨Nat.le_of_ble_eq_true rfl, Nat.le_of_ble_eq_true rfl⟩) rfl hl.1 rfl (Nat.le_of_ble_eq_true rfl) ⟨Nat.le_of_ble_eq_true rfl, Nat.le_of_ble_eq_true rfl⟩ dX0_bestBottom_12 (fun u H locs hu hwc => ?_)
      obtain ⟨ra1, tp1, bo1, bp1, bt1, bd1, g1, p1, rfl, hsol⟩ := hu
      have hw : ww D (xF h q d) A s.heap H locs (R, S, ra1, tp1, bo1, kt, kb, 1, bp1, bt1, bd1, g1) := hwc
      obtain ⟨hp1, hlo, hbt, hbd, hg⟩ := id hsol
      refine lv_aload_n hx hb dX0_bestBottom_15 rfl (lv_at hl 0 rfl) ?_
      refine lv_aload_n hx hb dX0_bestBottom_16 rfl (lv_at hl 0 rfl) ?_
      refine x_get9 hc hw dX0_bestBottom_17 ?_
      refine lv_iload_n hx hb dX0_bestBottom_20 rfl (lv_at hl 1 rfl) ?_
      refine x_ld9 hc hw (by omega) dX0_bestBottom_21 ?_
      refine n_topl (y := Int64.ofInt (ps_tp R S p1 s1)) (hbt s1 hs1) ?_
      refine lv_aload_n hx hb dX0_bestBottom_22 rfl (lv_at hl 0 rfl) ?_
      refine x_get10 hc hw dX0_bestBottom_23 ?_
      refine n_topl (y := lN (ps_bo R S p1).toNat) (hbd.trans (ps_boN hok p1).1) ?_
      refine CI.call (As := [.long (Int64.ofInt (ps_tp R S p1 s1)), .long (lN (ps_bo R S p1).toNat)]) (rest := []) (ci := 0) (n := 2) (px_lb l D h q d (R, S, ra1, tp1, bo1, kt, kb, 1, bp1, bt1, bd1, g1) (Int64.ofInt (ps_tp R S p1 s1)) (ps_tp R S p1 s1).natAbs (ps_bo R S p1).toNat (ps_absT (ps_tp_b hok p1 s1)) (Nat.lt_trans (ps_tp_b hok p1 s1) (by decide)) (Nat.lt_trans (ps_boN hok p1).2.2 (by decide)) (ps_boN hok p1).2.1) hc hw rfl rfl (cwV 2 hts (lw_V q122 q124 qs7 q27 q125) rfl rfl rfl (by decide +kernel) ⟨Nat.le_of_ble_eq_true rfl, Nat.le_of_ble_eq_true rfl⟩) rfl hl.1 rfl (Nat.le_of_ble_eq_true rfl) ⟨Nat.le_of_ble_eq_true rfl, Nat.le_of_ble_eq_true rfl⟩ dX0_bestBottom_26 (fun r u H locs hu hwc => ?_)
      have hw : ww D (xF h q d) A s.heap H locs (R, S, ra1, tp1, bo1, kt, kb, 1, bp1, bt1, bd1, g1) := by rw [hu.1] at hwc; exact hwc
      obtain ⟨-, rfl⟩ := hu
      exact hret _ _ _ _ _ _ dX0_bestBottom_29 (vp_nar_int _) (Or.inl ⟨s1, ra1, tp1, bo1, bp1, bt1, bd1, g1, p1, hs1, rfl, rfl, hsol, rfl⟩) hw
    · exact absurd hN (by decide)
  · refine lv_if_ne (tgt := 11) hx hb dX0_bestBottom_5 (by decide) (fun hN => ?_) (fun hN => ?_)
    · exact absurd hN (by decide)
    · refine lv_ldc (v := -1000000) hx hb hown (hts _ q96) dX0_bestBottom_8 ?_
      exact hret _ _ _ _ _ _ dX0_bestBottom_10 (rfl) (Or.inr ⟨h1, rfl, rfl⟩) hw
set_option maxHeartbeats 4000000 in
set_option maxRecDepth 100000 in
theorem px_policy (l : Launch) (D : va_G) (h : Nat) (q : Nat → Nat) (d : Nat → ClassId) (R S : Nat → Int32) (ra tp : Nat → Int64) (bo : Int64) (kt : Nat → Int64) (kb : Int64) (so bp : Int32) (bt : Nat → Int64) (bd : Int64) (g : Nat → Int32) (hok : ps_Ok R S) (hsv : ps_sv R S so bt bd g) : CI l D (xF h q d) (xT d) yX0_policy cX0_policy 3 .int (rmK 3 90) [.ref h] (R, S, ra, tp, bo, kt, kb, so, bp, bt, bd, g) (fun r u => ∃ ra1 tp1 bo1 bp1 bt1 bd1 g1 p1, u = (R, S, ra1, tp1, bo1, kt, kb, 1, bp1, bt1, bd1, g1) ∧ ps_sol R S p1 bt1 bd1 g1 ∧ r = nI (px_po (ps_mk R S p1) 4 0 0)) := by
  refine CI.of (by decide) (Nat.le_of_ble_eq_true rfl) ?_
  intro p e s m below meth c A Q ls hc hret hw hl
  obtain ⟨hx, hb, hml, hown, hts, hK, hA⟩ := id hc
  have hl : lv_has ls 3 [(0, .ref h)] := hl
  refine lv_aload_n hx hb dX0_policy_0 rfl (lv_at hl 0 rfl) ?_
  refine CV.call (As := []) (rest := []) (ci := 0) (n := 0) (px_solve l D h q d R S ra tp bo kt kb so bp bt bd g hok hsv) hc hw rfl rfl (cwV 0 hts (lw_V q130 q132 qs8 q27 q133) rfl rfl rfl (by decide +kernel) ⟨Nat.le_of_ble_eq_true rfl, Nat.le_of_ble_eq_true rfl⟩) rfl hl.1 rfl (Nat.le_of_ble_eq_true rfl) ⟨Nat.le_of_ble_eq_true rfl, Nat.le_of_ble_eq_true rfl⟩ dX0_policy_1 (fun u H locs hu hwc => ?_)
  obtain ⟨ra1, tp1, bo1, bp1, bt1, bd1, g1, p1, rfl, hsol⟩ := hu
  have hw : ww D (xF h q d) A s.heap H locs (R, S, ra1, tp1, bo1, kt, kb, 1, bp1, bt1, bd1, g1) := hwc
  obtain ⟨hp1, hlo, hbt, hbd, hg⟩ := id hsol
  have L1 : ∀ (n i a1 : Nat), i + n = 4 → a1 < 2 ^ i → px_po (ps_mk R S p1) n i a1 = px_po (ps_mk R S p1) 4 0 0 → ∀ (H : Heap) (locs : List Loc) (ls : Array Slot), ww D (xF h q d) A s.heap H locs (R, S, ra1, tp1, bo1, kt, kb, 1, bp1, bt1, bd1, g1) → lv_has ls 3 [(0, .ref h), (1, .int (nI a1)), (2, .int (nI i))] → W p l e (rmK 3 90) s m [.ref h].toArray below meth c H locs 0 0 Q (F0 m 8 ls []) := by
    intro n
    induction n with
    | zero =>
      intro i a1 k1 k2 k3 H locs ls hw hl
      refine lv_iload_n hx hb dX0_policy_8 rfl (lv_at hl 2 rfl) ?_
      refine lv_iconst (v := nI 4) hx hb dX0_policy_9 (by decide) ?_
      refine n_icmp_ge (tgt := 36) hx hb (by omega) (by omega) dX0_policy_10 (by decide) (fun h2 => ?_) (fun h2 => ?_)
      · refine lv_iload_n hx hb dX0_policy_36 rfl (lv_at hl 1 rfl) ?_
        exact hret _ _ _ _ _ _ dX0_policy_37 (vp_nar_int _) (⟨ra1, tp1, bo1, bp1, bt1, bd1, g1, p1, rfl, hsol, by rw [← k3]; rfl⟩) hw
      · exact absurd h2 (by omega)
    | succ n ih =>
      intro i a1 k1 k2 k3 H locs ls hw hl
      refine lv_iload_n hx hb dX0_policy_8 rfl (lv_at hl 2 rfl) ?_
      refine lv_iconst (v := nI 4) hx hb dX0_policy_9 (by decide) ?_
      refine n_icmp_ge (tgt := 36) hx hb (by omega) (by omega) dX0_policy_10 (by decide) (fun h2 => ?_) (fun h2 => ?_)
      · exact absurd h2 (by omega)
      · have hm := ps_mk_lt R S p1 i
        have hpw : 2 ^ (i + 1) = 2 * 2 ^ i := by rw [Nat.pow_succ]; omega
        refine lv_aload_n hx hb dX0_policy_13 rfl (lv_at hl 0 rfl) ?_
        refine x_get11 hc hw dX0_policy_14 ?_
        refine lv_iload_n hx hb dX0_policy_17 rfl (lv_at hl 2 rfl) ?_
        refine x_ld11 hc hw (by omega) dX0_policy_18 ?_
        refine n_top (y := nI (ps_mk R S p1 i)) (hg i h2) ?_
        refine lv_iconst (v := nI 1) hx hb dX0_policy_19 (by decide) ?_
        refine n_iand1 hx hb (by omega) dX0_policy_20 ?_
        refine n_if_ne (tgt := 30) hx hb (by omega) dX0_policy_21 (by decide) (fun h3 => ?_) (fun h3 => ?_)
        · refine lv_iinc (v := nI (i + 1)) (lv' := [(2, .int (nI (i + 1))), (0, .ref h), (1, .int (nI a1))]) hx hb dX0_policy_30 hl (k := 2) rfl (n_inc _) (by decide) rfl (fun ls hl => ?_)
          refine lv_goto (tgt := 8) hx hb dX0_policy_33 (by decide) ?_
          exact ih (i + 1) a1 (by omega) (by omega) (by rw [← k3, px_po, if_neg h3]) H locs ls hw (lv_sub hl [1, 2, 0] rfl)
        · refine lv_iload_n hx hb dX0_policy_24 rfl (lv_at hl 1 rfl) ?_
          refine lv_iconst (v := nI 1) hx hb dX0_policy_25 (by decide) ?_
          refine lv_iload_n hx hb dX0_policy_26 rfl (lv_at hl 2 rfl) ?_
          refine lv_ishl hx hb dX0_policy_27 ?_
          refine lv_ior hx hb dX0_policy_28 ?_
          refine n_top (y := nI (a1 + 2 ^ i)) (ps_orb h2 k2) ?_
          refine lv_istore_n (lv' := [(1, .int (nI (a1 + 2 ^ i))), (0, .ref h), (2, .int (nI i))]) hx hb dX0_policy_29 rfl hl (by decide) rfl (fun ls hl => ?_)
          refine lv_iinc (v := nI (i + 1)) (lv' := [(2, .int (nI (i + 1))), (1, .int (nI (a1 + 2 ^ i))), (0, .ref h)]) hx hb dX0_policy_30 hl (k := 2) rfl (n_inc _) (by decide) rfl (fun ls hl => ?_)
          refine lv_goto (tgt := 8) hx hb dX0_policy_33 (by decide) ?_
          exact ih (i + 1) (a1 + 2 ^ i) (by omega) (by omega) (by rw [← k3, px_po, if_pos h3]) H locs ls hw (lv_sub hl [2, 1, 0] rfl)
  refine lv_iconst (v := nI 0) hx hb dX0_policy_4 (by decide) ?_
  refine lv_istore_n (lv' := [(1, .int (nI 0)), (0, .ref h)]) hx hb dX0_policy_5 rfl hl (by decide) rfl (fun ls hl => ?_)
  refine lv_iconst (v := nI 0) hx hb dX0_policy_6 (by decide) ?_
  refine lv_istore_n (lv' := [(2, .int (nI 0)), (1, .int (nI 0)), (0, .ref h)]) hx hb dX0_policy_7 rfl hl (by decide) rfl (fun ls hl => ?_)
  exact L1 4 0 0 rfl (by decide) rfl _ _ _ hw (lv_sub hl [2, 1, 0] rfl)
set_option maxHeartbeats 4000000 in
set_option maxRecDepth 100000 in
theorem px_policies (l : Launch) (D : va_G) (h : Nat) (q : Nat → Nat) (d : Nat → ClassId) (R S : Nat → Int32) (ra tp : Nat → Int64) (bo : Int64) (kt : Nat → Int64) (kb : Int64) (so bp : Int32) (bt : Nat → Int64) (bd : Int64) (g : Nat → Int32) (hok : ps_Ok R S) (hsv : ps_sv R S so bt bd g) : CI l D (xF h q d) (xT d) yX0_policies cX0_policies 3 .int (rmK 3 90) [.ref h] (R, S, ra, tp, bo, kt, kb, so, bp, bt, bd, g) (fun r u => ∃ ra1 tp1 bo1 bp1 bt1 bd1 g1 p1, u = (R, S, ra1, tp1, bo1, kt, kb, 1, bp1, bt1, bd1, g1) ∧ ps_sol R S p1 bt1 bd1 g1 ∧ r = nI (px_pc (ps_mk R S p1) 4 0 1)) := by
  refine CI.of (by decide) (Nat.le_of_ble_eq_true rfl) ?_
  intro p e s m below meth c A Q ls hc hret hw hl
  obtain ⟨hx, hb, hml, hown, hts, hK, hA⟩ := id hc
  have hl : lv_has ls 3 [(0, .ref h)] := hl
  refine lv_aload_n hx hb dX0_policies_0 rfl (lv_at hl 0 rfl) ?_
  refine CV.call (As := []) (rest := []) (ci := 0) (n := 0) (px_solve l D h q d R S ra tp bo kt kb so bp bt bd g hok hsv) hc hw rfl rfl (cwV 0 hts (lw_V q130 q132 qs8 q27 q133) rfl rfl rfl (by decide +kernel) ⟨Nat.le_of_ble_eq_true rfl, Nat.le_of_ble_eq_true rfl⟩) rfl hl.1 rfl (Nat.le_of_ble_eq_true rfl) ⟨Nat.le_of_ble_eq_true rfl, Nat.le_of_ble_eq_true rfl⟩ dX0_policies_1 (fun u H locs hu hwc => ?_)
  obtain ⟨ra1, tp1, bo1, bp1, bt1, bd1, g1, p1, rfl, hsol⟩ := hu
  have hw : ww D (xF h q d) A s.heap H locs (R, S, ra1, tp1, bo1, kt, kb, 1, bp1, bt1, bd1, g1) := hwc
  obtain ⟨hp1, hlo, hbt, hbd, hg⟩ := id hsol
  have L1 : ∀ (n i a1 : Nat), i + n = 4 → a1 ≤ 2 ^ i → px_pc (ps_mk R S p1) n i a1 = px_pc (ps_mk R S p1) 4 0 1 → ∀ (H : Heap) (locs : List Loc) (ls : Array Slot), ww D (xF h q d) A s.heap H locs (R, S, ra1, tp1, bo1, kt, kb, 1, bp1, bt1, bd1, g1) → lv_has ls 3 [(0, .ref h), (1, .int (nI a1)), (2, .int (nI i))] → W p l e (rmK 3 90) s m [.ref h].toArray below meth c H locs 0 0 Q (F0 m 8 ls []) := by
    intro n
    induction n with
    | zero =>
      intro i a1 k1 k2 k3 H locs ls hw hl
      refine lv_iload_n hx hb dX0_policies_8 rfl (lv_at hl 2 rfl) ?_
      refine lv_iconst (v := nI 4) hx hb dX0_policies_9 (by decide) ?_
      refine n_icmp_ge (tgt := 33) hx hb (by omega) (by omega) dX0_policies_10 (by decide) (fun h2 => ?_) (fun h2 => ?_)
      · refine lv_iload_n hx hb dX0_policies_33 rfl (lv_at hl 1 rfl) ?_
        exact hret _ _ _ _ _ _ dX0_policies_34 (vp_nar_int _) (⟨ra1, tp1, bo1, bp1, bt1, bd1, g1, p1, rfl, hsol, by rw [← k3]; rfl⟩) hw
      · exact absurd h2 (by omega)
    | succ n ih =>
      intro i a1 k1 k2 k3 H locs ls hw hl
      refine lv_iload_n hx hb dX0_policies_8 rfl (lv_at hl 2 rfl) ?_
      refine lv_iconst (v := nI 4) hx hb dX0_policies_9 (by decide) ?_
      refine n_icmp_ge (tgt := 33) hx hb (by omega) (by omega) dX0_policies_10 (by decide) (fun h2 => ?_) (fun h2 => ?_)
      · exact absurd h2 (by omega)
      · have hm := ps_mk_lt R S p1 i
        have hpw : 2 ^ (i + 1) = 2 * 2 ^ i := by rw [Nat.pow_succ]; omega
        refine lv_aload_n hx hb dX0_policies_13 rfl (lv_at hl 0 rfl) ?_
        refine x_get11 hc hw dX0_policies_14 ?_
        refine lv_iload_n hx hb dX0_policies_17 rfl (lv_at hl 2 rfl) ?_
        refine x_ld11 hc hw (by omega) dX0_policies_18 ?_
        refine n_top (y := nI (ps_mk R S p1 i)) (hg i h2) ?_
        refine lv_iconst (v := nI 3) hx hb dX0_policies_19 (by decide) ?_
        refine n_icmp_ne (tgt := 27) hx hb (by omega) (by omega) dX0_policies_20 (by decide) (fun h3 => ?_) (fun h3 => ?_)
        · refine lv_iinc (v := nI (i + 1)) (lv' := [(2, .int (nI (i + 1))), (0, .ref h), (1, .int (nI a1))]) hx hb dX0_policies_27 hl (k := 2) rfl (n_inc _) (by decide) rfl (fun ls hl => ?_)
          refine lv_goto (tgt := 8) hx hb dX0_policies_30 (by decide) ?_
          exact ih (i + 1) a1 (by omega) (by omega) (by rw [← k3, px_pc, if_neg h3]) H locs ls hw (lv_sub hl [1, 2, 0] rfl)
        · refine lv_iload_n hx hb dX0_policies_23 rfl (lv_at hl 1 rfl) ?_
          refine lv_iconst (v := nI 2) hx hb dX0_policies_24 (by decide) ?_
          refine n_imul hx hb dX0_policies_25 ?_
          refine lv_istore_n (lv' := [(1, .int (nI (a1 * 2))), (0, .ref h), (2, .int (nI i))]) hx hb dX0_policies_26 rfl hl (by decide) rfl (fun ls hl => ?_)
          refine lv_iinc (v := nI (i + 1)) (lv' := [(2, .int (nI (i + 1))), (1, .int (nI (a1 * 2))), (0, .ref h)]) hx hb dX0_policies_27 hl (k := 2) rfl (n_inc _) (by decide) rfl (fun ls hl => ?_)
          refine lv_goto (tgt := 8) hx hb dX0_policies_30 (by decide) ?_
          exact ih (i + 1) (a1 * 2) (by omega) (by omega) (by rw [← k3, px_pc, if_pos h3]) H locs ls hw (lv_sub hl [2, 1, 0] rfl)
  refine lv_iconst (v := nI 1) hx hb dX0_policies_4 (by decide) ?_
  refine lv_istore_n (lv' := [(1, .int (nI 1)), (0, .ref h)]) hx hb dX0_policies_5 rfl hl (by decide) rfl (fun ls hl => ?_)
  refine lv_iconst (v := nI 0) hx hb dX0_policies_6 (by decide) ?_
  refine lv_istore_n (lv' := [(2, .int (nI 0)), (1, .int (nI 1)), (0, .ref h)]) hx hb dX0_policies_7 rfl hl (by decide) rfl (fun ls hl => ?_)
  exact L1 4 0 1 rfl (by decide) rfl _ _ _ hw (lv_sub hl [2, 1, 0] rfl)
set_option maxHeartbeats 4000000 in
set_option maxRecDepth 100000 in
theorem px_good (l : Launch) (D : va_G) (h : Nat) (q : Nat → Nat) (d : Nat → ClassId) (R S : Nat → Int32) (ra tp : Nat → Int64) (bo : Int64) (kt : Nat → Int64) (kb : Int64) (so bp : Int32) (bt : Nat → Int64) (bd : Int64) (g : Nat → Int32) (x1 x2 : Int32) (hok : ps_Ok R S) (hsv : ps_sv R S so bt bd g) : CI l D (xF h q d) (xT d) yX0_good cX0_good 3 .boolean (rmK 3 90) [.ref h, .int x1, .int x2] (R, S, ra, tp, bo, kt, kb, so, bp, bt, bd, g) (fun r u => (∃ s1 a1 ra1 tp1 bo1 bp1 bt1 bd1 g1 p1, s1 < 4 ∧ a1 < 2 ∧ x1 = nI s1 ∧ x2 = nI a1 ∧ u = (R, S, ra1, tp1, bo1, kt, kb, 1, bp1, bt1, bd1, g1) ∧ ps_sol R S p1 bt1 bd1 g1 ∧ r = (if ps_mk R S p1 s1 / 2 ^ a1 % 2 = 0 then 0 else 1)) ∨ (¬ (ps_in x1 4 ∧ ps_in x2 2) ∧ u = (R, S, ra, tp, bo, kt, kb, so, bp, bt, bd, g) ∧ r = 0)) := by
  refine CI.of (by decide) (Nat.le_of_ble_eq_true rfl) ?_
  intro p e s m below meth c A Q ls hc hret hw hl
  obtain ⟨hx, hb, hml, hown, hts, hK, hA⟩ := id hc
  have hl : lv_has ls 3 [(0, .ref h), (1, .int x1), (2, .int x2)] := hl
  refine lv_aload_n hx hb dX0_good_0 rfl (lv_at hl 0 rfl) ?_
  refine lv_iload_n hx hb dX0_good_1 rfl (lv_at hl 1 rfl) ?_
  refine CI.call (As := [.int x1]) (rest := []) (ci := 0) (n := 1) (px_isState l D h q d (R, S, ra, tp, bo, kt, kb, so, bp, bt, bd, g) x1) hc hw rfl rfl (cwV 1 hts (lw_V q80 q82 qs0 q27 q83) rfl rfl rfl (by decide +kernel) ⟨Nat.le_of_ble_eq_true rfl, Nat.le_of_ble_eq_true rfl⟩) rfl hl.1 rfl (Nat.le_of_ble_eq_true rfl) ⟨Nat.le_of_ble_eq_true rfl, Nat.le_of_ble_eq_true rfl⟩ dX0_good_2 (fun r u H locs hu hwc => ?_)
  have hw : ww D (xF h q d) A s.heap H locs (R, S, ra, tp, bo, kt, kb, so, bp, bt, bd, g) := by rw [hu.1] at hwc; exact hwc
  obtain ⟨-, hu⟩ := hu
  rcases hu with ⟨rfl, h1⟩ | ⟨rfl, h1⟩
  · refine lv_if_eq (tgt := 17) hx hb dX0_good_5 (by decide) (fun hN => ?_) (fun hN => ?_)
    · exact absurd hN (by decide)
    · refine lv_iload_n hx hb dX0_good_8 rfl (lv_at hl 2 rfl) ?_
      refine lv_if_lt (tgt := 17) hx hb dX0_good_9 (by decide) (fun h2 => ?_) (fun h2 => ?_)
      · refine lv_iconst (v := 0) hx hb dX0_good_17 (by decide) ?_
        exact hret _ _ _ _ _ _ dX0_good_18 (rfl) (Or.inr ⟨fun z => ps_nin_neg (by decide) h2 z.2, rfl, rfl⟩) hw
      · refine lv_iload_n hx hb dX0_good_12 rfl (lv_at hl 2 rfl) ?_
        refine lv_iconst (v := nI 1) hx hb dX0_good_13 (by decide) ?_
        refine lv_icmp_le (tgt := 19) hx hb dX0_good_14 (by decide) (fun h3 => ?_) (fun h3 => ?_)
        · obtain ⟨s1, hs1, rfl⟩ := h1
          obtain ⟨a1, ha1, rfl⟩ : ps_in x2 2 := ps_in_le2 (by decide) h2 h3
          refine lv_aload_n hx hb dX0_good_19 rfl (lv_at hl 0 rfl) ?_
          refine CV.call (As := []) (rest := []) (ci := 0) (n := 0) (px_solve l D h q d R S ra tp bo kt kb so bp bt bd g hok hsv) hc hw rfl rfl (cwV 0 hts (lw_V q130 q132 qs8 q27 q133) rfl rfl rfl (by decide +kernel) ⟨Nat.le_of_ble_eq_true rfl, Nat.le_of_ble_eq_true rfl⟩) rfl hl.1 rfl (Nat.le_of_ble_eq_true rfl) ⟨Nat.le_of_ble_eq_true rfl, Nat.le_of_ble_eq_true rfl⟩ dX0_good_20 (fun u H locs hu hwc => ?_)
          obtain ⟨ra1, tp1, bo1, bp1, bt1, bd1, g1, p1, rfl, hsol⟩ := hu
          have hw : ww D (xF h q d) A s.heap H locs (R, S, ra1, tp1, bo1, kt, kb, 1, bp1, bt1, bd1, g1) := hwc
          obtain ⟨hp1, hlo, hbt, hbd, hg⟩ := id hsol
          have hm := ps_mk_lt R S p1 s1
          refine lv_aload_n hx hb dX0_good_23 rfl (lv_at hl 0 rfl) ?_
          refine x_get11 hc hw dX0_good_24 ?_
          refine lv_iload_n hx hb dX0_good_27 rfl (lv_at hl 1 rfl) ?_
          refine x_ld11 hc hw (by omega) dX0_good_28 ?_
          refine n_top (y := nI (ps_mk R S p1 s1)) (hg s1 hs1) ?_
          refine lv_iload_n hx hb dX0_good_29 rfl (lv_at hl 2 rfl) ?_
          refine n_ishr hx hb (by omega) (by omega) dX0_good_30 ?_
          refine lv_iconst (v := nI 1) hx hb dX0_good_31 (by decide) ?_
          refine n_iand1 hx hb (Nat.lt_of_le_of_lt (Nat.div_le_self _ _) (by omega)) dX0_good_32 ?_
          refine n_if_eq (tgt := 40) hx hb (by omega) dX0_good_33 (by decide) (fun h5 => ?_) (fun h5 => ?_)
          · refine lv_iconst (v := 0) hx hb dX0_good_40 (by decide) ?_
            exact hret _ _ _ _ _ _ dX0_good_41 (rfl) (Or.inl ⟨s1, a1, ra1, tp1, bo1, bp1, bt1, bd1, g1, p1, hs1, ha1, rfl, rfl, rfl, hsol, by rw [if_pos h5]⟩) hw
          · refine lv_iconst (v := 1) hx hb dX0_good_36 (by decide) ?_
            refine lv_goto (tgt := 41) hx hb dX0_good_37 (by decide) ?_
            exact hret _ _ _ _ _ _ dX0_good_41 (rfl) (Or.inl ⟨s1, a1, ra1, tp1, bo1, bp1, bt1, bd1, g1, p1, hs1, ha1, rfl, rfl, rfl, hsol, by rw [if_neg h5]⟩) hw
        · refine lv_iconst (v := 0) hx hb dX0_good_17 (by decide) ?_
          exact hret _ _ _ _ _ _ dX0_good_18 (rfl) (Or.inr ⟨fun z => ps_nin_nle (by decide) h3 z.2, rfl, rfl⟩) hw
  · refine lv_if_eq (tgt := 17) hx hb dX0_good_5 (by decide) (fun hN => ?_) (fun hN => ?_)
    · refine lv_iconst (v := 0) hx hb dX0_good_17 (by decide) ?_
      exact hret _ _ _ _ _ _ dX0_good_18 (rfl) (Or.inr ⟨fun z => h1 z.1, rfl, rfl⟩) hw
    · exact absurd hN (by decide)
end
section
set_option maxHeartbeats 4000000 in
set_option maxRecDepth 100000 in
theorem px_copyAction (l : Launch) (D : va_G) (h : Nat) (q : Nat → Nat) (d : Nat → ClassId) (R S : Nat → Int32) (ra tp : Nat → Int64) (bo : Int64) (kt : Nat → Int64) (kb : Int64) (so bp : Int32) (bt : Nat → Int64) (bd : Int64) (g : Nat → Int32) (i1 a1 b1 : Nat) (h1 : i1 < 4) (h2 : a1 < 2) (h3 : b1 < 2) : CI l D (xF h q d) (xT d) yX0_copyAction cX0_copyAction 8 .boolean (rmK 0 0) [.ref h, .int (nI i1), .int (nI a1), .int (nI b1)] (R, S, ra, tp, bo, kt, kb, so, bp, bt, bd, g) (fun r u => r = nI (px_df R S (2 * i1 + a1) (2 * i1 + b1)).2 ∧ u = (upd R (2 * i1 + b1) (vp_nar .byte (R (2 * i1 + a1))), (px_df R S (2 * i1 + a1) (2 * i1 + b1)).1, ra, tp, bo, kt, kb, so, bp, bt, bd, g)) := by
  refine CI.of (by decide) (Nat.le_of_ble_eq_true rfl) ?_
  intro p e s m below meth c A Q ls hc hret hw hl
  obtain ⟨hx, hb, hml, hown, hts, hK, hA⟩ := id hc
  have hl : lv_has ls 8 [(0, .ref h), (1, .int (nI i1)), (2, .int (nI a1)), (3, .int (nI b1))] := hl
  refine lv_iconst (v := nI 2) hx hb dX0_copyAction_0 (by decide) ?_
  refine lv_iload_n hx hb dX0_copyAction_1 rfl (lv_at hl 1 rfl) ?_
  refine n_imul hx hb dX0_copyAction_2 ?_
  refine lv_iload_n hx hb dX0_copyAction_3 rfl (lv_at hl 2 rfl) ?_
  refine n_iadd hx hb dX0_copyAction_4 ?_
  refine lv_istore (lv' := [(4, .int (nI ((2 * i1) + a1))), (0, .ref h), (1, .int (nI i1)), (2, .int (nI a1)), (3, .int (nI b1))]) hx hb dX0_copyAction_5 hl (by decide) rfl (fun ls hl => ?_)
  refine lv_iconst (v := nI 2) hx hb dX0_copyAction_7 (by decide) ?_
  refine lv_iload_n hx hb dX0_copyAction_8 rfl (lv_at hl 2 rfl) ?_
  refine n_imul hx hb dX0_copyAction_9 ?_
  refine lv_iload_n hx hb dX0_copyAction_10 rfl (lv_at hl 4 rfl) ?_
  refine n_iadd hx hb dX0_copyAction_11 ?_
  refine lv_istore (lv' := [(5, .int (nI ((2 * i1) + b1))), (4, .int (nI ((2 * i1) + a1))), (0, .ref h), (1, .int (nI i1)), (2, .int (nI a1)), (3, .int (nI b1))]) hx hb dX0_copyAction_12 hl (by decide) rfl (fun ls hl => ?_)
  refine lv_aload_n hx hb dX0_copyAction_14 rfl (lv_at hl 2 rfl) ?_
  refine x_get0 hc hw dX0_copyAction_15 ?_
  refine lv_iload hx hb dX0_copyAction_18 (lv_at hl 1 rfl) ?_
  refine x_ld0 hc hw (by omega) dX0_copyAction_20 ?_
  refine lv_aload_n hx hb dX0_copyAction_21 rfl (lv_at hl 2 rfl) ?_
  refine x_get0 hc hw dX0_copyAction_22 ?_
  refine lv_iload hx hb dX0_copyAction_25 (lv_at hl 0 rfl) ?_
  refine x_ld0 hc hw (by omega) dX0_copyAction_27 ?_
  have J : ∀ b0 : Nat, b0 = (if R (2 * i1 + a1) = R (2 * i1 + b1) then 0 else 1) → W p l e (rmK 0 0) s m [.ref h, .int (nI i1), .int (nI a1), .int (nI b1)].toArray below meth c s.heap [] 0 0 Q (F0 m 36 ls [.int (nI b0)]) := by
    intro b0 hb0
    refine lv_istore (lv' := [(6, .int (nI b0)), (5, .int (nI ((2 * i1) + b1))), (4, .int (nI ((2 * i1) + a1))), (0, .ref h), (1, .int (nI i1)), (2, .int (nI a1)), (3, .int (nI b1))]) hx hb dX0_copyAction_36 hl (by decide) rfl (fun ls hl => ?_)
    refine lv_aload_n hx hb dX0_copyAction_38 rfl (lv_at hl 3 rfl) ?_
    refine x_get0 hc hw dX0_copyAction_39 ?_
    refine lv_iload hx hb dX0_copyAction_42 (lv_at hl 1 rfl) ?_
    refine lv_aload_n hx hb dX0_copyAction_44 rfl (lv_at hl 3 rfl) ?_
    refine x_get0 hc hw dX0_copyAction_45 ?_
    refine lv_iload hx hb dX0_copyAction_48 (lv_at hl 2 rfl) ?_
    refine x_ld0 hc hw (by omega) dX0_copyAction_50 ?_
    refine x_st0 hc hw (by omega) dX0_copyAction_51 (fun H locs hw => ?_)
    refine lv_iconst (v := nI 0) hx hb dX0_copyAction_52 (by decide) ?_
    refine lv_istore (lv' := [(7, .int (nI 0)), (6, .int (nI b0)), (5, .int (nI ((2 * i1) + b1))), (4, .int (nI ((2 * i1) + a1))), (0, .ref h), (1, .int (nI i1)), (2, .int (nI a1)), (3, .int (nI b1))]) hx hb dX0_copyAction_53 hl (by decide) rfl (fun ls hl => ?_)
    have L : ∀ (n t : Nat) (S1 : Nat → Int32) (b2 : Nat), t + n = 4 → b2 < 2 → px_cp (2 * i1 + a1) (2 * i1 + b1) n t (S1, b2) = px_df R S (2 * i1 + a1) (2 * i1 + b1) → ∀ (H : Heap) (locs : List Loc) (ls : Array Slot), ww D (xF h q d) A s.heap H locs ((upd R ((2 * i1) + b1) (vp_nar .byte (R ((2 * i1) + a1)))), S1, ra, tp, bo, kt, kb, so, bp, bt, bd, g) → lv_has ls 8 [(0, .ref h), (4, .int (nI (2 * i1 + a1))), (5, .int (nI (2 * i1 + b1))), (6, .int (nI b2)), (7, .int (nI t))] → W p l e (rmK 0 0) s m [.ref h, .int (nI i1), .int (nI a1), .int (nI b1)].toArray below meth c H locs 0 0 Q (F0 m 55 ls []) := by
      intro n
      induction n with
      | zero =>
        intro t S1 b2 k1 k2 k3 H locs ls hw hl
        refine lv_iload hx hb dX0_copyAction_55 (lv_at hl 4 rfl) ?_
        refine lv_iconst (v := nI 4) hx hb dX0_copyAction_57 (by decide) ?_
        refine n_icmp_ge (tgt := 121) hx hb (by omega) (by omega) dX0_copyAction_58 (by decide) (fun h4 => ?_) (fun h4 => ?_)
        · refine lv_iload hx hb dX0_copyAction_121 (lv_at hl 3 rfl) ?_
          exact hret _ _ _ _ _ _ dX0_copyAction_123 (ps_nar01 k2) (⟨by rw [← k3]; rfl, by rw [← k3]; rfl⟩) hw
        · exact absurd h4 (by omega)
      | succ n ih =>
        intro t S1 b2 k1 k2 k3 H locs ls hw hl
        refine lv_iload hx hb dX0_copyAction_55 (lv_at hl 4 rfl) ?_
        refine lv_iconst (v := nI 4) hx hb dX0_copyAction_57 (by decide) ?_
        refine n_icmp_ge (tgt := 121) hx hb (by omega) (by omega) dX0_copyAction_58 (by decide) (fun h4 => ?_) (fun h4 => ?_)
        · exact absurd h4 (by omega)
        · refine lv_aload_n hx hb dX0_copyAction_61 rfl (lv_at hl 0 rfl) ?_
          refine x_get1 hc hw dX0_copyAction_62 ?_
          refine lv_iconst (v := nI 4) hx hb dX0_copyAction_65 (by decide) ?_
          refine lv_iload hx hb dX0_copyAction_66 (lv_at hl 1 rfl) ?_
          refine n_imul hx hb dX0_copyAction_68 ?_
          refine lv_iload hx hb dX0_copyAction_69 (lv_at hl 4 rfl) ?_
          refine n_iadd hx hb dX0_copyAction_71 ?_
          refine x_ld1 hc hw (by omega) dX0_copyAction_72 ?_
          refine lv_aload_n hx hb dX0_copyAction_73 rfl (lv_at hl 0 rfl) ?_
          refine x_get1 hc hw dX0_copyAction_74 ?_
          refine lv_iconst (v := nI 4) hx hb dX0_copyAction_77 (by decide) ?_
          refine lv_iload hx hb dX0_copyAction_78 (lv_at hl 2 rfl) ?_
          refine n_imul hx hb dX0_copyAction_80 ?_
          refine lv_iload hx hb dX0_copyAction_81 (lv_at hl 4 rfl) ?_
          refine n_iadd hx hb dX0_copyAction_83 ?_
          refine x_ld1 hc hw (by omega) dX0_copyAction_84 ?_
          refine lv_icmp_eq (tgt := 91) hx hb dX0_copyAction_85 (by decide) (fun h5 => ?_) (fun h5 => ?_)
          · refine lv_aload_n hx hb dX0_copyAction_91 rfl (lv_at hl 0 rfl) ?_
            refine x_get1 hc hw dX0_copyAction_92 ?_
            refine lv_iconst (v := nI 4) hx hb dX0_copyAction_95 (by decide) ?_
            refine lv_iload hx hb dX0_copyAction_96 (lv_at hl 2 rfl) ?_
            refine n_imul hx hb dX0_copyAction_98 ?_
            refine lv_iload hx hb dX0_copyAction_99 (lv_at hl 4 rfl) ?_
            refine n_iadd hx hb dX0_copyAction_101 ?_
            refine lv_aload_n hx hb dX0_copyAction_102 rfl (lv_at hl 0 rfl) ?_
            refine x_get1 hc hw dX0_copyAction_103 ?_
            refine lv_iconst (v := nI 4) hx hb dX0_copyAction_106 (by decide) ?_
            refine lv_iload hx hb dX0_copyAction_107 (lv_at hl 1 rfl) ?_
            refine n_imul hx hb dX0_copyAction_109 ?_
            refine lv_iload hx hb dX0_copyAction_110 (lv_at hl 4 rfl) ?_
            refine n_iadd hx hb dX0_copyAction_112 ?_
            refine x_ld1 hc hw (by omega) dX0_copyAction_113 ?_
            refine x_st1 hc hw (by omega) dX0_copyAction_114 (fun H locs hw => ?_)
            refine lv_iinc (v := nI (t + 1)) (lv' := [(7, .int (nI (t + 1))), (0, .ref h), (4, .int (nI (2 * i1 + a1))), (5, .int (nI (2 * i1 + b1))), (6, .int (nI b2))]) hx hb dX0_copyAction_115 hl (k := 4) rfl (n_inc _) (by decide) rfl (fun ls hl => ?_)
            refine lv_goto (tgt := 55) hx hb dX0_copyAction_118 (by decide) ?_
            exact ih (t + 1) _ _ (by omega) k2 (by rw [← k3]; exact (px_cp_e h5).symm) H locs ls hw (lv_sub hl [1, 2, 3, 4, 0] rfl)
          · refine lv_iconst (v := nI 1) hx hb dX0_copyAction_88 (by decide) ?_
            refine lv_istore (lv' := [(6, .int (nI 1)), (0, .ref h), (4, .int (nI (2 * i1 + a1))), (5, .int (nI (2 * i1 + b1))), (7, .int (nI t))]) hx hb dX0_copyAction_89 hl (by decide) rfl (fun ls hl => ?_)
            refine lv_aload_n hx hb dX0_copyAction_91 rfl (lv_at hl 1 rfl) ?_
            refine x_get1 hc hw dX0_copyAction_92 ?_
            refine lv_iconst (v := nI 4) hx hb dX0_copyAction_95 (by decide) ?_
            refine lv_iload hx hb dX0_copyAction_96 (lv_at hl 3 rfl) ?_
            refine n_imul hx hb dX0_copyAction_98 ?_
            refine lv_iload hx hb dX0_copyAction_99 (lv_at hl 4 rfl) ?_
            refine n_iadd hx hb dX0_copyAction_101 ?_
            refine lv_aload_n hx hb dX0_copyAction_102 rfl (lv_at hl 1 rfl) ?_
            refine x_get1 hc hw dX0_copyAction_103 ?_
            refine lv_iconst (v := nI 4) hx hb dX0_copyAction_106 (by decide) ?_
            refine lv_iload hx hb dX0_copyAction_107 (lv_at hl 2 rfl) ?_
            refine n_imul hx hb dX0_copyAction_109 ?_
            refine lv_iload hx hb dX0_copyAction_110 (lv_at hl 4 rfl) ?_
            refine n_iadd hx hb dX0_copyAction_112 ?_
            refine x_ld1 hc hw (by omega) dX0_copyAction_113 ?_
            refine x_st1 hc hw (by omega) dX0_copyAction_114 (fun H locs hw => ?_)
            refine lv_iinc (v := nI (t + 1)) (lv' := [(7, .int (nI (t + 1))), (6, .int (nI 1)), (0, .ref h), (4, .int (nI (2 * i1 + a1))), (5, .int (nI (2 * i1 + b1)))]) hx hb dX0_copyAction_115 hl (k := 4) rfl (n_inc _) (by decide) rfl (fun ls hl => ?_)
            refine lv_goto (tgt := 55) hx hb dX0_copyAction_118 (by decide) ?_
            exact ih (t + 1) _ _ (by omega) (by decide) (by rw [← k3]; exact (px_cp_n h5).symm) H locs ls hw (lv_sub hl [2, 3, 4, 1, 0] rfl)
    exact L 4 0 S b0 rfl (by rw [hb0]; split <;> decide) (by rw [hb0]; rfl) _ _ _ hw (lv_sub hl [4, 3, 2, 1, 0] rfl)
  refine lv_icmp_eq (tgt := 35) hx hb dX0_copyAction_28 (by decide) (fun h4 => ?_) (fun h4 => ?_)
  · refine lv_iconst (v := nI 0) hx hb dX0_copyAction_35 (by decide) ?_
    exact J 0 (by rw [if_pos h4])
  · refine lv_iconst (v := nI 1) hx hb dX0_copyAction_31 (by decide) ?_
    refine lv_goto (tgt := 36) hx hb dX0_copyAction_32 (by decide) ?_
    exact J 1 (by rw [if_neg h4])
set_option maxHeartbeats 4000000 in
set_option maxRecDepth 100000 in
theorem px_prune (l : Launch) (D : va_G) (h : Nat) (q : Nat → Nat) (d : Nat → ClassId) (R S : Nat → Int32) (ra tp : Nat → Int64) (bo : Int64) (kt : Nat → Int64) (kb : Int64) (so bp : Int32) (bt : Nat → Int64) (bd : Int64) (g : Nat → Int32) (hok : ps_Ok R S) (hsv : ps_sv R S so bt bd g) : CI l D (xF h q d) (xT d) yX0_prune cX0_prune 4 .int (rmK 3 90) [.ref h] (R, S, ra, tp, bo, kt, kb, so, bp, bt, bd, g) (fun r u => ∃ ra1 tp1 bo1 bp1 bt1 bd1 g1 p1, u = ((px_ps (ps_mk R S p1) 4 0 (R, S, 0)).1, (px_ps (ps_mk R S p1) 4 0 (R, S, 0)).2.1, ra1, tp1, bo1, kt, kb, 0, bp1, bt1, bd1, g1) ∧ ps_sol R S p1 bt1 bd1 g1 ∧ r = nI (px_ps (ps_mk R S p1) 4 0 (R, S, 0)).2.2) := by
  refine CI.of (by decide) (Nat.le_of_ble_eq_true rfl) ?_
  intro p e s m below meth c A Q ls hc hret hw hl
  obtain ⟨hx, hb, hml, hown, hts, hK, hA⟩ := id hc
  have hl : lv_has ls 4 [(0, .ref h)] := hl
  refine lv_aload_n hx hb dX0_prune_0 rfl (lv_at hl 0 rfl) ?_
  refine CV.call (As := []) (rest := []) (ci := 0) (n := 0) (px_solve l D h q d R S ra tp bo kt kb so bp bt bd g hok hsv) hc hw rfl rfl (cwV 0 hts (lw_V q130 q132 qs8 q27 q133) rfl rfl rfl (by decide +kernel) ⟨Nat.le_of_ble_eq_true rfl, Nat.le_of_ble_eq_true rfl⟩) rfl hl.1 rfl (Nat.le_of_ble_eq_true rfl) ⟨Nat.le_of_ble_eq_true rfl, Nat.le_of_ble_eq_true rfl⟩ dX0_prune_1 (fun u H locs hu hwc => ?_)
  obtain ⟨ra1, tp1, bo1, bp1, bt1, bd1, g1, p1, rfl, hsol⟩ := hu
  have hw : ww D (xF h q d) A s.heap H locs (R, S, ra1, tp1, bo1, kt, kb, 1, bp1, bt1, bd1, g1) := hwc
  obtain ⟨hp1, hlo, hbt, hbd, hg⟩ := id hsol
  have L1 : ∀ (n i : Nat) (R1 S1 : Nat → Int32) (c1 : Nat), i + n = 4 → px_ps (ps_mk R S p1) n i (R1, S1, c1) = px_ps (ps_mk R S p1) 4 0 (R, S, 0) → ∀ (H : Heap) (locs : List Loc) (ls : Array Slot), ww D (xF h q d) A s.heap H locs (R1, S1, ra1, tp1, bo1, kt, kb, 1, bp1, bt1, bd1, g1) → lv_has ls 4 [(0, .ref h), (1, .int (nI c1)), (2, .int (nI i))] → W p l e (rmK 3 90) s m [.ref h].toArray below meth c H locs 0 0 Q (F0 m 8 ls []) := by
    intro n
    induction n with
    | zero =>
      intro i R1 S1 c1 k1 k2 H locs ls hw hl
      refine lv_iload_n hx hb dX0_prune_8 rfl (lv_at hl 2 rfl) ?_
      refine lv_iconst (v := nI 4) hx hb dX0_prune_9 (by decide) ?_
      refine n_icmp_ge (tgt := 60) hx hb (by omega) (by omega) dX0_prune_10 (by decide) (fun h2 => ?_) (fun h2 => ?_)
      · refine lv_aload_n hx hb dX0_prune_60 rfl (lv_at hl 0 rfl) ?_
        refine lv_iconst (v := 0) hx hb dX0_prune_61 (by decide) ?_
        refine x_put7 hc hw (by decide) dX0_prune_62 (fun H locs hw => ?_)
        refine lv_iload_n hx hb dX0_prune_65 rfl (lv_at hl 1 rfl) ?_
        exact hret _ _ _ _ _ _ dX0_prune_66 (vp_nar_int _) (⟨ra1, tp1, bo1, bp1, bt1, bd1, g1, p1, by rw [← k2]; rfl, hsol, by rw [← k2]; rfl⟩) hw
      · exact absurd h2 (by omega)
    | succ n ih =>
      intro i R1 S1 c1 k1 k2 H locs ls hw hl
      refine lv_iload_n hx hb dX0_prune_8 rfl (lv_at hl 2 rfl) ?_
      refine lv_iconst (v := nI 4) hx hb dX0_prune_9 (by decide) ?_
      refine n_icmp_ge (tgt := 60) hx hb (by omega) (by omega) dX0_prune_10 (by decide) (fun h2 => ?_) (fun h2 => ?_)
      · exact absurd h2 (by omega)
      · refine lv_iconst (v := nI 0) hx hb dX0_prune_13 (by decide) ?_
        refine lv_istore_n (lv' := [(3, .int (nI 0)), (0, .ref h), (1, .int (nI c1)), (2, .int (nI i))]) hx hb dX0_prune_14 rfl hl (by decide) rfl (fun ls hl => ?_)
        have L2 : ∀ (n2 j : Nat) (R2 S2 : Nat → Int32) (c2 : Nat), j + n2 = 2 → px_pa (ps_mk R S p1) i n2 j (R2, S2, c2) = px_pa (ps_mk R S p1) i 2 0 (R1, S1, c1) → ∀ (H : Heap) (locs : List Loc) (ls : Array Slot), ww D (xF h q d) A s.heap H locs (R2, S2, ra1, tp1, bo1, kt, kb, 1, bp1, bt1, bd1, g1) → lv_has ls 4 [(0, .ref h), (1, .int (nI c2)), (2, .int (nI i)), (3, .int (nI j))] → W p l e (rmK 3 90) s m [.ref h].toArray below meth c H locs 0 0 Q (F0 m 15 ls []) := by
          intro n2
          induction n2 with
          | zero =>
            intro j R2 S2 c2 k3 k4 H locs ls hw hl
            refine lv_iload_n hx hb dX0_prune_15 rfl (lv_at hl 3 rfl) ?_
            refine lv_iconst (v := nI 2) hx hb dX0_prune_16 (by decide) ?_
            refine n_icmp_ge (tgt := 54) hx hb (by omega) (by omega) dX0_prune_17 (by decide) (fun h3 => ?_) (fun h3 => ?_)
            · refine lv_iinc (v := nI (i + 1)) (lv' := [(2, .int (nI (i + 1))), (0, .ref h), (1, .int (nI c2)), (3, .int (nI j))]) hx hb dX0_prune_54 hl (k := 2) rfl (n_inc _) (by decide) rfl (fun ls hl => ?_)
              refine lv_goto (tgt := 8) hx hb dX0_prune_57 (by decide) ?_
              exact ih (i + 1) _ _ _ (by omega) (by rw [show (R2, S2, c2) = _ from k4]; exact k2) H locs ls hw (lv_sub hl [1, 2, 0] rfl)
            · exact absurd h3 (by omega)
          | succ n2 ih2 =>
            intro j R2 S2 c2 k3 k4 H locs ls hw hl
            refine lv_iload_n hx hb dX0_prune_15 rfl (lv_at hl 3 rfl) ?_
            refine lv_iconst (v := nI 2) hx hb dX0_prune_16 (by decide) ?_
            refine n_icmp_ge (tgt := 54) hx hb (by omega) (by omega) dX0_prune_17 (by decide) (fun h3 => ?_) (fun h3 => ?_)
            · exact absurd h3 (by omega)
            · have hm := ps_mk_lt R S p1 i
              refine lv_aload_n hx hb dX0_prune_20 rfl (lv_at hl 0 rfl) ?_
              refine x_get11 hc hw dX0_prune_21 ?_
              refine lv_iload_n hx hb dX0_prune_24 rfl (lv_at hl 2 rfl) ?_
              refine x_ld11 hc hw (by omega) dX0_prune_25 ?_
              refine n_top (y := nI (ps_mk R S p1 i)) (hg i h2) ?_
              refine lv_iload_n hx hb dX0_prune_26 rfl (lv_at hl 3 rfl) ?_
              refine n_ishr hx hb (by omega) (by omega) dX0_prune_27 ?_
              refine lv_iconst (v := nI 1) hx hb dX0_prune_28 (by decide) ?_
              refine n_iand1 hx hb (Nat.lt_of_le_of_lt (Nat.div_le_self _ _) (by omega)) dX0_prune_29 ?_
              refine n_if_ne (tgt := 48) hx hb (by omega) dX0_prune_30 (by decide) (fun h4 => ?_) (fun h4 => ?_)
              · refine lv_iinc (v := nI (j + 1)) (lv' := [(3, .int (nI (j + 1))), (0, .ref h), (1, .int (nI c2)), (2, .int (nI i))]) hx hb dX0_prune_48 hl (k := 3) rfl (n_inc _) (by decide) rfl (fun ls hl => ?_)
                refine lv_goto (tgt := 15) hx hb dX0_prune_51 (by decide) ?_
                exact ih2 (j + 1) _ _ _ (by omega) (by rw [← k4]; exact (congrArg (px_pa (ps_mk R S p1) i n2 (j + 1)) (px_p1_n h4)).symm) H locs ls hw (lv_sub hl [1, 2, 3, 0] rfl)
              · refine lv_aload_n hx hb dX0_prune_33 rfl (lv_at hl 0 rfl) ?_
                refine lv_iload_n hx hb dX0_prune_34 rfl (lv_at hl 2 rfl) ?_
                refine lv_iconst (v := nI 1) hx hb dX0_prune_35 (by decide) ?_
                refine lv_iload_n hx hb dX0_prune_36 rfl (lv_at hl 3 rfl) ?_
                refine n_isub hx hb (by omega) dX0_prune_37 ?_
                refine lv_iload_n hx hb dX0_prune_38 rfl (lv_at hl 3 rfl) ?_
                refine CI.call (As := [.int (nI i), .int (nI (1 - j)), .int (nI j)]) (rest := []) (ci := 0) (n := 3) (px_copyAction l D h q d R2 S2 ra1 tp1 bo1 kt kb 1 bp1 bt1 bd1 g1 i (1 - j) j h2 (by omega) h3) hc hw rfl rfl (cwV 3 hts (lw_V q162 q164 qs11 q27 q165) rfl rfl rfl (by decide +kernel) ⟨Nat.le_of_ble_eq_true rfl, Nat.le_of_ble_eq_true rfl⟩) rfl hl.1 rfl (Nat.le_of_ble_eq_true rfl) ⟨Nat.le_of_ble_eq_true rfl, Nat.le_of_ble_eq_true rfl⟩ dX0_prune_39 (fun r u H locs hu hwc => ?_)
                obtain ⟨rfl, rfl⟩ := hu
                have hw : ww D (xF h q d) A s.heap H locs ((upd R2 (2 * i + j) (vp_nar .byte (R2 (2 * i + (1 - j))))), (px_df R2 S2 (2 * i + (1 - j)) (2 * i + j)).1, ra1, tp1, bo1, kt, kb, 1, bp1, bt1, bd1, g1) := hwc
                have hdf := px_df_le R2 S2 (2 * i + (1 - j)) (2 * i + j)
                refine n_if_eq (tgt := 48) hx hb (by omega) dX0_prune_42 (by decide) (fun h5 => ?_) (fun h5 => ?_)
                · refine lv_iinc (v := nI (j + 1)) (lv' := [(3, .int (nI (j + 1))), (0, .ref h), (1, .int (nI c2)), (2, .int (nI i))]) hx hb dX0_prune_48 hl (k := 3) rfl (n_inc _) (by decide) rfl (fun ls hl => ?_)
                  refine lv_goto (tgt := 15) hx hb dX0_prune_51 (by decide) ?_
                  exact ih2 (j + 1) _ _ _ (by omega) (by rw [← k4]; exact (congrArg (px_pa (ps_mk R S p1) i n2 (j + 1)) (px_p1_0 h4 h5)).symm) H locs ls hw (lv_sub hl [1, 2, 3, 0] rfl)
                · refine lv_iinc (v := nI (c2 + 1)) (lv' := [(1, .int (nI (c2 + 1))), (0, .ref h), (2, .int (nI i)), (3, .int (nI j))]) hx hb dX0_prune_45 hl (k := 1) rfl (n_inc _) (by decide) rfl (fun ls hl => ?_)
                  refine lv_iinc (v := nI (j + 1)) (lv' := [(3, .int (nI (j + 1))), (1, .int (nI (c2 + 1))), (0, .ref h), (2, .int (nI i))]) hx hb dX0_prune_48 hl (k := 3) rfl (n_inc _) (by decide) rfl (fun ls hl => ?_)
                  refine lv_goto (tgt := 15) hx hb dX0_prune_51 (by decide) ?_
                  exact ih2 (j + 1) _ _ _ (by omega) (by rw [← k4]; exact (congrArg (px_pa (ps_mk R S p1) i n2 (j + 1)) (px_p1_1 h4 h5)).symm) H locs ls hw (lv_sub hl [2, 1, 3, 0] rfl)
        exact L2 2 0 R1 S1 c1 rfl rfl _ _ _ hw (lv_sub hl [1, 2, 3, 0] rfl)
  refine lv_iconst (v := nI 0) hx hb dX0_prune_4 (by decide) ?_
  refine lv_istore_n (lv' := [(1, .int (nI 0)), (0, .ref h)]) hx hb dX0_prune_5 rfl hl (by decide) rfl (fun ls hl => ?_)
  refine lv_iconst (v := nI 0) hx hb dX0_prune_6 (by decide) ?_
  refine lv_istore_n (lv' := [(2, .int (nI 0)), (1, .int (nI 0)), (0, .ref h)]) hx hb dX0_prune_7 rfl hl (by decide) rfl (fun ls hl => ?_)
  exact L1 4 0 R S 0 rfl rfl _ _ _ hw (lv_sub hl [2, 1, 0] rfl)
set_option maxHeartbeats 4000000 in
set_option maxRecDepth 100000 in
theorem px_reward (l : Launch) (D : va_G) (h : Nat) (q : Nat → Nat) (d : Nat → ClassId) (R S : Nat → Int32) (ra tp : Nat → Int64) (bo : Int64) (kt : Nat → Int64) (kb : Int64) (so bp : Int32) (bt : Nat → Int64) (bd : Int64) (g : Nat → Int32) (x1 x2 x3 : Int32) : CI l D (xF h q d) (xT d) yX0_reward cX0_reward 4 .boolean (rmK 1 30) [.ref h, .int x1, .int x2, .int x3] (R, S, ra, tp, bo, kt, kb, so, bp, bt, bd, g) (fun r u => (∃ s1 a1, s1 < 4 ∧ a1 < 2 ∧ x1 = nI s1 ∧ x2 = nI a1 ∧ (-20 ≤ x3.toInt ∧ x3.toInt ≤ 20) ∧ u = (upd R (2 * s1 + a1) x3, S, ra, tp, bo, kt, kb, 0, bp, bt, bd, g) ∧ r = 1) ∨ (¬ ps_okR x1 x2 x3 ∧ u = (R, S, ra, tp, bo, kt, kb, so, bp, bt, bd, g) ∧ r = 0)) := by
  refine CI.of (by decide) (Nat.le_of_ble_eq_true rfl) ?_
  intro p e s m below meth c A Q ls hc hret hw hl
  obtain ⟨hx, hb, hml, hown, hts, hK, hA⟩ := id hc
  have hl : lv_has ls 4 [(0, .ref h), (1, .int x1), (2, .int x2), (3, .int x3)] := hl
  refine lv_aload_n hx hb dX0_reward_0 rfl (lv_at hl 0 rfl) ?_
  refine lv_iload_n hx hb dX0_reward_1 rfl (lv_at hl 1 rfl) ?_
  refine CI.call (As := [.int x1]) (rest := []) (ci := 0) (n := 1) (px_isState l D h q d (R, S, ra, tp, bo, kt, kb, so, bp, bt, bd, g) x1) hc hw rfl rfl (cwV 1 hts (lw_V q80 q82 qs0 q27 q83) rfl rfl rfl (by decide +kernel) ⟨Nat.le_of_ble_eq_true rfl, Nat.le_of_ble_eq_true rfl⟩) rfl hl.1 rfl (Nat.le_of_ble_eq_true rfl) ⟨Nat.le_of_ble_eq_true rfl, Nat.le_of_ble_eq_true rfl⟩ dX0_reward_2 (fun r u H locs hu hwc => ?_)
  have hw : ww D (xF h q d) A s.heap H locs (R, S, ra, tp, bo, kt, kb, so, bp, bt, bd, g) := by rw [hu.1] at hwc; exact hwc
  obtain ⟨-, hu⟩ := hu
  rcases hu with ⟨rfl, h1⟩ | ⟨rfl, h1⟩
  · refine lv_if_eq (tgt := 29) hx hb dX0_reward_5 (by decide) (fun hN => ?_) (fun hN => ?_)
    · exact absurd hN (by decide)
    · refine lv_iload_n hx hb dX0_reward_8 rfl (lv_at hl 2 rfl) ?_
      refine lv_if_lt (tgt := 29) hx hb dX0_reward_9 (by decide) (fun h2 => ?_) (fun h2 => ?_)
      · refine lv_iconst (v := 0) hx hb dX0_reward_29 (by decide) ?_
        exact hret _ _ _ _ _ _ dX0_reward_30 (rfl) (Or.inr ⟨fun z => ps_nin_neg (by decide) h2 z.2.1, rfl, rfl⟩) hw
      · refine lv_iload_n hx hb dX0_reward_12 rfl (lv_at hl 2 rfl) ?_
        refine lv_iconst (v := nI 1) hx hb dX0_reward_13 (by decide) ?_
        refine lv_icmp_gt (tgt := 29) hx hb dX0_reward_14 (by decide) (fun h3 => ?_) (fun h3 => ?_)
        · refine lv_iconst (v := 0) hx hb dX0_reward_29 (by decide) ?_
          exact hret _ _ _ _ _ _ dX0_reward_30 (rfl) (Or.inr ⟨fun z => ps_nin_gt (n := 1) (by decide) h3 z.2.1, rfl, rfl⟩) hw
        · refine lv_iload_n hx hb dX0_reward_17 rfl (lv_at hl 3 rfl) ?_
          refine lv_bipush (v := (-20)) hx hb dX0_reward_18 (by decide) ?_
          refine lv_icmp_lt (tgt := 29) hx hb dX0_reward_20 (by decide) (fun h4 => ?_) (fun h4 => ?_)
          · refine lv_iconst (v := 0) hx hb dX0_reward_29 (by decide) ?_
            exact hret _ _ _ _ _ _ dX0_reward_30 (rfl) (Or.inr ⟨fun z => z.2.2.1 h4, rfl, rfl⟩) hw
          · refine lv_iload_n hx hb dX0_reward_23 rfl (lv_at hl 3 rfl) ?_
            refine lv_bipush (v := nI 20) hx hb dX0_reward_24 (by decide) ?_
            refine lv_icmp_le (tgt := 31) hx hb dX0_reward_26 (by decide) (fun h5 => ?_) (fun h5 => ?_)
            · have h6 := ps_r20 h4 h5
              obtain ⟨s1, hs1, rfl⟩ := h1
              obtain ⟨a1, ha1, rfl⟩ : ps_in x2 2 := ps_in_le (by decide) h2 h3
              refine lv_aload_n hx hb dX0_reward_31 rfl (lv_at hl 0 rfl) ?_
              refine x_get0 hc hw dX0_reward_32 ?_
              refine lv_iconst (v := nI 2) hx hb dX0_reward_35 (by decide) ?_
              refine lv_iload_n hx hb dX0_reward_36 rfl (lv_at hl 1 rfl) ?_
              refine n_imul hx hb dX0_reward_37 ?_
              refine lv_iload_n hx hb dX0_reward_38 rfl (lv_at hl 2 rfl) ?_
              refine n_iadd hx hb dX0_reward_39 ?_
              refine lv_iload_n hx hb dX0_reward_40 rfl (lv_at hl 3 rfl) ?_
              refine lv_i2b (v := x3.toInt8.toInt32) hx hb dX0_reward_41 rfl ?_
              refine x_st0 hc hw (by omega) dX0_reward_42 (fun H locs hw => ?_)
              refine lv_aload_n hx hb dX0_reward_43 rfl (lv_at hl 0 rfl) ?_
              refine lv_iconst (v := 0) hx hb dX0_reward_44 (by decide) ?_
              refine x_put7 hc hw (by decide) dX0_reward_45 (fun H locs hw => ?_)
              refine lv_iconst (v := 1) hx hb dX0_reward_48 (by decide) ?_
              have h7 := ps_narb (x := x3) (by omega) (by omega)
              rw [h7.2, h7.1] at hw
              exact hret _ _ _ _ _ _ dX0_reward_49 (rfl) (Or.inl ⟨s1, a1, hs1, ha1, rfl, rfl, h6, rfl, rfl⟩) hw
            · refine lv_iconst (v := 0) hx hb dX0_reward_29 (by decide) ?_
              exact hret _ _ _ _ _ _ dX0_reward_30 (rfl) (Or.inr ⟨fun z => h5 z.2.2.2, rfl, rfl⟩) hw
  · refine lv_if_eq (tgt := 29) hx hb dX0_reward_5 (by decide) (fun hN => ?_) (fun hN => ?_)
    · refine lv_iconst (v := 0) hx hb dX0_reward_29 (by decide) ?_
      exact hret _ _ _ _ _ _ dX0_reward_30 (rfl) (Or.inr ⟨fun z => h1 z.1, rfl, rfl⟩) hw
    · exact absurd hN (by decide)
set_option maxHeartbeats 4000000 in
set_option maxRecDepth 100000 in
theorem px_shares (l : Launch) (D : va_G) (h : Nat) (q : Nat → Nat) (d : Nat → ClassId) (R S : Nat → Int32) (ra tp : Nat → Int64) (bo : Int64) (kt : Nat → Int64) (kb : Int64) (so bp : Int32) (bt : Nat → Int64) (bd : Int64) (g : Nat → Int32) (x1 x2 x3 : Int32) : CI l D (xF h q d) (xT d) yX0_shares cX0_shares 7 .boolean (rmK 1 30) [.ref h, .int x1, .int x2, .int x3] (R, S, ra, tp, bo, kt, kb, so, bp, bt, bd, g) (fun r u => (∃ s1 a1 n, s1 < 4 ∧ a1 < 2 ∧ n < 625 ∧ x1 = nI s1 ∧ x2 = nI a1 ∧ x3 = nI n ∧ ps_dig n = 4 ∧ u = (R, px_sh S (2 * s1 + a1) n, ra, tp, bo, kt, kb, 0, bp, bt, bd, g) ∧ r = 1) ∨ (¬ ps_okS x1 x2 x3 ∧ u = (R, S, ra, tp, bo, kt, kb, so, bp, bt, bd, g) ∧ r = 0)) := by
  refine CI.of (by decide) (Nat.le_of_ble_eq_true rfl) ?_
  intro p e s m below meth c A Q ls hc hret hw hl
  obtain ⟨hx, hb, hml, hown, hts, hK, hA⟩ := id hc
  have hl : lv_has ls 7 [(0, .ref h), (1, .int x1), (2, .int x2), (3, .int x3)] := hl
  refine lv_aload_n hx hb dX0_shares_0 rfl (lv_at hl 0 rfl) ?_
  refine lv_iload_n hx hb dX0_shares_1 rfl (lv_at hl 1 rfl) ?_
  refine CI.call (As := [.int x1]) (rest := []) (ci := 0) (n := 1) (px_isState l D h q d (R, S, ra, tp, bo, kt, kb, so, bp, bt, bd, g) x1) hc hw rfl rfl (cwV 1 hts (lw_V q80 q82 qs0 q27 q83) rfl rfl rfl (by decide +kernel) ⟨Nat.le_of_ble_eq_true rfl, Nat.le_of_ble_eq_true rfl⟩) rfl hl.1 rfl (Nat.le_of_ble_eq_true rfl) ⟨Nat.le_of_ble_eq_true rfl, Nat.le_of_ble_eq_true rfl⟩ dX0_shares_2 (fun r u H locs hu hwc => ?_)
  have hw : ww D (xF h q d) A s.heap H locs (R, S, ra, tp, bo, kt, kb, so, bp, bt, bd, g) := by rw [hu.1] at hwc; exact hwc
  obtain ⟨-, hu⟩ := hu
  rcases hu with ⟨rfl, h1⟩ | ⟨rfl, h1⟩
  · refine lv_if_eq (tgt := 28) hx hb dX0_shares_5 (by decide) (fun hN => ?_) (fun hN => ?_)
    · exact absurd hN (by decide)
    · refine lv_iload_n hx hb dX0_shares_8 rfl (lv_at hl 2 rfl) ?_
      refine lv_if_lt (tgt := 28) hx hb dX0_shares_9 (by decide) (fun h2 => ?_) (fun h2 => ?_)
      · refine lv_iconst (v := 0) hx hb dX0_shares_28 (by decide) ?_
        exact hret _ _ _ _ _ _ dX0_shares_29 (rfl) (Or.inr ⟨fun z => ps_nin_neg (by decide) h2 z.2.1, rfl, rfl⟩) hw
      · refine lv_iload_n hx hb dX0_shares_12 rfl (lv_at hl 2 rfl) ?_
        refine lv_iconst (v := nI 1) hx hb dX0_shares_13 (by decide) ?_
        refine lv_icmp_gt (tgt := 28) hx hb dX0_shares_14 (by decide) (fun h3 => ?_) (fun h3 => ?_)
        · refine lv_iconst (v := 0) hx hb dX0_shares_28 (by decide) ?_
          exact hret _ _ _ _ _ _ dX0_shares_29 (rfl) (Or.inr ⟨fun z => ps_nin_gt (n := 1) (by decide) h3 z.2.1, rfl, rfl⟩) hw
        · refine lv_iload_n hx hb dX0_shares_17 rfl (lv_at hl 3 rfl) ?_
          refine lv_if_lt (tgt := 28) hx hb dX0_shares_18 (by decide) (fun h4 => ?_) (fun h4 => ?_)
          · refine lv_iconst (v := 0) hx hb dX0_shares_28 (by decide) ?_
            exact hret _ _ _ _ _ _ dX0_shares_29 (rfl) (Or.inr ⟨ps_okS_i (ps_nin_neg (by decide) h4), rfl, rfl⟩) hw
          · refine lv_iload_n hx hb dX0_shares_21 rfl (lv_at hl 3 rfl) ?_
            refine lv_sipush (v := nI 624) hx hb dX0_shares_22 (by decide) ?_
            refine lv_icmp_le (tgt := 30) hx hb dX0_shares_25 (by decide) (fun h5 => ?_) (fun h5 => ?_)
            · obtain ⟨n, hn, rfl⟩ : ps_in x3 625 := ps_in_le2 (by decide) h4 h5
              refine lv_iload_n hx hb dX0_shares_30 rfl (lv_at hl 3 rfl) ?_
              refine lv_bipush (v := nI 125) hx hb dX0_shares_31 (by decide) ?_
              refine n_idiv hx hb (by omega) (by omega) (by omega) dX0_shares_33 ?_
              refine lv_iload_n hx hb dX0_shares_34 rfl (lv_at hl 3 rfl) ?_
              refine lv_bipush (v := nI 25) hx hb dX0_shares_35 (by decide) ?_
              refine n_idiv hx hb (by omega) (by omega) (by omega) dX0_shares_37 ?_
              refine lv_iconst (v := nI 5) hx hb dX0_shares_38 (by decide) ?_
              refine n_irem hx hb (by omega) (by omega) (by omega) dX0_shares_39 ?_
              refine n_iadd hx hb dX0_shares_40 ?_
              refine lv_iload_n hx hb dX0_shares_41 rfl (lv_at hl 3 rfl) ?_
              refine lv_iconst (v := nI 5) hx hb dX0_shares_42 (by decide) ?_
              refine n_idiv hx hb (by omega) (by omega) (by omega) dX0_shares_43 ?_
              refine lv_iconst (v := nI 5) hx hb dX0_shares_44 (by decide) ?_
              refine n_irem hx hb (by omega) (by omega) (by omega) dX0_shares_45 ?_
              refine n_iadd hx hb dX0_shares_46 ?_
              refine lv_iload_n hx hb dX0_shares_47 rfl (lv_at hl 3 rfl) ?_
              refine lv_iconst (v := nI 5) hx hb dX0_shares_48 (by decide) ?_
              refine n_irem hx hb (by omega) (by omega) (by omega) dX0_shares_49 ?_
              refine n_iadd hx hb dX0_shares_50 ?_
              refine lv_istore (lv' := [(4, .int (nI ((((n / 125) + ((n / 25) % 5)) + ((n / 5) % 5)) + (n % 5)))), (0, .ref h), (1, .int x1), (2, .int x2), (3, .int (nI n))]) hx hb dX0_shares_51 hl (by decide) rfl (fun ls hl => ?_)
              refine lv_iload hx hb dX0_shares_53 (lv_at hl 0 rfl) ?_
              refine lv_iconst (v := nI 4) hx hb dX0_shares_55 (by decide) ?_
              refine n_icmp_eq (tgt := 61) hx hb (by omega) (by omega) dX0_shares_56 (by decide) (fun h6 => ?_) (fun h6 => ?_)
              · obtain ⟨s1, hs1, rfl⟩ := h1
                obtain ⟨a1, ha1, rfl⟩ : ps_in x2 2 := ps_in_le (by decide) h2 h3
                refine lv_iload_n hx hb dX0_shares_61 rfl (lv_at hl 4 rfl) ?_
                refine lv_istore (lv' := [(5, .int (nI n)), (4, .int (nI ((((n / 125) + ((n / 25) % 5)) + ((n / 5) % 5)) + (n % 5)))), (0, .ref h), (1, .int (nI s1)), (2, .int (nI a1)), (3, .int (nI n))]) hx hb dX0_shares_62 hl (by decide) rfl (fun ls hl => ?_)
                refine lv_iconst (v := nI 3) hx hb dX0_shares_64 (by decide) ?_
                refine lv_istore (lv' := [(6, .int (nI 3)), (5, .int (nI n)), (4, .int (nI ((((n / 125) + ((n / 25) % 5)) + ((n / 5) % 5)) + (n % 5)))), (0, .ref h), (1, .int (nI s1)), (2, .int (nI a1)), (3, .int (nI n))]) hx hb dX0_shares_65 hl (by decide) rfl (fun ls hl => ?_)
                refine lv_iload hx hb dX0_shares_67 (lv_at hl 0 rfl) ?_
                refine lv_if_lt (tgt := 104) hx hb dX0_shares_69 (by decide) (fun h8 => ?_) (fun h8 => ?_)
                · exact absurd h8 (by decide)
                · refine lv_aload_n hx hb dX0_shares_72 rfl (lv_at hl 3 rfl) ?_
                  refine x_get1 hc hw dX0_shares_73 ?_
                  refine lv_iconst (v := nI 4) hx hb dX0_shares_76 (by decide) ?_
                  refine lv_iconst (v := nI 2) hx hb dX0_shares_77 (by decide) ?_
                  refine lv_iload_n hx hb dX0_shares_78 rfl (lv_at hl 4 rfl) ?_
                  refine n_imul hx hb dX0_shares_79 ?_
                  refine lv_iload_n hx hb dX0_shares_80 rfl (lv_at hl 5 rfl) ?_
                  refine n_iadd hx hb dX0_shares_81 ?_
                  refine n_imul hx hb dX0_shares_82 ?_
                  refine lv_iload hx hb dX0_shares_83 (lv_at hl 0 rfl) ?_
                  refine n_iadd hx hb dX0_shares_85 ?_
                  refine lv_iload hx hb dX0_shares_86 (lv_at hl 1 rfl) ?_
                  refine lv_iconst (v := nI 5) hx hb dX0_shares_88 (by decide) ?_
                  refine n_irem hx hb (by omega) (by omega) (by omega) dX0_shares_89 ?_
                  refine lv_i2b (v := (nI (n % 5)).toInt8.toInt32) hx hb dX0_shares_90 rfl ?_
                  refine x_st1 hc hw (by omega) dX0_shares_91 (fun H locs hw => ?_)
                  refine lv_iload hx hb dX0_shares_92 (lv_at hl 1 rfl) ?_
                  refine lv_iconst (v := nI 5) hx hb dX0_shares_94 (by decide) ?_
                  refine n_idiv hx hb (by omega) (by omega) (by omega) dX0_shares_95 ?_
                  refine lv_istore (lv' := [(5, .int (nI (n / 5))), (6, .int (nI 3)), (4, .int (nI ((((n / 125) + ((n / 25) % 5)) + ((n / 5) % 5)) + (n % 5)))), (0, .ref h), (1, .int (nI s1)), (2, .int (nI a1)), (3, .int (nI n))]) hx hb dX0_shares_96 hl (by decide) rfl (fun ls hl => ?_)
                  refine lv_iinc (v := nI 2) (lv' := [(6, .int (nI 2)), (5, .int (nI (n / 5))), (4, .int (nI ((((n / 125) + ((n / 25) % 5)) + ((n / 5) % 5)) + (n % 5)))), (0, .ref h), (1, .int (nI s1)), (2, .int (nI a1)), (3, .int (nI n))]) hx hb dX0_shares_98 hl (k := 1) rfl (by decide) (by decide) rfl (fun ls hl => ?_)
                  refine lv_goto (tgt := 67) hx hb dX0_shares_101 (by decide) ?_
                  refine lv_iload hx hb dX0_shares_67 (lv_at hl 0 rfl) ?_
                  refine lv_if_lt (tgt := 104) hx hb dX0_shares_69 (by decide) (fun h8 => ?_) (fun h8 => ?_)
                  · exact absurd h8 (by decide)
                  · refine lv_aload_n hx hb dX0_shares_72 rfl (lv_at hl 3 rfl) ?_
                    refine x_get1 hc hw dX0_shares_73 ?_
                    refine lv_iconst (v := nI 4) hx hb dX0_shares_76 (by decide) ?_
                    refine lv_iconst (v := nI 2) hx hb dX0_shares_77 (by decide) ?_
                    refine lv_iload_n hx hb dX0_shares_78 rfl (lv_at hl 4 rfl) ?_
                    refine n_imul hx hb dX0_shares_79 ?_
                    refine lv_iload_n hx hb dX0_shares_80 rfl (lv_at hl 5 rfl) ?_
                    refine n_iadd hx hb dX0_shares_81 ?_
                    refine n_imul hx hb dX0_shares_82 ?_
                    refine lv_iload hx hb dX0_shares_83 (lv_at hl 0 rfl) ?_
                    refine n_iadd hx hb dX0_shares_85 ?_
                    refine lv_iload hx hb dX0_shares_86 (lv_at hl 1 rfl) ?_
                    refine lv_iconst (v := nI 5) hx hb dX0_shares_88 (by decide) ?_
                    refine n_irem hx hb (by omega) (by omega) (by omega) dX0_shares_89 ?_
                    refine lv_i2b (v := (nI ((n / 5) % 5)).toInt8.toInt32) hx hb dX0_shares_90 rfl ?_
                    refine x_st1 hc hw (by omega) dX0_shares_91 (fun H locs hw => ?_)
                    refine lv_iload hx hb dX0_shares_92 (lv_at hl 1 rfl) ?_
                    refine lv_iconst (v := nI 5) hx hb dX0_shares_94 (by decide) ?_
                    refine n_idiv hx hb (by omega) (by omega) (by omega) dX0_shares_95 ?_
                    refine lv_istore (lv' := [(5, .int (nI ((n / 5) / 5))), (6, .int (nI 2)), (4, .int (nI ((((n / 125) + ((n / 25) % 5)) + ((n / 5) % 5)) + (n % 5)))), (0, .ref h), (1, .int (nI s1)), (2, .int (nI a1)), (3, .int (nI n))]) hx hb dX0_shares_96 hl (by decide) rfl (fun ls hl => ?_)
                    refine lv_iinc (v := nI 1) (lv' := [(6, .int (nI 1)), (5, .int (nI ((n / 5) / 5))), (4, .int (nI ((((n / 125) + ((n / 25) % 5)) + ((n / 5) % 5)) + (n % 5)))), (0, .ref h), (1, .int (nI s1)), (2, .int (nI a1)), (3, .int (nI n))]) hx hb dX0_shares_98 hl (k := 1) rfl (by decide) (by decide) rfl (fun ls hl => ?_)
                    refine lv_goto (tgt := 67) hx hb dX0_shares_101 (by decide) ?_
                    refine lv_iload hx hb dX0_shares_67 (lv_at hl 0 rfl) ?_
                    refine lv_if_lt (tgt := 104) hx hb dX0_shares_69 (by decide) (fun h8 => ?_) (fun h8 => ?_)
                    · exact absurd h8 (by decide)
                    · refine lv_aload_n hx hb dX0_shares_72 rfl (lv_at hl 3 rfl) ?_
                      refine x_get1 hc hw dX0_shares_73 ?_
                      refine lv_iconst (v := nI 4) hx hb dX0_shares_76 (by decide) ?_
                      refine lv_iconst (v := nI 2) hx hb dX0_shares_77 (by decide) ?_
                      refine lv_iload_n hx hb dX0_shares_78 rfl (lv_at hl 4 rfl) ?_
                      refine n_imul hx hb dX0_shares_79 ?_
                      refine lv_iload_n hx hb dX0_shares_80 rfl (lv_at hl 5 rfl) ?_
                      refine n_iadd hx hb dX0_shares_81 ?_
                      refine n_imul hx hb dX0_shares_82 ?_
                      refine lv_iload hx hb dX0_shares_83 (lv_at hl 0 rfl) ?_
                      refine n_iadd hx hb dX0_shares_85 ?_
                      refine lv_iload hx hb dX0_shares_86 (lv_at hl 1 rfl) ?_
                      refine lv_iconst (v := nI 5) hx hb dX0_shares_88 (by decide) ?_
                      refine n_irem hx hb (by omega) (by omega) (by omega) dX0_shares_89 ?_
                      refine lv_i2b (v := (nI (((n / 5) / 5) % 5)).toInt8.toInt32) hx hb dX0_shares_90 rfl ?_
                      refine x_st1 hc hw (by omega) dX0_shares_91 (fun H locs hw => ?_)
                      refine lv_iload hx hb dX0_shares_92 (lv_at hl 1 rfl) ?_
                      refine lv_iconst (v := nI 5) hx hb dX0_shares_94 (by decide) ?_
                      refine n_idiv hx hb (by omega) (by omega) (by omega) dX0_shares_95 ?_
                      refine lv_istore (lv' := [(5, .int (nI (((n / 5) / 5) / 5))), (6, .int (nI 1)), (4, .int (nI ((((n / 125) + ((n / 25) % 5)) + ((n / 5) % 5)) + (n % 5)))), (0, .ref h), (1, .int (nI s1)), (2, .int (nI a1)), (3, .int (nI n))]) hx hb dX0_shares_96 hl (by decide) rfl (fun ls hl => ?_)
                      refine lv_iinc (v := nI 0) (lv' := [(6, .int (nI 0)), (5, .int (nI (((n / 5) / 5) / 5))), (4, .int (nI ((((n / 125) + ((n / 25) % 5)) + ((n / 5) % 5)) + (n % 5)))), (0, .ref h), (1, .int (nI s1)), (2, .int (nI a1)), (3, .int (nI n))]) hx hb dX0_shares_98 hl (k := 1) rfl (by decide) (by decide) rfl (fun ls hl => ?_)
                      refine lv_goto (tgt := 67) hx hb dX0_shares_101 (by decide) ?_
                      refine lv_iload hx hb dX0_shares_67 (lv_at hl 0 rfl) ?_
                      refine lv_if_lt (tgt := 104) hx hb dX0_shares_69 (by decide) (fun h8 => ?_) (fun h8 => ?_)
                      · exact absurd h8 (by decide)
                      · refine lv_aload_n hx hb dX0_shares_72 rfl (lv_at hl 3 rfl) ?_
                        refine x_get1 hc hw dX0_shares_73 ?_
                        refine lv_iconst (v := nI 4) hx hb dX0_shares_76 (by decide) ?_
                        refine lv_iconst (v := nI 2) hx hb dX0_shares_77 (by decide) ?_
                        refine lv_iload_n hx hb dX0_shares_78 rfl (lv_at hl 4 rfl) ?_
                        refine n_imul hx hb dX0_shares_79 ?_
                        refine lv_iload_n hx hb dX0_shares_80 rfl (lv_at hl 5 rfl) ?_
                        refine n_iadd hx hb dX0_shares_81 ?_
                        refine n_imul hx hb dX0_shares_82 ?_
                        refine lv_iload hx hb dX0_shares_83 (lv_at hl 0 rfl) ?_
                        refine n_iadd hx hb dX0_shares_85 ?_
                        refine lv_iload hx hb dX0_shares_86 (lv_at hl 1 rfl) ?_
                        refine lv_iconst (v := nI 5) hx hb dX0_shares_88 (by decide) ?_
                        refine n_irem hx hb (by omega) (by omega) (by omega) dX0_shares_89 ?_
                        refine lv_i2b (v := (nI ((((n / 5) / 5) / 5) % 5)).toInt8.toInt32) hx hb dX0_shares_90 rfl ?_
                        refine x_st1 hc hw (by omega) dX0_shares_91 (fun H locs hw => ?_)
                        refine lv_iload hx hb dX0_shares_92 (lv_at hl 1 rfl) ?_
                        refine lv_iconst (v := nI 5) hx hb dX0_shares_94 (by decide) ?_
                        refine n_idiv hx hb (by omega) (by omega) (by omega) dX0_shares_95 ?_
                        refine lv_istore (lv' := [(5, .int (nI ((((n / 5) / 5) / 5) / 5))), (6, .int (nI 0)), (4, .int (nI ((((n / 125) + ((n / 25) % 5)) + ((n / 5) % 5)) + (n % 5)))), (0, .ref h), (1, .int (nI s1)), (2, .int (nI a1)), (3, .int (nI n))]) hx hb dX0_shares_96 hl (by decide) rfl (fun ls hl => ?_)
                        refine lv_iinc (v := (-1)) (lv' := [(6, .int (-1)), (5, .int (nI ((((n / 5) / 5) / 5) / 5))), (4, .int (nI ((((n / 125) + ((n / 25) % 5)) + ((n / 5) % 5)) + (n % 5)))), (0, .ref h), (1, .int (nI s1)), (2, .int (nI a1)), (3, .int (nI n))]) hx hb dX0_shares_98 hl (k := 1) rfl (by decide) (by decide) rfl (fun ls hl => ?_)
                        refine lv_goto (tgt := 67) hx hb dX0_shares_101 (by decide) ?_
                        refine lv_iload hx hb dX0_shares_67 (lv_at hl 0 rfl) ?_
                        refine lv_if_lt (tgt := 104) hx hb dX0_shares_69 (by decide) (fun h8 => ?_) (fun h8 => ?_)
                        · refine lv_aload_n hx hb dX0_shares_104 rfl (lv_at hl 3 rfl) ?_
                          refine lv_iconst (v := 0) hx hb dX0_shares_105 (by decide) ?_
                          refine x_put7 hc hw (by decide) dX0_shares_106 (fun H locs hw => ?_)
                          refine lv_iconst (v := 1) hx hb dX0_shares_109 (by decide) ?_
                          simp only [ps_d5] at hw
                          exact hret _ _ _ _ _ _ dX0_shares_110 (rfl) (Or.inl ⟨s1, a1, n, hs1, ha1, hn, rfl, rfl, rfl, h6, rfl, rfl⟩) hw
                        · exact absurd (by decide) h8
              · refine lv_iconst (v := 0) hx hb dX0_shares_59 (by decide) ?_
                exact hret _ _ _ _ _ _ dX0_shares_60 (rfl) (Or.inr ⟨ps_okS_n hn h6, rfl, rfl⟩) hw
            · refine lv_iconst (v := 0) hx hb dX0_shares_28 (by decide) ?_
              exact hret _ _ _ _ _ _ dX0_shares_29 (rfl) (Or.inr ⟨ps_okS_i (ps_nin_nle (by decide) h5), rfl, rfl⟩) hw
  · refine lv_if_eq (tgt := 28) hx hb dX0_shares_5 (by decide) (fun hN => ?_) (fun hN => ?_)
    · refine lv_iconst (v := 0) hx hb dX0_shares_28 (by decide) ?_
      exact hret _ _ _ _ _ _ dX0_shares_29 (rfl) (Or.inr ⟨fun z => h1 z.1, rfl, rfl⟩) hw
    · exact absurd hN (by decide)
end
section
set_option maxHeartbeats 4000000 in
set_option maxRecDepth 100000 in
theorem pm_isState (l : Launch) (D : va_G) (h : Nat) (q : Nat → Nat) (d : Nat → ClassId) (u0 : MS) (k : Int32) : CI l D (mF h q d) (mT d) yX1_isState cX1_isState 2 .boolean (rmK 0 0) [.ref h, .int k] u0 (fun r u => u = u0 ∧ ((r = 1 ∧ ps_in k 4) ∨ (r = 0 ∧ ¬ ps_in k 4))) := by
  refine CI.of (by decide) (Nat.le_of_ble_eq_true rfl) ?_
  intro p e s m below meth c A Q ls hc hret hw hl
  obtain ⟨hx, hb, hml, hown, hts, hK, hA⟩ := id hc
  have hl : lv_has ls 2 [(0, .ref h), (1, .int k)] := hl
  refine lv_iload_n hx hb dX1_isState_0 rfl (lv_at hl 1 rfl) ?_
  refine lv_if_lt (tgt := 13) hx hb dX1_isState_1 (by decide) (fun h1 => ?_) (fun h1 => ?_)
  · refine lv_iconst (v := 0) hx hb dX1_isState_13 (by decide) ?_
    exact hret _ _ _ _ _ _ dX1_isState_14 (rfl) (⟨rfl, Or.inr ⟨rfl, ps_nin_neg (by decide) h1⟩⟩) hw
  · refine lv_iload_n hx hb dX1_isState_4 rfl (lv_at hl 1 rfl) ?_
    refine lv_iconst (v := nI 3) hx hb dX1_isState_5 (by decide) ?_
    refine lv_icmp_gt (tgt := 13) hx hb dX1_isState_6 (by decide) (fun h2 => ?_) (fun h2 => ?_)
    · refine lv_iconst (v := 0) hx hb dX1_isState_13 (by decide) ?_
      exact hret _ _ _ _ _ _ dX1_isState_14 (rfl) (⟨rfl, Or.inr ⟨rfl, ps_nin_gt (n := 3) (by decide) h2⟩⟩) hw
    · refine lv_iconst (v := 1) hx hb dX1_isState_9 (by decide) ?_
      refine lv_goto (tgt := 14) hx hb dX1_isState_10 (by decide) ?_
      exact hret _ _ _ _ _ _ dX1_isState_14 (rfl) (⟨rfl, Or.inl ⟨rfl, ps_in_le (by decide) h1 h2⟩⟩) hw
set_option maxHeartbeats 4000000 in
set_option maxRecDepth 100000 in
theorem pm_isPolicy (l : Launch) (D : va_G) (h : Nat) (q : Nat → Nat) (d : Nat → ClassId) (u0 : MS) (k : Int32) : CI l D (mF h q d) (mT d) yX1_isPolicy cX1_isPolicy 2 .boolean (rmK 0 0) [.ref h, .int k] u0 (fun r u => u = u0 ∧ ((r = 1 ∧ ps_in k 16) ∨ (r = 0 ∧ ¬ ps_in k 16))) := by
  refine CI.of (by decide) (Nat.le_of_ble_eq_true rfl) ?_
  intro p e s m below meth c A Q ls hc hret hw hl
  obtain ⟨hx, hb, hml, hown, hts, hK, hA⟩ := id hc
  have hl : lv_has ls 2 [(0, .ref h), (1, .int k)] := hl
  refine lv_iload_n hx hb dX1_isPolicy_0 rfl (lv_at hl 1 rfl) ?_
  refine lv_if_lt (tgt := 14) hx hb dX1_isPolicy_1 (by decide) (fun h1 => ?_) (fun h1 => ?_)
  · refine lv_iconst (v := 0) hx hb dX1_isPolicy_14 (by decide) ?_
    exact hret _ _ _ _ _ _ dX1_isPolicy_15 (rfl) (⟨rfl, Or.inr ⟨rfl, ps_nin_neg (by decide) h1⟩⟩) hw
  · refine lv_iload_n hx hb dX1_isPolicy_4 rfl (lv_at hl 1 rfl) ?_
    refine lv_bipush (v := nI 15) hx hb dX1_isPolicy_5 (by decide) ?_
    refine lv_icmp_gt (tgt := 14) hx hb dX1_isPolicy_7 (by decide) (fun h2 => ?_) (fun h2 => ?_)
    · refine lv_iconst (v := 0) hx hb dX1_isPolicy_14 (by decide) ?_
      exact hret _ _ _ _ _ _ dX1_isPolicy_15 (rfl) (⟨rfl, Or.inr ⟨rfl, ps_nin_gt (n := 15) (by decide) h2⟩⟩) hw
    · refine lv_iconst (v := 1) hx hb dX1_isPolicy_10 (by decide) ?_
      refine lv_goto (tgt := 15) hx hb dX1_isPolicy_11 (by decide) ?_
      exact hret _ _ _ _ _ _ dX1_isPolicy_15 (rfl) (⟨rfl, Or.inl ⟨rfl, ps_in_le (by decide) h1 h2⟩⟩) hw
set_option maxHeartbeats 4000000 in
set_option maxRecDepth 100000 in
theorem pm_isAction (l : Launch) (D : va_G) (h : Nat) (q : Nat → Nat) (d : Nat → ClassId) (u0 : MS) (k k2 : Int32) : CI l D (mF h q d) (mT d) yX1_isAction cX1_isAction 3 .boolean (rmK 0 0) [.ref h, .int k, .int k2] u0 (fun r u => u = u0 ∧ ((r = 1 ∧ (ps_in k 4 ∧ ps_in k2 2)) ∨ (r = 0 ∧ ¬ (ps_in k 4 ∧ ps_in k2 2)))) := by
  refine CI.of (by decide) (Nat.le_of_ble_eq_true rfl) ?_
  intro p e s m below meth c A Q ls hc hret hw hl
  obtain ⟨hx, hb, hml, hown, hts, hK, hA⟩ := id hc
  have hl : lv_has ls 3 [(0, .ref h), (1, .int k), (2, .int k2)] := hl
  refine lv_iload_n hx hb dX1_isAction_0 rfl (lv_at hl 1 rfl) ?_
  refine lv_if_lt (tgt := 22) hx hb dX1_isAction_1 (by decide) (fun h1 => ?_) (fun h1 => ?_)
  · refine lv_iconst (v := 0) hx hb dX1_isAction_22 (by decide) ?_
    exact hret _ _ _ _ _ _ dX1_isAction_23 (rfl) (⟨rfl, Or.inr ⟨rfl, fun z => ps_nin_neg (by decide) h1 z.1⟩⟩) hw
  · refine lv_iload_n hx hb dX1_isAction_4 rfl (lv_at hl 1 rfl) ?_
    refine lv_iconst (v := nI 3) hx hb dX1_isAction_5 (by decide) ?_
    refine lv_icmp_gt (tgt := 22) hx hb dX1_isAction_6 (by decide) (fun h2 => ?_) (fun h2 => ?_)
    · refine lv_iconst (v := 0) hx hb dX1_isAction_22 (by decide) ?_
      exact hret _ _ _ _ _ _ dX1_isAction_23 (rfl) (⟨rfl, Or.inr ⟨rfl, fun z => ps_nin_gt (n := 3) (by decide) h2 z.1⟩⟩) hw
    · refine lv_iload_n hx hb dX1_isAction_9 rfl (lv_at hl 2 rfl) ?_
      refine lv_if_lt (tgt := 22) hx hb dX1_isAction_10 (by decide) (fun h3 => ?_) (fun h3 => ?_)
      · refine lv_iconst (v := 0) hx hb dX1_isAction_22 (by decide) ?_
        exact hret _ _ _ _ _ _ dX1_isAction_23 (rfl) (⟨rfl, Or.inr ⟨rfl, fun z => ps_nin_neg (by decide) h3 z.2⟩⟩) hw
      · refine lv_iload_n hx hb dX1_isAction_13 rfl (lv_at hl 2 rfl) ?_
        refine lv_iconst (v := nI 1) hx hb dX1_isAction_14 (by decide) ?_
        refine lv_icmp_gt (tgt := 22) hx hb dX1_isAction_15 (by decide) (fun h4 => ?_) (fun h4 => ?_)
        · refine lv_iconst (v := 0) hx hb dX1_isAction_22 (by decide) ?_
          exact hret _ _ _ _ _ _ dX1_isAction_23 (rfl) (⟨rfl, Or.inr ⟨rfl, fun z => ps_nin_gt (n := 1) (by decide) h4 z.2⟩⟩) hw
        · refine lv_iconst (v := 1) hx hb dX1_isAction_18 (by decide) ?_
          refine lv_goto (tgt := 23) hx hb dX1_isAction_19 (by decide) ?_
          exact hret _ _ _ _ _ _ dX1_isAction_23 (rfl) (⟨rfl, Or.inl ⟨rfl, ps_in_le (n := 3) (by decide) h1 h2, ps_in_le (n := 1) (by decide) h3 h4⟩⟩) hw
set_option maxHeartbeats 4000000 in
set_option maxRecDepth 100000 in
theorem pm_write (l : Launch) (D : va_G) (h : Nat) (q : Nat → Nat) (d : Nat → ClassId) (R S : Nat → Int32) (ra tp bt : Nat → Int64) (pp : Nat) (h1 : pp < 16) : CV l D (mF h q d) (mT d) yX1_write cX1_write 5 (rmK 0 0) [.ref h, .int (nI pp)] (R, S, ra, tp, bt) (fun u => u = (R, S, pm_fs R S pp 4 0 ra, tp, bt)) := by
  refine CV.of (by decide) (Nat.le_of_ble_eq_true rfl) ?_
  intro p e s m below meth c A Q ls hc hret hw hl
  obtain ⟨hx, hb, hml, hown, hts, hK, hA⟩ := id hc
  have hl : lv_has ls 5 [(0, .ref h), (1, .int (nI pp))] := hl
  have L1 : ∀ (n i : Nat) (f : Nat → Int64), i + n = 4 → pm_fs R S pp n i f = pm_fs R S pp 4 0 ra → ∀ (H : Heap) (locs : List Loc) (ls : Array Slot), ww D (mF h q d) A s.heap H locs (R, S, f, tp, bt) → lv_has ls 5 [(0, .ref h), (1, .int (nI pp)), (2, .int (nI i))] → W p l e (rmK 0 0) s m [.ref h, .int (nI pp)].toArray below meth c H locs 0 0 Q (F0 m 2 ls []) := by
    intro n
    induction n with
    | zero =>
      intro i f g1 g2 H locs ls hw hl
      refine lv_iload_n hx hb dX1_write_2 rfl (lv_at hl 2 rfl) ?_
      refine lv_iconst (v := nI 4) hx hb dX1_write_3 (by decide) ?_
      refine n_icmp_ge (tgt := 95) hx hb (by omega) (by omega) dX1_write_4 (by decide) (fun h2 => ?_) (fun h2 => ?_)
      · exact hret _ _ _ _ _ dX1_write_95 (by rw [← g2]; rfl) hw
      · exact absurd h2 (by omega)
    | succ n ih =>
      intro i f g1 g2 H locs ls hw hl
      refine lv_iload_n hx hb dX1_write_2 rfl (lv_at hl 2 rfl) ?_
      refine lv_iconst (v := nI 4) hx hb dX1_write_3 (by decide) ?_
      refine n_icmp_ge (tgt := 95) hx hb (by omega) (by omega) dX1_write_4 (by decide) (fun h2 => ?_) (fun h2 => ?_)
      · exact absurd h2 (by omega)
      · have h3 : 2 * i + pp / 2 ^ i % 2 < 8 := ps_act_lt h2
        refine lv_iconst (v := nI 2) hx hb dX1_write_7 (by decide) ?_
        refine lv_iload_n hx hb dX1_write_8 rfl (lv_at hl 2 rfl) ?_
        refine n_imul hx hb dX1_write_9 ?_
        refine lv_iload_n hx hb dX1_write_10 rfl (lv_at hl 1 rfl) ?_
        refine lv_iload_n hx hb dX1_write_11 rfl (lv_at hl 2 rfl) ?_
        refine n_ishr hx hb (by omega) (by omega) dX1_write_12 ?_
        refine lv_iconst (v := nI 1) hx hb dX1_write_13 (by decide) ?_
        refine n_iand1 hx hb (Nat.lt_of_le_of_lt (Nat.div_le_self _ _) (by omega)) dX1_write_14 ?_
        refine n_iadd hx hb dX1_write_15 ?_
        refine lv_istore_n (lv' := [(3, .int (nI ((2 * i) + ((pp / 2 ^ i) % 2)))), (0, .ref h), (1, .int (nI pp)), (2, .int (nI i))]) hx hb dX1_write_16 rfl hl (by decide) rfl (fun ls hl => ?_)
        refine lv_iconst (v := nI 0) hx hb dX1_write_17 (by decide) ?_
        refine lv_istore (lv' := [(4, .int (nI 0)), (3, .int (nI ((2 * i) + ((pp / 2 ^ i) % 2)))), (0, .ref h), (1, .int (nI pp)), (2, .int (nI i))]) hx hb dX1_write_18 hl (by decide) rfl (fun ls hl => ?_)
        have L2 : ∀ (n2 j : Nat) (f2 : Nat → Int64), j + n2 = 4 → pm_ft S i (2 * i + pp / 2 ^ i % 2) n2 j f2 = pm_ft S i (2 * i + pp / 2 ^ i % 2) 4 0 f → ∀ (H : Heap) (locs : List Loc) (ls : Array Slot), ww D (mF h q d) A s.heap H locs (R, S, f2, tp, bt) → lv_has ls 5 [(0, .ref h), (1, .int (nI pp)), (2, .int (nI i)), (3, .int (nI (2 * i + pp / 2 ^ i % 2))), (4, .int (nI j))] → W p l e (rmK 0 0) s m [.ref h, .int (nI pp)].toArray below meth c H locs 0 0 Q (F0 m 20 ls []) := by
          intro n2
          induction n2 with
          | zero =>
            intro j f2 g3 g4 H locs ls hw hl
            refine lv_iload hx hb dX1_write_20 (lv_at hl 4 rfl) ?_
            refine lv_iconst (v := nI 4) hx hb dX1_write_22 (by decide) ?_
            refine n_icmp_ge (tgt := 68) hx hb (by omega) (by omega) dX1_write_23 (by decide) (fun h4 => ?_) (fun h4 => ?_)
            · refine lv_aload_n hx hb dX1_write_68 rfl (lv_at hl 0 rfl) ?_
              refine m_get2 hc hw dX1_write_69 ?_
              refine lv_iconst (v := nI 5) hx hb dX1_write_72 (by decide) ?_
              refine lv_iload_n hx hb dX1_write_73 rfl (lv_at hl 2 rfl) ?_
              refine n_imul hx hb dX1_write_74 ?_
              refine lv_iconst (v := nI 4) hx hb dX1_write_75 (by decide) ?_
              refine n_iadd hx hb dX1_write_76 ?_
              refine lv_ldc2 (v := 8) hx hb hown (hts _ q230) dX1_write_77 ?_
              refine lv_aload_n hx hb dX1_write_80 rfl (lv_at hl 0 rfl) ?_
              refine m_get0 hc hw dX1_write_81 ?_
              refine lv_iload_n hx hb dX1_write_84 rfl (lv_at hl 3 rfl) ?_
              refine m_ld0 hc hw (by omega) dX1_write_85 ?_
              refine lv_i2l (v := (R (2 * i + pp / 2 ^ i % 2)).toInt64) hx hb dX1_write_86 rfl ?_
              refine lv_lmul hx hb dX1_write_87 ?_
              refine m_st2 hc hw (by omega) dX1_write_88 (fun H locs hw => ?_)
              refine lv_iinc (v := nI (i + 1)) (lv' := [(2, .int (nI (i + 1))), (0, .ref h), (1, .int (nI pp)), (3, .int (nI (2 * i + pp / 2 ^ i % 2))), (4, .int (nI j))]) hx hb dX1_write_89 hl (k := 2) rfl (n_inc _) (by decide) rfl (fun ls hl => ?_)
              refine lv_goto (tgt := 2) hx hb dX1_write_92 (by decide) ?_
              exact ih (i + 1) _ (by omega) (by rw [show f2 = _ from g4]; exact g2) H locs ls hw (lv_sub hl [1, 2, 0] rfl)
            · exact absurd h4 (by omega)
          | succ n2 ih2 =>
            intro j f2 g3 g4 H locs ls hw hl
            refine lv_iload hx hb dX1_write_20 (lv_at hl 4 rfl) ?_
            refine lv_iconst (v := nI 4) hx hb dX1_write_22 (by decide) ?_
            refine n_icmp_ge (tgt := 68) hx hb (by omega) (by omega) dX1_write_23 (by decide) (fun h4 => ?_) (fun h4 => ?_)
            · exact absurd h4 (by omega)
            · refine lv_aload_n hx hb dX1_write_26 rfl (lv_at hl 0 rfl) ?_
              refine m_get2 hc hw dX1_write_27 ?_
              refine lv_iconst (v := nI 5) hx hb dX1_write_30 (by decide) ?_
              refine lv_iload_n hx hb dX1_write_31 rfl (lv_at hl 2 rfl) ?_
              refine n_imul hx hb dX1_write_32 ?_
              refine lv_iload hx hb dX1_write_33 (lv_at hl 4 rfl) ?_
              refine n_iadd hx hb dX1_write_35 ?_
              have J : ∀ v : Nat, v = (if i = j then 8 else 0) → W p l e (rmK 0 0) s m [.ref h, .int (nI pp)].toArray below meth c H locs 0 0 Q (F0 m 48 ls [.int (nI v), .int (nI ((5 * i) + j)), .ref (q 2)]) := by
                intro v hv
                subst hv
                refine lv_aload_n hx hb dX1_write_48 rfl (lv_at hl 0 rfl) ?_
                refine m_get1 hc hw dX1_write_49 ?_
                refine lv_iconst (v := nI 4) hx hb dX1_write_52 (by decide) ?_
                refine lv_iload_n hx hb dX1_write_53 rfl (lv_at hl 3 rfl) ?_
                refine n_imul hx hb dX1_write_54 ?_
                refine lv_iload hx hb dX1_write_55 (lv_at hl 4 rfl) ?_
                refine n_iadd hx hb dX1_write_57 ?_
                refine m_ld1 hc hw (by omega) dX1_write_58 ?_
                refine lv_isub hx hb dX1_write_59 ?_
                refine lv_i2l (v := (nI (if i = j then 8 else 0) - (S ((4 * (2 * i + pp / 2 ^ i % 2)) + j))).toInt64) hx hb dX1_write_60 rfl ?_
                refine m_st2 hc hw (by omega) dX1_write_61 (fun H locs hw => ?_)
                refine lv_iinc (v := nI (j + 1)) (lv' := [(4, .int (nI (j + 1))), (0, .ref h), (1, .int (nI pp)), (2, .int (nI i)), (3, .int (nI (2 * i + pp / 2 ^ i % 2)))]) hx hb dX1_write_62 hl (k := 4) rfl (n_inc _) (by decide) rfl (fun ls hl => ?_)
                refine lv_goto (tgt := 20) hx hb dX1_write_65 (by decide) ?_
                exact ih2 (j + 1) _ (by omega) g4 H locs ls hw (lv_sub hl [1, 2, 3, 4, 0] rfl)
              refine lv_iload_n hx hb dX1_write_36 rfl (lv_at hl 2 rfl) ?_
              refine lv_iload hx hb dX1_write_37 (lv_at hl 4 rfl) ?_
              refine n_icmp_ne (tgt := 47) hx hb (by omega) (by omega) dX1_write_39 (by decide) (fun h5 => ?_) (fun h5 => ?_)
              · refine lv_iconst (v := nI 0) hx hb dX1_write_47 (by decide) ?_
                exact J 0 (by rw [if_neg h5])
              · refine lv_bipush (v := nI 8) hx hb dX1_write_42 (by decide) ?_
                refine lv_goto (tgt := 48) hx hb dX1_write_44 (by decide) ?_
                exact J 8 (by rw [if_pos h5])
        exact L2 4 0 f rfl rfl _ _ _ hw (lv_sub hl [2, 3, 4, 1, 0] rfl)
  refine lv_iconst (v := nI 0) hx hb dX1_write_0 (by decide) ?_
  refine lv_istore_n (lv' := [(2, .int (nI 0)), (0, .ref h), (1, .int (nI pp))]) hx hb dX1_write_1 rfl hl (by decide) rfl (fun ls hl => ?_)
  exact L1 4 0 ra rfl rfl _ _ _ hw (lv_sub hl [1, 2, 0] rfl)
set_option maxHeartbeats 4000000 in
set_option maxRecDepth 100000 in
theorem pm_atc (l : Launch) (D : va_G) (h : Nat) (q : Nat → Nat) (d : Nat → ClassId) (R S : Nat → Int32) (ra tp bt : Nat → Int64) (s1 t1 w1 : Nat) (h1 : s1 < 4) (h2 : t1 < 4) (h3 : w1 < 5) : CL l D (mF h q d) (mT d) yX1_at cX1_at 4 (rmK 0 0) [.ref h, .int (nI s1), .int (nI t1), .int (nI w1)] (R, S, ra, tp, bt) (fun r u => u = (R, S, ra, tp, bt) ∧ r = pm_at ra s1 t1 w1) := by
  refine CL.of (by decide) (Nat.le_of_ble_eq_true rfl) ?_
  intro p e s m below meth c A Q ls hc hret hw hl
  obtain ⟨hx, hb, hml, hown, hts, hK, hA⟩ := id hc
  have hl : lv_has ls 4 [(0, .ref h), (1, .int (nI s1)), (2, .int (nI t1)), (3, .int (nI w1))] := hl
  refine lv_aload_n hx hb dX1_at_0 rfl (lv_at hl 0 rfl) ?_
  refine m_get2 hc hw dX1_at_1 ?_
  refine lv_iconst (v := nI 5) hx hb dX1_at_4 (by decide) ?_
  refine lv_iload_n hx hb dX1_at_5 rfl (lv_at hl 1 rfl) ?_
  refine n_imul hx hb dX1_at_6 ?_
  refine lv_iload_n hx hb dX1_at_7 rfl (lv_at hl 2 rfl) ?_
  refine lv_iload_n hx hb dX1_at_8 rfl (lv_at hl 3 rfl) ?_
  refine n_icmp_ne (tgt := 16) hx hb (by omega) (by omega) dX1_at_9 (by decide) (fun h4 => ?_) (fun h4 => ?_)
  · refine lv_iload_n hx hb dX1_at_16 rfl (lv_at hl 2 rfl) ?_
    refine n_iadd hx hb dX1_at_17 ?_
    refine m_ld2 hc hw (by omega) dX1_at_18 ?_
    exact hret _ _ _ _ _ _ dX1_at_19 (⟨rfl, by unfold pm_at; rw [if_neg h4]⟩) hw
  · refine lv_iconst (v := nI 4) hx hb dX1_at_12 (by decide) ?_
    refine lv_goto (tgt := 17) hx hb dX1_at_13 (by decide) ?_
    refine n_iadd hx hb dX1_at_17 ?_
    refine m_ld2 hc hw (by omega) dX1_at_18 ?_
    exact hret _ _ _ _ _ _ dX1_at_19 (⟨rfl, by unfold pm_at; rw [if_pos h4]⟩) hw
set_option maxHeartbeats 4000000 in
set_option maxRecDepth 100000 in
theorem pm_minorc (l : Launch) (D : va_G) (h : Nat) (q : Nat → Nat) (d : Nat → ClassId) (R S : Nat → Int32) (ra tp bt : Nat → Int64) (k1 w1 : Nat) (h1 : k1 < 4) (h2 : w1 < 5) : CL l D (mF h q d) (mT d) yX1_minor cX1_minor 12 (rmK 1 25) [.ref h, .int (nI k1), .int (nI w1)] (R, S, ra, tp, bt) (fun r u => u = (R, S, ra, tp, bt) ∧ r = pm_minor ra k1 w1) := by
  refine CL.of (by decide) (Nat.le_of_ble_eq_true rfl) ?_
  intro p e s m below meth c A Q ls hc hret hw hl
  obtain ⟨hx, hb, hml, hown, hts, hK, hA⟩ := id hc
  have hl : lv_has ls 12 [(0, .ref h), (1, .int (nI k1)), (2, .int (nI w1))] := hl
  refine lv_iload_n hx hb dX1_minor_0 rfl (lv_at hl 1 rfl) ?_
  have J1 : ∀ a1 : Nat, a1 = pm_a k1 → W p l e (rmK 1 25) s m [.ref h, .int (nI k1), .int (nI w1)].toArray below meth c s.heap [] 0 0 Q (F0 m 9 ls [.int (nI a1)]) := by
    intro a1 ha
    have ha4 : a1 < 4 := by rw [ha]; unfold pm_a; split <;> omega
    refine lv_istore_n (lv' := [(3, .int (nI a1)), (0, .ref h), (1, .int (nI k1)), (2, .int (nI w1))]) hx hb dX1_minor_9 rfl hl (by decide) rfl (fun ls hl => ?_)
    refine lv_iload_n hx hb dX1_minor_10 rfl (lv_at hl 2 rfl) ?_
    refine lv_iconst (v := nI 1) hx hb dX1_minor_11 (by decide) ?_
    have J2 : ∀ b1 : Nat, b1 = pm_b k1 → W p l e (rmK 1 25) s m [.ref h, .int (nI k1), .int (nI w1)].toArray below meth c s.heap [] 0 0 Q (F0 m 20 ls [.int (nI b1)]) := by
      intro b1 hb1
      have hb4 : b1 < 4 := by rw [hb1]; unfold pm_b; split <;> omega
      refine lv_istore (lv' := [(4, .int (nI b1)), (3, .int (nI a1)), (0, .ref h), (1, .int (nI k1)), (2, .int (nI w1))]) hx hb dX1_minor_20 hl (by decide) rfl (fun ls hl => ?_)
      refine lv_iload_n hx hb dX1_minor_22 rfl (lv_at hl 3 rfl) ?_
      refine lv_iconst (v := nI 2) hx hb dX1_minor_23 (by decide) ?_
      have J3 : ∀ c1 : Nat, c1 = pm_c k1 → W p l e (rmK 1 25) s m [.ref h, .int (nI k1), .int (nI w1)].toArray below meth c s.heap [] 0 0 Q (F0 m 32 ls [.int (nI c1)]) := by
        intro c1 hc1
        have hc4 : c1 < 4 := by rw [hc1]; unfold pm_c; split <;> omega
        refine lv_istore (lv' := [(5, .int (nI c1)), (4, .int (nI b1)), (3, .int (nI a1)), (0, .ref h), (1, .int (nI k1)), (2, .int (nI w1))]) hx hb dX1_minor_32 hl (by decide) rfl (fun ls hl => ?_)
        refine lv_aload_n hx hb dX1_minor_34 rfl (lv_at hl 3 rfl) ?_
        refine lv_iconst (v := nI 2) hx hb dX1_minor_35 (by decide) ?_
        refine lv_iload hx hb dX1_minor_36 (lv_at hl 1 rfl) ?_
        refine lv_iload_n hx hb dX1_minor_38 rfl (lv_at hl 5 rfl) ?_
        refine CL.call (As := [.int (nI 2), .int (nI b1), .int (nI w1)]) (rest := []) (ci := 1) (n := 3) (pm_atc l D h q d R S ra tp bt 2 b1 w1 (by decide) hb4 h2) hc hw rfl rfl (cwV 3 hts (lw_V q235 q237 qs19 q28 q238) rfl rfl rfl (by decide +kernel) ⟨Nat.le_of_ble_eq_true rfl, Nat.le_of_ble_eq_true rfl⟩) rfl hl.1 rfl (Nat.le_of_ble_eq_true rfl) ⟨Nat.le_of_ble_eq_true rfl, Nat.le_of_ble_eq_true rfl⟩ dX1_minor_39 (fun r u H locs hu hwc => ?_)
        have hw : ww D (mF h q d) A s.heap H locs (R, S, ra, tp, bt) := by rw [hu.1] at hwc; exact hwc
        obtain ⟨-, rfl⟩ := hu
        refine lv_aload_n hx hb dX1_minor_42 rfl (lv_at hl 3 rfl) ?_
        refine lv_iconst (v := nI 3) hx hb dX1_minor_43 (by decide) ?_
        refine lv_iload hx hb dX1_minor_44 (lv_at hl 0 rfl) ?_
        refine lv_iload_n hx hb dX1_minor_46 rfl (lv_at hl 5 rfl) ?_
        refine CL.call (As := [.int (nI 3), .int (nI c1), .int (nI w1)]) (rest := [.long (pm_at ra 2 b1 w1)]) (ci := 1) (n := 3) (pm_atc l D h q d R S ra tp bt 3 c1 w1 (by decide) hc4 h2) hc hw rfl rfl (cwV 3 hts (lw_V q235 q237 qs19 q28 q238) rfl rfl rfl (by decide +kernel) ⟨Nat.le_of_ble_eq_true rfl, Nat.le_of_ble_eq_true rfl⟩) rfl hl.1 rfl (Nat.le_of_ble_eq_true rfl) ⟨Nat.le_of_ble_eq_true rfl, Nat.le_of_ble_eq_true rfl⟩ dX1_minor_47 (fun r u H locs hu hwc => ?_)
        have hw : ww D (mF h q d) A s.heap H locs (R, S, ra, tp, bt) := by rw [hu.1] at hwc; exact hwc
        obtain ⟨-, rfl⟩ := hu
        refine lv_lmul hx hb dX1_minor_50 ?_
        refine lv_aload_n hx hb dX1_minor_51 rfl (lv_at hl 3 rfl) ?_
        refine lv_iconst (v := nI 2) hx hb dX1_minor_52 (by decide) ?_
        refine lv_iload hx hb dX1_minor_53 (lv_at hl 0 rfl) ?_
        refine lv_iload_n hx hb dX1_minor_55 rfl (lv_at hl 5 rfl) ?_
        refine CL.call (As := [.int (nI 2), .int (nI c1), .int (nI w1)]) (rest := [.long ((pm_at ra 2 b1 w1) * (pm_at ra 3 c1 w1))]) (ci := 1) (n := 3) (pm_atc l D h q d R S ra tp bt 2 c1 w1 (by decide) hc4 h2) hc hw rfl rfl (cwV 3 hts (lw_V q235 q237 qs19 q28 q238) rfl rfl rfl (by decide +kernel) ⟨Nat.le_of_ble_eq_true rfl, Nat.le_of_ble_eq_true rfl⟩) rfl hl.1 rfl (Nat.le_of_ble_eq_true rfl) ⟨Nat.le_of_ble_eq_true rfl, Nat.le_of_ble_eq_true rfl⟩ dX1_minor_56 (fun r u H locs hu hwc => ?_)
        have hw : ww D (mF h q d) A s.heap H locs (R, S, ra, tp, bt) := by rw [hu.1] at hwc; exact hwc
        obtain ⟨-, rfl⟩ := hu
        refine lv_aload_n hx hb dX1_minor_59 rfl (lv_at hl 3 rfl) ?_
        refine lv_iconst (v := nI 3) hx hb dX1_minor_60 (by decide) ?_
        refine lv_iload hx hb dX1_minor_61 (lv_at hl 1 rfl) ?_
        refine lv_iload_n hx hb dX1_minor_63 rfl (lv_at hl 5 rfl) ?_
        refine CL.call (As := [.int (nI 3), .int (nI b1), .int (nI w1)]) (rest := [.long (pm_at ra 2 c1 w1), .long ((pm_at ra 2 b1 w1) * (pm_at ra 3 c1 w1))]) (ci := 1) (n := 3) (pm_atc l D h q d R S ra tp bt 3 b1 w1 (by decide) hb4 h2) hc hw rfl rfl (cwV 3 hts (lw_V q235 q237 qs19 q28 q238) rfl rfl rfl (by decide +kernel) ⟨Nat.le_of_ble_eq_true rfl, Nat.le_of_ble_eq_true rfl⟩) rfl hl.1 rfl (Nat.le_of_ble_eq_true rfl) ⟨Nat.le_of_ble_eq_true rfl, Nat.le_of_ble_eq_true rfl⟩ dX1_minor_64 (fun r u H locs hu hwc => ?_)
        have hw : ww D (mF h q d) A s.heap H locs (R, S, ra, tp, bt) := by rw [hu.1] at hwc; exact hwc
        obtain ⟨-, rfl⟩ := hu
        refine lv_lmul hx hb dX1_minor_67 ?_
        refine lv_lsub hx hb dX1_minor_68 ?_
        refine lv_lstore (lv' := [(6, .long (((pm_at ra 2 b1 w1) * (pm_at ra 3 c1 w1)) - ((pm_at ra 2 c1 w1) * (pm_at ra 3 b1 w1)))), (5, .int (nI c1)), (4, .int (nI b1)), (3, .int (nI a1)), (0, .ref h), (1, .int (nI k1)), (2, .int (nI w1))]) hx hb dX1_minor_69 hl (by decide) rfl (fun ls hl => ?_)
        refine lv_aload_n hx hb dX1_minor_71 rfl (lv_at hl 4 rfl) ?_
        refine lv_iconst (v := nI 2) hx hb dX1_minor_72 (by decide) ?_
        refine lv_iload_n hx hb dX1_minor_73 rfl (lv_at hl 3 rfl) ?_
        refine lv_iload_n hx hb dX1_minor_74 rfl (lv_at hl 6 rfl) ?_
        refine CL.call (As := [.int (nI 2), .int (nI a1), .int (nI w1)]) (rest := []) (ci := 1) (n := 3) (pm_atc l D h q d R S ra tp bt 2 a1 w1 (by decide) ha4 h2) hc hw rfl rfl (cwV 3 hts (lw_V q235 q237 qs19 q28 q238) rfl rfl rfl (by decide +kernel) ⟨Nat.le_of_ble_eq_true rfl, Nat.le_of_ble_eq_true rfl⟩) rfl hl.1 rfl (Nat.le_of_ble_eq_true rfl) ⟨Nat.le_of_ble_eq_true rfl, Nat.le_of_ble_eq_true rfl⟩ dX1_minor_75 (fun r u H locs hu hwc => ?_)
        have hw : ww D (mF h q d) A s.heap H locs (R, S, ra, tp, bt) := by rw [hu.1] at hwc; exact hwc
        obtain ⟨-, rfl⟩ := hu
        refine lv_aload_n hx hb dX1_minor_78 rfl (lv_at hl 4 rfl) ?_
        refine lv_iconst (v := nI 3) hx hb dX1_minor_79 (by decide) ?_
        refine lv_iload hx hb dX1_minor_80 (lv_at hl 1 rfl) ?_
        refine lv_iload_n hx hb dX1_minor_82 rfl (lv_at hl 6 rfl) ?_
        refine CL.call (As := [.int (nI 3), .int (nI c1), .int (nI w1)]) (rest := [.long (pm_at ra 2 a1 w1)]) (ci := 1) (n := 3) (pm_atc l D h q d R S ra tp bt 3 c1 w1 (by decide) hc4 h2) hc hw rfl rfl (cwV 3 hts (lw_V q235 q237 qs19 q28 q238) rfl rfl rfl (by decide +kernel) ⟨Nat.le_of_ble_eq_true rfl, Nat.le_of_ble_eq_true rfl⟩) rfl hl.1 rfl (Nat.le_of_ble_eq_true rfl) ⟨Nat.le_of_ble_eq_true rfl, Nat.le_of_ble_eq_true rfl⟩ dX1_minor_83 (fun r u H locs hu hwc => ?_)
        have hw : ww D (mF h q d) A s.heap H locs (R, S, ra, tp, bt) := by rw [hu.1] at hwc; exact hwc
        obtain ⟨-, rfl⟩ := hu
        refine lv_lmul hx hb dX1_minor_86 ?_
        refine lv_aload_n hx hb dX1_minor_87 rfl (lv_at hl 4 rfl) ?_
        refine lv_iconst (v := nI 2) hx hb dX1_minor_88 (by decide) ?_
        refine lv_iload hx hb dX1_minor_89 (lv_at hl 1 rfl) ?_
        refine lv_iload_n hx hb dX1_minor_91 rfl (lv_at hl 6 rfl) ?_
        refine CL.call (As := [.int (nI 2), .int (nI c1), .int (nI w1)]) (rest := [.long ((pm_at ra 2 a1 w1) * (pm_at ra 3 c1 w1))]) (ci := 1) (n := 3) (pm_atc l D h q d R S ra tp bt 2 c1 w1 (by decide) hc4 h2) hc hw rfl rfl (cwV 3 hts (lw_V q235 q237 qs19 q28 q238) rfl rfl rfl (by decide +kernel) ⟨Nat.le_of_ble_eq_true rfl, Nat.le_of_ble_eq_true rfl⟩) rfl hl.1 rfl (Nat.le_of_ble_eq_true rfl) ⟨Nat.le_of_ble_eq_true rfl, Nat.le_of_ble_eq_true rfl⟩ dX1_minor_92 (fun r u H locs hu hwc => ?_)
        have hw : ww D (mF h q d) A s.heap H locs (R, S, ra, tp, bt) := by rw [hu.1] at hwc; exact hwc
        obtain ⟨-, rfl⟩ := hu
        refine lv_aload_n hx hb dX1_minor_95 rfl (lv_at hl 4 rfl) ?_
        refine lv_iconst (v := nI 3) hx hb dX1_minor_96 (by decide) ?_
        refine lv_iload_n hx hb dX1_minor_97 rfl (lv_at hl 3 rfl) ?_
        refine lv_iload_n hx hb dX1_minor_98 rfl (lv_at hl 6 rfl) ?_
        refine CL.call (As := [.int (nI 3), .int (nI a1), .int (nI w1)]) (rest := [.long (pm_at ra 2 c1 w1), .long ((pm_at ra 2 a1 w1) * (pm_at ra 3 c1 w1))]) (ci := 1) (n := 3) (pm_atc l D h q d R S ra tp bt 3 a1 w1 (by decide) ha4 h2) hc hw rfl rfl (cwV 3 hts (lw_V q235 q237 qs19 q28 q238) rfl rfl rfl (by decide +kernel) ⟨Nat.le_of_ble_eq_true rfl, Nat.le_of_ble_eq_true rfl⟩) rfl hl.1 rfl (Nat.le_of_ble_eq_true rfl) ⟨Nat.le_of_ble_eq_true rfl, Nat.le_of_ble_eq_true rfl⟩ dX1_minor_99 (fun r u H locs hu hwc => ?_)
        have hw : ww D (mF h q d) A s.heap H locs (R, S, ra, tp, bt) := by rw [hu.1] at hwc; exact hwc
        obtain ⟨-, rfl⟩ := hu
        refine lv_lmul hx hb dX1_minor_102 ?_
        refine lv_lsub hx hb dX1_minor_103 ?_
        refine lv_lstore (lv' := [(8, .long (((pm_at ra 2 a1 w1) * (pm_at ra 3 c1 w1)) - ((pm_at ra 2 c1 w1) * (pm_at ra 3 a1 w1)))), (6, .long (((pm_at ra 2 b1 w1) * (pm_at ra 3 c1 w1)) - ((pm_at ra 2 c1 w1) * (pm_at ra 3 b1 w1)))), (5, .int (nI c1)), (4, .int (nI b1)), (3, .int (nI a1)), (0, .ref h), (1, .int (nI k1)), (2, .int (nI w1))]) hx hb dX1_minor_104 hl (by decide) rfl (fun ls hl => ?_)
        refine lv_aload_n hx hb dX1_minor_106 rfl (lv_at hl 5 rfl) ?_
        refine lv_iconst (v := nI 2) hx hb dX1_minor_107 (by decide) ?_
        refine lv_iload_n hx hb dX1_minor_108 rfl (lv_at hl 4 rfl) ?_
        refine lv_iload_n hx hb dX1_minor_109 rfl (lv_at hl 7 rfl) ?_
        refine CL.call (As := [.int (nI 2), .int (nI a1), .int (nI w1)]) (rest := []) (ci := 1) (n := 3) (pm_atc l D h q d R S ra tp bt 2 a1 w1 (by decide) ha4 h2) hc hw rfl rfl (cwV 3 hts (lw_V q235 q237 qs19 q28 q238) rfl rfl rfl (by decide +kernel) ⟨Nat.le_of_ble_eq_true rfl, Nat.le_of_ble_eq_true rfl⟩) rfl hl.1 rfl (Nat.le_of_ble_eq_true rfl) ⟨Nat.le_of_ble_eq_true rfl, Nat.le_of_ble_eq_true rfl⟩ dX1_minor_110 (fun r u H locs hu hwc => ?_)
        have hw : ww D (mF h q d) A s.heap H locs (R, S, ra, tp, bt) := by rw [hu.1] at hwc; exact hwc
        obtain ⟨-, rfl⟩ := hu
        refine lv_aload_n hx hb dX1_minor_113 rfl (lv_at hl 5 rfl) ?_
        refine lv_iconst (v := nI 3) hx hb dX1_minor_114 (by decide) ?_
        refine lv_iload hx hb dX1_minor_115 (lv_at hl 3 rfl) ?_
        refine lv_iload_n hx hb dX1_minor_117 rfl (lv_at hl 7 rfl) ?_
        refine CL.call (As := [.int (nI 3), .int (nI b1), .int (nI w1)]) (rest := [.long (pm_at ra 2 a1 w1)]) (ci := 1) (n := 3) (pm_atc l D h q d R S ra tp bt 3 b1 w1 (by decide) hb4 h2) hc hw rfl rfl (cwV 3 hts (lw_V q235 q237 qs19 q28 q238) rfl rfl rfl (by decide +kernel) ⟨Nat.le_of_ble_eq_true rfl, Nat.le_of_ble_eq_true rfl⟩) rfl hl.1 rfl (Nat.le_of_ble_eq_true rfl) ⟨Nat.le_of_ble_eq_true rfl, Nat.le_of_ble_eq_true rfl⟩ dX1_minor_118 (fun r u H locs hu hwc => ?_)
        have hw : ww D (mF h q d) A s.heap H locs (R, S, ra, tp, bt) := by rw [hu.1] at hwc; exact hwc
        obtain ⟨-, rfl⟩ := hu
        refine lv_lmul hx hb dX1_minor_121 ?_
        refine lv_aload_n hx hb dX1_minor_122 rfl (lv_at hl 5 rfl) ?_
        refine lv_iconst (v := nI 2) hx hb dX1_minor_123 (by decide) ?_
        refine lv_iload hx hb dX1_minor_124 (lv_at hl 3 rfl) ?_
        refine lv_iload_n hx hb dX1_minor_126 rfl (lv_at hl 7 rfl) ?_
        refine CL.call (As := [.int (nI 2), .int (nI b1), .int (nI w1)]) (rest := [.long ((pm_at ra 2 a1 w1) * (pm_at ra 3 b1 w1))]) (ci := 1) (n := 3) (pm_atc l D h q d R S ra tp bt 2 b1 w1 (by decide) hb4 h2) hc hw rfl rfl (cwV 3 hts (lw_V q235 q237 qs19 q28 q238) rfl rfl rfl (by decide +kernel) ⟨Nat.le_of_ble_eq_true rfl, Nat.le_of_ble_eq_true rfl⟩) rfl hl.1 rfl (Nat.le_of_ble_eq_true rfl) ⟨Nat.le_of_ble_eq_true rfl, Nat.le_of_ble_eq_true rfl⟩ dX1_minor_127 (fun r u H locs hu hwc => ?_)
        have hw : ww D (mF h q d) A s.heap H locs (R, S, ra, tp, bt) := by rw [hu.1] at hwc; exact hwc
        obtain ⟨-, rfl⟩ := hu
        refine lv_aload_n hx hb dX1_minor_130 rfl (lv_at hl 5 rfl) ?_
        refine lv_iconst (v := nI 3) hx hb dX1_minor_131 (by decide) ?_
        refine lv_iload_n hx hb dX1_minor_132 rfl (lv_at hl 4 rfl) ?_
        refine lv_iload_n hx hb dX1_minor_133 rfl (lv_at hl 7 rfl) ?_
        refine CL.call (As := [.int (nI 3), .int (nI a1), .int (nI w1)]) (rest := [.long (pm_at ra 2 b1 w1), .long ((pm_at ra 2 a1 w1) * (pm_at ra 3 b1 w1))]) (ci := 1) (n := 3) (pm_atc l D h q d R S ra tp bt 3 a1 w1 (by decide) ha4 h2) hc hw rfl rfl (cwV 3 hts (lw_V q235 q237 qs19 q28 q238) rfl rfl rfl (by decide +kernel) ⟨Nat.le_of_ble_eq_true rfl, Nat.le_of_ble_eq_true rfl⟩) rfl hl.1 rfl (Nat.le_of_ble_eq_true rfl) ⟨Nat.le_of_ble_eq_true rfl, Nat.le_of_ble_eq_true rfl⟩ dX1_minor_134 (fun r u H locs hu hwc => ?_)
        have hw : ww D (mF h q d) A s.heap H locs (R, S, ra, tp, bt) := by rw [hu.1] at hwc; exact hwc
        obtain ⟨-, rfl⟩ := hu
        refine lv_lmul hx hb dX1_minor_137 ?_
        refine lv_lsub hx hb dX1_minor_138 ?_
        refine lv_lstore (lv' := [(10, .long (((pm_at ra 2 a1 w1) * (pm_at ra 3 b1 w1)) - ((pm_at ra 2 b1 w1) * (pm_at ra 3 a1 w1)))), (8, .long (((pm_at ra 2 a1 w1) * (pm_at ra 3 c1 w1)) - ((pm_at ra 2 c1 w1) * (pm_at ra 3 a1 w1)))), (6, .long (((pm_at ra 2 b1 w1) * (pm_at ra 3 c1 w1)) - ((pm_at ra 2 c1 w1) * (pm_at ra 3 b1 w1)))), (5, .int (nI c1)), (4, .int (nI b1)), (3, .int (nI a1)), (0, .ref h), (1, .int (nI k1)), (2, .int (nI w1))]) hx hb dX1_minor_139 hl (by decide) rfl (fun ls hl => ?_)
        refine lv_aload_n hx hb dX1_minor_141 rfl (lv_at hl 6 rfl) ?_
        refine lv_iconst (v := nI 1) hx hb dX1_minor_142 (by decide) ?_
        refine lv_iload_n hx hb dX1_minor_143 rfl (lv_at hl 5 rfl) ?_
        refine lv_iload_n hx hb dX1_minor_144 rfl (lv_at hl 8 rfl) ?_
        refine CL.call (As := [.int (nI 1), .int (nI a1), .int (nI w1)]) (rest := []) (ci := 1) (n := 3) (pm_atc l D h q d R S ra tp bt 1 a1 w1 (by decide) ha4 h2) hc hw rfl rfl (cwV 3 hts (lw_V q235 q237 qs19 q28 q238) rfl rfl rfl (by decide +kernel) ⟨Nat.le_of_ble_eq_true rfl, Nat.le_of_ble_eq_true rfl⟩) rfl hl.1 rfl (Nat.le_of_ble_eq_true rfl) ⟨Nat.le_of_ble_eq_true rfl, Nat.le_of_ble_eq_true rfl⟩ dX1_minor_145 (fun r u H locs hu hwc => ?_)
        have hw : ww D (mF h q d) A s.heap H locs (R, S, ra, tp, bt) := by rw [hu.1] at hwc; exact hwc
        obtain ⟨-, rfl⟩ := hu
        refine lv_lload hx hb dX1_minor_148 (lv_at hl 2 rfl) ?_
        refine lv_lmul hx hb dX1_minor_150 ?_
        refine lv_aload_n hx hb dX1_minor_151 rfl (lv_at hl 6 rfl) ?_
        refine lv_iconst (v := nI 1) hx hb dX1_minor_152 (by decide) ?_
        refine lv_iload hx hb dX1_minor_153 (lv_at hl 4 rfl) ?_
        refine lv_iload_n hx hb dX1_minor_155 rfl (lv_at hl 8 rfl) ?_
        refine CL.call (As := [.int (nI 1), .int (nI b1), .int (nI w1)]) (rest := [.long ((pm_at ra 1 a1 w1) * (((pm_at ra 2 b1 w1) * (pm_at ra 3 c1 w1)) - ((pm_at ra 2 c1 w1) * (pm_at ra 3 b1 w1))))]) (ci := 1) (n := 3) (pm_atc l D h q d R S ra tp bt 1 b1 w1 (by decide) hb4 h2) hc hw rfl rfl (cwV 3 hts (lw_V q235 q237 qs19 q28 q238) rfl rfl rfl (by decide +kernel) ⟨Nat.le_of_ble_eq_true rfl, Nat.le_of_ble_eq_true rfl⟩) rfl hl.1 rfl (Nat.le_of_ble_eq_true rfl) ⟨Nat.le_of_ble_eq_true rfl, Nat.le_of_ble_eq_true rfl⟩ dX1_minor_156 (fun r u H locs hu hwc => ?_)
        have hw : ww D (mF h q d) A s.heap H locs (R, S, ra, tp, bt) := by rw [hu.1] at hwc; exact hwc
        obtain ⟨-, rfl⟩ := hu
        refine lv_lload hx hb dX1_minor_159 (lv_at hl 1 rfl) ?_
        refine lv_lmul hx hb dX1_minor_161 ?_
        refine lv_lsub hx hb dX1_minor_162 ?_
        refine lv_aload_n hx hb dX1_minor_163 rfl (lv_at hl 6 rfl) ?_
        refine lv_iconst (v := nI 1) hx hb dX1_minor_164 (by decide) ?_
        refine lv_iload hx hb dX1_minor_165 (lv_at hl 3 rfl) ?_
        refine lv_iload_n hx hb dX1_minor_167 rfl (lv_at hl 8 rfl) ?_
        refine CL.call (As := [.int (nI 1), .int (nI c1), .int (nI w1)]) (rest := [.long (((pm_at ra 1 a1 w1) * (((pm_at ra 2 b1 w1) * (pm_at ra 3 c1 w1)) - ((pm_at ra 2 c1 w1) * (pm_at ra 3 b1 w1)))) - ((pm_at ra 1 b1 w1) * (((pm_at ra 2 a1 w1) * (pm_at ra 3 c1 w1)) - ((pm_at ra 2 c1 w1) * (pm_at ra 3 a1 w1)))))]) (ci := 1) (n := 3) (pm_atc l D h q d R S ra tp bt 1 c1 w1 (by decide) hc4 h2) hc hw rfl rfl (cwV 3 hts (lw_V q235 q237 qs19 q28 q238) rfl rfl rfl (by decide +kernel) ⟨Nat.le_of_ble_eq_true rfl, Nat.le_of_ble_eq_true rfl⟩) rfl hl.1 rfl (Nat.le_of_ble_eq_true rfl) ⟨Nat.le_of_ble_eq_true rfl, Nat.le_of_ble_eq_true rfl⟩ dX1_minor_168 (fun r u H locs hu hwc => ?_)
        have hw : ww D (mF h q d) A s.heap H locs (R, S, ra, tp, bt) := by rw [hu.1] at hwc; exact hwc
        obtain ⟨-, rfl⟩ := hu
        refine lv_lload hx hb dX1_minor_171 (lv_at hl 0 rfl) ?_
        refine lv_lmul hx hb dX1_minor_173 ?_
        refine lv_ladd hx hb dX1_minor_174 ?_
        exact hret _ _ _ _ _ _ dX1_minor_175 (⟨rfl, by rw [ha, hb1, hc1]; rfl⟩) hw
      refine n_icmp_gt (tgt := 31) hx hb (by omega) (by omega) dX1_minor_24 (by decide) (fun h3 => ?_) (fun h3 => ?_)
      · refine lv_iconst (v := nI 2) hx hb dX1_minor_31 (by decide) ?_
        exact J3 2 (by unfold pm_c; rw [if_neg (by omega)])
      · refine lv_iconst (v := nI 3) hx hb dX1_minor_27 (by decide) ?_
        refine lv_goto (tgt := 32) hx hb dX1_minor_28 (by decide) ?_
        exact J3 3 (by unfold pm_c; rw [if_pos h3])
    refine n_icmp_gt (tgt := 19) hx hb (by omega) (by omega) dX1_minor_12 (by decide) (fun h3 => ?_) (fun h3 => ?_)
    · refine lv_iconst (v := nI 1) hx hb dX1_minor_19 (by decide) ?_
      exact J2 1 (by unfold pm_b; rw [if_neg (by omega)])
    · refine lv_iconst (v := nI 2) hx hb dX1_minor_15 (by decide) ?_
      refine lv_goto (tgt := 20) hx hb dX1_minor_16 (by decide) ?_
      exact J2 2 (by unfold pm_b; rw [if_pos h3])
  refine n_if_ne (tgt := 8) hx hb (by omega) dX1_minor_1 (by decide) (fun h3 => ?_) (fun h3 => ?_)
  · refine lv_iconst (v := nI 0) hx hb dX1_minor_8 (by decide) ?_
    exact J1 0 (by unfold pm_a; rw [if_neg h3])
  · refine lv_iconst (v := nI 1) hx hb dX1_minor_4 (by decide) ?_
    refine lv_goto (tgt := 9) hx hb dX1_minor_5 (by decide) ?_
    exact J1 1 (by unfold pm_a; rw [if_pos h3])
set_option maxHeartbeats 4000000 in
set_option maxRecDepth 100000 in
theorem pm_detc (l : Launch) (D : va_G) (h : Nat) (q : Nat → Nat) (d : Nat → ClassId) (R S : Nat → Int32) (ra tp bt : Nat → Int64) (w1 : Nat) (h1 : w1 < 5) : CL l D (mF h q d) (mT d) yX1_determinant cX1_determinant 7 (rmK 2 60) [.ref h, .int (nI w1)] (R, S, ra, tp, bt) (fun r u => u = (R, S, ra, tp, bt) ∧ r = pm_det ra w1) := by
  refine CL.of (by decide) (Nat.le_of_ble_eq_true rfl) ?_
  intro p e s m below meth c A Q ls hc hret hw hl
  obtain ⟨hx, hb, hml, hown, hts, hK, hA⟩ := id hc
  have hl : lv_has ls 7 [(0, .ref h), (1, .int (nI w1))] := hl
  have L1 : ∀ (n t : Nat) (x1 : Int64), t + n = 4 → pm_dl ra w1 n t x1 = pm_det ra w1 → ∀ (H : Heap) (locs : List Loc) (ls : Array Slot), ww D (mF h q d) A s.heap H locs (R, S, ra, tp, bt) → lv_has ls 7 [(0, .ref h), (1, .int (nI w1)), (2, .long x1), (4, .int (nI t))] → W p l e (rmK 2 60) s m [.ref h, .int (nI w1)].toArray below meth c H locs 0 0 Q (F0 m 5 ls []) := by
    intro n
    induction n with
    | zero =>
      intro t x1 k1 k2 H locs ls hw hl
      refine lv_iload hx hb dX1_determinant_5 (lv_at hl 3 rfl) ?_
      refine lv_iconst (v := nI 4) hx hb dX1_determinant_7 (by decide) ?_
      refine n_icmp_ge (tgt := 53) hx hb (by omega) (by omega) dX1_determinant_8 (by decide) (fun h2 => ?_) (fun h2 => ?_)
      · refine lv_lload_n hx hb dX1_determinant_53 rfl (lv_at hl 2 rfl) ?_
        exact hret _ _ _ _ _ _ dX1_determinant_54 (⟨rfl, k2⟩) hw
      · exact absurd h2 (by omega)
    | succ n ih =>
      intro t x1 k1 k2 H locs ls hw hl
      refine lv_iload hx hb dX1_determinant_5 (lv_at hl 3 rfl) ?_
      refine lv_iconst (v := nI 4) hx hb dX1_determinant_7 (by decide) ?_
      refine n_icmp_ge (tgt := 53) hx hb (by omega) (by omega) dX1_determinant_8 (by decide) (fun h2 => ?_) (fun h2 => ?_)
      · exact absurd h2 (by omega)
      · refine lv_aload_n hx hb dX1_determinant_11 rfl (lv_at hl 0 rfl) ?_
        refine lv_iconst (v := nI 0) hx hb dX1_determinant_12 (by decide) ?_
        refine lv_iload hx hb dX1_determinant_13 (lv_at hl 3 rfl) ?_
        refine lv_iload_n hx hb dX1_determinant_15 rfl (lv_at hl 1 rfl) ?_
        refine CL.call (As := [.int (nI 0), .int (nI t), .int (nI w1)]) (rest := []) (ci := 1) (n := 3) (pm_atc l D h q d R S ra tp bt 0 t w1 (by decide) h2 h1) hc hw rfl rfl (cwV 3 hts (lw_V q235 q237 qs19 q28 q238) rfl rfl rfl (by decide +kernel) ⟨Nat.le_of_ble_eq_true rfl, Nat.le_of_ble_eq_true rfl⟩) rfl hl.1 rfl (Nat.le_of_ble_eq_true rfl) ⟨Nat.le_of_ble_eq_true rfl, Nat.le_of_ble_eq_true rfl⟩ dX1_determinant_16 (fun r u H locs hu hwc => ?_)
        have hw : ww D (mF h q d) A s.heap H locs (R, S, ra, tp, bt) := by rw [hu.1] at hwc; exact hwc
        obtain ⟨-, rfl⟩ := hu
        refine lv_aload_n hx hb dX1_determinant_19 rfl (lv_at hl 0 rfl) ?_
        refine lv_iload hx hb dX1_determinant_20 (lv_at hl 3 rfl) ?_
        refine lv_iload_n hx hb dX1_determinant_22 rfl (lv_at hl 1 rfl) ?_
        refine CL.call (As := [.int (nI t), .int (nI w1)]) (rest := [.long (pm_at ra 0 t w1)]) (ci := 1) (n := 2) (pm_minorc l D h q d R S ra tp bt t w1 h2 h1) hc hw rfl rfl (cwV 2 hts (lw_V q239 q241 qs20 q28 q242) rfl rfl rfl (by decide +kernel) ⟨Nat.le_of_ble_eq_true rfl, Nat.le_of_ble_eq_true rfl⟩) rfl hl.1 rfl (Nat.le_of_ble_eq_true rfl) ⟨Nat.le_of_ble_eq_true rfl, Nat.le_of_ble_eq_true rfl⟩ dX1_determinant_23 (fun r u H locs hu hwc => ?_)
        have hw : ww D (mF h q d) A s.heap H locs (R, S, ra, tp, bt) := by rw [hu.1] at hwc; exact hwc
        obtain ⟨-, rfl⟩ := hu
        refine lv_lmul hx hb dX1_determinant_26 ?_
        refine lv_lstore (lv' := [(5, .long ((pm_at ra 0 t w1) * (pm_minor ra t w1))), (0, .ref h), (1, .int (nI w1)), (2, .long x1), (4, .int (nI t))]) hx hb dX1_determinant_27 hl (by decide) rfl (fun ls hl => ?_)
        refine lv_lload_n hx hb dX1_determinant_29 rfl (lv_at hl 3 rfl) ?_
        refine lv_iload hx hb dX1_determinant_30 (lv_at hl 4 rfl) ?_
        refine lv_iconst (v := nI 2) hx hb dX1_determinant_32 (by decide) ?_
        refine n_irem hx hb (by omega) (by omega) (by omega) dX1_determinant_33 ?_
        refine n_if_ne (tgt := 42) hx hb (by omega) dX1_determinant_34 (by decide) (fun h3 => ?_) (fun h3 => ?_)
        · refine lv_lload hx hb dX1_determinant_42 (lv_at hl 0 rfl) ?_
          refine lv_lneg hx hb dX1_determinant_44 ?_
          refine lv_ladd hx hb dX1_determinant_45 ?_
          refine lv_lstore_n (lv' := [(2, .long (x1 + (-((pm_at ra 0 t w1) * (pm_minor ra t w1))))), (5, .long ((pm_at ra 0 t w1) * (pm_minor ra t w1))), (0, .ref h), (1, .int (nI w1)), (4, .int (nI t))]) hx hb dX1_determinant_46 rfl hl (by decide) rfl (fun ls hl => ?_)
          refine lv_iinc (v := nI (t + 1)) (lv' := [(4, .int (nI (t + 1))), (2, .long (x1 + (-((pm_at ra 0 t w1) * (pm_minor ra t w1))))), (5, .long ((pm_at ra 0 t w1) * (pm_minor ra t w1))), (0, .ref h), (1, .int (nI w1))]) hx hb dX1_determinant_47 hl (k := 4) rfl (n_inc _) (by decide) rfl (fun ls hl => ?_)
          refine lv_goto (tgt := 5) hx hb dX1_determinant_50 (by decide) ?_
          exact ih (t + 1) _ (by omega) (by rw [← k2, pm_dl, if_neg h3]) H locs ls hw (lv_sub hl [3, 4, 1, 0] rfl)
        · refine lv_lload hx hb dX1_determinant_37 (lv_at hl 0 rfl) ?_
          refine lv_goto (tgt := 45) hx hb dX1_determinant_39 (by decide) ?_
          refine lv_ladd hx hb dX1_determinant_45 ?_
          refine lv_lstore_n (lv' := [(2, .long (x1 + ((pm_at ra 0 t w1) * (pm_minor ra t w1)))), (5, .long ((pm_at ra 0 t w1) * (pm_minor ra t w1))), (0, .ref h), (1, .int (nI w1)), (4, .int (nI t))]) hx hb dX1_determinant_46 rfl hl (by decide) rfl (fun ls hl => ?_)
          refine lv_iinc (v := nI (t + 1)) (lv' := [(4, .int (nI (t + 1))), (2, .long (x1 + ((pm_at ra 0 t w1) * (pm_minor ra t w1)))), (5, .long ((pm_at ra 0 t w1) * (pm_minor ra t w1))), (0, .ref h), (1, .int (nI w1))]) hx hb dX1_determinant_47 hl (k := 4) rfl (n_inc _) (by decide) rfl (fun ls hl => ?_)
          refine lv_goto (tgt := 5) hx hb dX1_determinant_50 (by decide) ?_
          exact ih (t + 1) _ (by omega) (by rw [← k2, pm_dl, if_pos h3]) H locs ls hw (lv_sub hl [3, 4, 1, 0] rfl)
  refine lv_lconst (v := 0) hx hb dX1_determinant_0 (by decide) ?_
  refine lv_lstore_n (lv' := [(2, .long 0), (0, .ref h), (1, .int (nI w1))]) hx hb dX1_determinant_1 rfl hl (by decide) rfl (fun ls hl => ?_)
  refine lv_iconst (v := nI 0) hx hb dX1_determinant_2 (by decide) ?_
  refine lv_istore (lv' := [(4, .int (nI 0)), (2, .long 0), (0, .ref h), (1, .int (nI w1))]) hx hb dX1_determinant_3 hl (by decide) rfl (fun ls hl => ?_)
  exact L1 4 0 0 rfl rfl _ _ _ hw (lv_sub hl [2, 3, 1, 0] rfl)
end
section
set_option maxHeartbeats 4000000 in
set_option maxRecDepth 100000 in
theorem pm_solve (l : Launch) (D : va_G) (h : Nat) (q : Nat → Nat) (d : Nat → ClassId) (R S : Nat → Int32) (ra tp bt : Nat → Int64) (hok : ps_Ok R S) : CV l D (mF h q d) (mT d) yX1_solve cX1_solve 5 (rmK 3 90) [.ref h] (R, S, ra, tp, bt) (fun u => ∃ ra1 tp1 bt1, u = (R, S, ra1, tp1, bt1) ∧ pm_all R S tp1 bt1) := by
  refine CV.of (by decide) (Nat.le_of_ble_eq_true rfl) ?_
  intro p e s m below meth c A Q ls hc hret hw hl
  obtain ⟨hx, hb, hml, hown, hts, hK, hA⟩ := id hc
  have hl : lv_has ls 5 [(0, .ref h)] := hl
  have L1 : ∀ (n i : Nat) (ra1 tp1 bt1 : Nat → Int64), i + n = 16 → pm_done R S i 0 tp1 bt1 → ∀ (H : Heap) (locs : List Loc) (ls : Array Slot), ww D (mF h q d) A s.heap H locs (R, S, ra1, tp1, bt1) → lv_has ls 5 [(0, .ref h), (1, .int (nI i))] → W p l e (rmK 3 90) s m [.ref h].toArray below meth c H locs 0 0 Q (F0 m 2 ls []) := by
    intro n
    induction n with
    | zero =>
      intro i ra1 tp1 bt1 k1 k2 H locs ls hw hl
      refine lv_iload_n hx hb dX1_solve_2 rfl (lv_at hl 1 rfl) ?_
      refine lv_bipush (v := nI 16) hx hb dX1_solve_3 (by decide) ?_
      refine n_icmp_ge (tgt := 69) hx hb (by omega) (by omega) dX1_solve_5 (by decide) (fun h2 => ?_) (fun h2 => ?_)
      · exact hret _ _ _ _ _ dX1_solve_69 (⟨ra1, tp1, bt1, rfl, fun p1 s1 hp hs => k2 p1 s1 hs (by omega)⟩) hw
      · exact absurd h2 (by omega)
    | succ n ih =>
      intro i ra1 tp1 bt1 k1 k2 H locs ls hw hl
      refine lv_iload_n hx hb dX1_solve_2 rfl (lv_at hl 1 rfl) ?_
      refine lv_bipush (v := nI 16) hx hb dX1_solve_3 (by decide) ?_
      refine n_icmp_ge (tgt := 69) hx hb (by omega) (by omega) dX1_solve_5 (by decide) (fun h2 => ?_) (fun h2 => ?_)
      · exact absurd h2 (by omega)
      · refine lv_aload_n hx hb dX1_solve_8 rfl (lv_at hl 0 rfl) ?_
        refine lv_iload_n hx hb dX1_solve_9 rfl (lv_at hl 1 rfl) ?_
        refine CV.call (As := [.int (nI i)]) (rest := []) (ci := 1) (n := 1) (pm_write l D h q d R S ra1 tp1 bt1 i h2) hc hw rfl rfl (cwV 1 hts (lw_V q226 q228 qs17 q28 q229) rfl rfl rfl (by decide +kernel) ⟨Nat.le_of_ble_eq_true rfl, Nat.le_of_ble_eq_true rfl⟩) rfl hl.1 rfl (Nat.le_of_ble_eq_true rfl) ⟨Nat.le_of_ble_eq_true rfl, Nat.le_of_ble_eq_true rfl⟩ dX1_solve_10 (fun u H locs hu hwc => ?_)
        subst hu
        have hw : ww D (mF h q d) A s.heap H locs (R, S, (pm_fs R S i 4 0 ra1), tp1, bt1) := hwc
        have hf : ∀ r j, r < 4 → j < 5 → pm_fs R S i 4 0 ra1 (5 * r + j) = Int64.ofInt (ps_A R S i r j) := fun r j hr hj => pm_fill hok i ra1 hr hj
        generalize pm_fs R S i 4 0 ra1 = f at hw hf
        refine lv_aload_n hx hb dX1_solve_13 rfl (lv_at hl 0 rfl) ?_
        refine lv_iconst (v := nI 4) hx hb dX1_solve_14 (by decide) ?_
        refine CL.call (As := [.int (nI 4)]) (rest := []) (ci := 1) (n := 1) (pm_detc l D h q d R S f tp1 bt1 4 (by decide)) hc hw rfl rfl (cwV 1 hts (lw_V q231 q233 qs18 q28 q234) rfl rfl rfl (by decide +kernel) ⟨Nat.le_of_ble_eq_true rfl, Nat.le_of_ble_eq_true rfl⟩) rfl hl.1 rfl (Nat.le_of_ble_eq_true rfl) ⟨Nat.le_of_ble_eq_true rfl, Nat.le_of_ble_eq_true rfl⟩ dX1_solve_15 (fun r u H locs hu hwc => ?_)
        have hw : ww D (mF h q d) A s.heap H locs (R, S, f, tp1, bt1) := by rw [hu.1] at hwc; exact hwc
        obtain ⟨-, rfl⟩ := hu
        refine n_topl (y := Int64.ofInt (ps_bo R S i)) (pm_det_ok hf (by decide)) ?_
        refine lv_lstore_n (lv' := [(2, .long (Int64.ofInt (ps_bo R S i))), (0, .ref h), (1, .int (nI i))]) hx hb dX1_solve_18 rfl hl (by decide) rfl (fun ls hl => ?_)
        refine lv_iconst (v := nI 0) hx hb dX1_solve_19 (by decide) ?_
        refine lv_istore (lv' := [(4, .int (nI 0)), (2, .long (Int64.ofInt (ps_bo R S i))), (0, .ref h), (1, .int (nI i))]) hx hb dX1_solve_20 hl (by decide) rfl (fun ls hl => ?_)
        have L2 : ∀ (n2 j : Nat) (tp2 bt2 : Nat → Int64), j + n2 = 4 → pm_done R S i j tp2 bt2 → ∀ (H : Heap) (locs : List Loc) (ls : Array Slot), ww D (mF h q d) A s.heap H locs (R, S, f, tp2, bt2) → lv_has ls 5 [(0, .ref h), (1, .int (nI i)), (2, .long (Int64.ofInt (ps_bo R S i))), (4, .int (nI j))] → W p l e (rmK 3 90) s m [.ref h].toArray below meth c H locs 0 0 Q (F0 m 22 ls []) := by
          intro n2
          induction n2 with
          | zero =>
            intro j tp2 bt2 k3 k4 H locs ls hw hl
            refine lv_iload hx hb dX1_solve_22 (lv_at hl 3 rfl) ?_
            refine lv_iconst (v := nI 4) hx hb dX1_solve_24 (by decide) ?_
            refine n_icmp_ge (tgt := 63) hx hb (by omega) (by omega) dX1_solve_25 (by decide) (fun h3 => ?_) (fun h3 => ?_)
            · refine lv_iinc (v := nI (i + 1)) (lv' := [(1, .int (nI (i + 1))), (0, .ref h), (2, .long (Int64.ofInt (ps_bo R S i))), (4, .int (nI j))]) hx hb dX1_solve_63 hl (k := 1) rfl (n_inc _) (by decide) rfl (fun ls hl => ?_)
              refine lv_goto (tgt := 2) hx hb dX1_solve_66 (by decide) ?_
              exact ih (i + 1) _ _ _ (by omega) (pm_done_next (by rw [show 4 = j by omega]; exact k4)) H locs ls hw (lv_sub hl [1, 0] rfl)
            · exact absurd h3 (by omega)
          | succ n2 ih2 =>
            intro j tp2 bt2 k3 k4 H locs ls hw hl
            refine lv_iload hx hb dX1_solve_22 (lv_at hl 3 rfl) ?_
            refine lv_iconst (v := nI 4) hx hb dX1_solve_24 (by decide) ?_
            refine n_icmp_ge (tgt := 63) hx hb (by omega) (by omega) dX1_solve_25 (by decide) (fun h3 => ?_) (fun h3 => ?_)
            · exact absurd h3 (by omega)
            · refine lv_aload_n hx hb dX1_solve_28 rfl (lv_at hl 0 rfl) ?_
              refine m_get3 hc hw dX1_solve_29 ?_
              refine lv_iconst (v := nI 4) hx hb dX1_solve_32 (by decide) ?_
              refine lv_iload_n hx hb dX1_solve_33 rfl (lv_at hl 1 rfl) ?_
              refine n_imul hx hb dX1_solve_34 ?_
              refine lv_iload hx hb dX1_solve_35 (lv_at hl 3 rfl) ?_
              refine n_iadd hx hb dX1_solve_37 ?_
              refine lv_aload_n hx hb dX1_solve_38 rfl (lv_at hl 0 rfl) ?_
              refine lv_iload hx hb dX1_solve_39 (lv_at hl 3 rfl) ?_
              refine CL.call (As := [.int (nI j)]) (rest := [.int (nI ((4 * i) + j)), .ref (q 3)]) (ci := 1) (n := 1) (pm_detc l D h q d R S f tp2 bt2 j (by omega)) hc hw rfl rfl (cwV 1 hts (lw_V q231 q233 qs18 q28 q234) rfl rfl rfl (by decide +kernel) ⟨Nat.le_of_ble_eq_true rfl, Nat.le_of_ble_eq_true rfl⟩) rfl hl.1 rfl (Nat.le_of_ble_eq_true rfl) ⟨Nat.le_of_ble_eq_true rfl, Nat.le_of_ble_eq_true rfl⟩ dX1_solve_41 (fun r u H locs hu hwc => ?_)
              have hw : ww D (mF h q d) A s.heap H locs (R, S, f, tp2, bt2) := by rw [hu.1] at hwc; exact hwc
              obtain ⟨-, rfl⟩ := hu
              refine n_topl (y := Int64.ofInt (ps_tp R S i j)) ((pm_det_ok hf (by omega)).trans (by rw [if_neg (by omega)]; rfl)) ?_
              refine m_st3 hc hw (by omega) dX1_solve_44 (fun H locs hw => ?_)
              refine lv_aload_n hx hb dX1_solve_45 rfl (lv_at hl 0 rfl) ?_
              refine m_get4 hc hw dX1_solve_46 ?_
              refine lv_iconst (v := nI 4) hx hb dX1_solve_49 (by decide) ?_
              refine lv_iload_n hx hb dX1_solve_50 rfl (lv_at hl 1 rfl) ?_
              refine n_imul hx hb dX1_solve_51 ?_
              refine lv_iload hx hb dX1_solve_52 (lv_at hl 3 rfl) ?_
              refine n_iadd hx hb dX1_solve_54 ?_
              refine lv_lload_n hx hb dX1_solve_55 rfl (lv_at hl 2 rfl) ?_
              refine m_st4 hc hw (by omega) dX1_solve_56 (fun H locs hw => ?_)
              refine lv_iinc (v := nI (j + 1)) (lv' := [(4, .int (nI (j + 1))), (0, .ref h), (1, .int (nI i)), (2, .long (Int64.ofInt (ps_bo R S i)))]) hx hb dX1_solve_57 hl (k := 3) rfl (n_inc _) (by decide) rfl (fun ls hl => ?_)
              refine lv_goto (tgt := 22) hx hb dX1_solve_60 (by decide) ?_
              exact ih2 (j + 1) _ _ (by omega) (pm_done_put k4 h3) H locs ls hw (lv_sub hl [1, 2, 3, 0] rfl)
        exact L2 4 0 tp1 bt1 rfl k2 _ _ _ hw (lv_sub hl [2, 3, 1, 0] rfl)
  refine lv_iconst (v := nI 0) hx hb dX1_solve_0 (by decide) ?_
  refine lv_istore_n (lv' := [(1, .int (nI 0)), (0, .ref h)]) hx hb dX1_solve_1 rfl hl (by decide) rfl (fun ls hl => ?_)
  exact L1 16 0 ra tp bt rfl (pm_done_0 R S tp bt) _ _ _ hw (lv_sub hl [1, 0] rfl)
set_option maxHeartbeats 4000000 in
set_option maxRecDepth 100000 in
theorem pm_common (l : Launch) (D : va_G) (h : Nat) (q : Nat → Nat) (d : Nat → ClassId) (R S : Nat → Int32) (ra tp bt : Nat → Int64) (k1 mm nn : Nat) (h1 : k1 < 64) (h2 : (tp k1).toInt.natAbs = mm) (h3 : mm < 2 ^ 34) (h4 : bt k1 = lN nn) (h5 : 0 < nn) (h6 : nn < 2 ^ 17) : CL l D (mF h q d) (mT d) yX1_common cX1_common 9 (rmK 0 0) [.ref h, .int (nI k1)] (R, S, ra, tp, bt) (fun r u => u = (R, S, ra, tp, bt) ∧ r = lN (Nat.gcd mm nn)) := by
  refine CL.of (by decide) (Nat.le_of_ble_eq_true rfl) ?_
  intro p e s m below meth c A Q ls hc hret hw hl
  obtain ⟨hx, hb, hml, hown, hts, hK, hA⟩ := id hc
  have hl : lv_has ls 9 [(0, .ref h), (1, .int (nI k1))] := hl
  have L : ∀ (n i x1 y1 : Nat), i + n = 90 → x1 < 2 ^ 63 → 0 < y1 → y1 < 2 ^ 63 → Nat.gcd x1 y1 = Nat.gcd mm nn → pm_eu n x1 y1 → ∀ (H : Heap) (locs : List Loc) (ls : Array Slot), ww D (mF h q d) A s.heap H locs (R, S, ra, tp, bt) → lv_has ls 9 [(0, .ref h), (2, .long (lN x1)), (4, .long (lN y1)), (6, .int (nI i))] → W p l e (rmK 0 0) s m [.ref h, .int (nI k1)].toArray below meth c H locs 0 0 Q (F0 m 39 ls []) := by
    intro n
    induction n with
    | zero =>
      intro i x1 y1 g1 g2 g0 g3 g4 g5 H locs ls hw hl
      refine lv_iload hx hb dX1_common_39 (lv_at hl 3 rfl) ?_
      refine lv_bipush (v := nI 90) hx hb dX1_common_41 (by decide) ?_
      refine n_icmp_ge (tgt := 80) hx hb (by omega) (by omega) dX1_common_43 (by decide) (fun h7 => ?_) (fun h7 => ?_)
      · refine lv_lload hx hb dX1_common_80 (lv_at hl 2 rfl) ?_
        refine lv_lconst (v := 1) hx hb dX1_common_82 (by decide) ?_
        refine W.lcmp hx hb dX1_common_83 ?_
        refine j_if_ge (tgt := 91) hx hb dX1_common_84 (by decide) (fun h8 => ?_) (fun h8 => ?_)
        · refine lv_lload hx hb dX1_common_91 (lv_at hl 2 rfl) ?_
          exact hret _ _ _ _ _ _ dX1_common_93 (⟨rfl, by rw [← g4, pm_eu_0 g0 g5, Nat.gcd_zero_left]⟩) hw
        · exact absurd ((pk_lLE (a := 1) (by decide) g3).mpr g0) h8
      · exact absurd h7 (by omega)
    | succ n ih =>
      intro i x1 y1 g1 g2 g0 g3 g4 g5 H locs ls hw hl
      refine lv_iload hx hb dX1_common_39 (lv_at hl 3 rfl) ?_
      refine lv_bipush (v := nI 90) hx hb dX1_common_41 (by decide) ?_
      refine n_icmp_ge (tgt := 80) hx hb (by omega) (by omega) dX1_common_43 (by decide) (fun h7 => ?_) (fun h7 => ?_)
      · exact absurd h7 (by omega)
      · refine lv_lload_n hx hb dX1_common_46 rfl (lv_at hl 1 rfl) ?_
        refine lv_lconst (v := 0) hx hb dX1_common_47 (by decide) ?_
        refine W.lcmp hx hb dX1_common_48 ?_
        refine j_if_eq (tgt := 74) hx hb dX1_common_49 (by decide) (fun h8 => ?_) (fun h8 => ?_)
        · refine lv_iinc (v := nI (i + 1)) (lv' := [(6, .int (nI (i + 1))), (0, .ref h), (2, .long (lN x1)), (4, .long (lN y1))]) hx hb dX1_common_74 hl (k := 3) rfl (n_inc _) (by decide) rfl (fun ls hl => ?_)
          refine lv_goto (tgt := 39) hx hb dX1_common_77 (by decide) ?_
          exact ih (i + 1) x1 y1 (by omega) g2 g0 g3 g4 (by rw [ps_lN0 g2 h8]; exact pm_eu_z) H locs ls hw (lv_sub hl [1, 2, 3, 0] rfl)
        · have h9 : 0 < x1 := Nat.pos_of_ne_zero (fun q => h8 (by rw [q]; exact lN_0))
          refine lv_lload hx hb dX1_common_52 (lv_at hl 2 rfl) ?_
          refine lv_lload_n hx hb dX1_common_54 rfl (lv_at hl 1 rfl) ?_
          refine lv_lconst (v := 0) hx hb dX1_common_55 (by decide) ?_
          refine W.lcmp hx hb dX1_common_56 ?_
          refine j_if_ne (tgt := 64) hx hb dX1_common_57 (by decide) (fun h10 => ?_) (fun h10 => ?_)
          · refine lv_lload_n hx hb dX1_common_64 rfl (lv_at hl 1 rfl) ?_
            refine lv_lrem hx hb dX1_common_65 h8 ?_
            refine n_topl (y := lN (y1 % x1)) (pk_lRem g3 h9 g2) ?_
            refine lv_lstore (lv' := [(7, .long (lN (y1 % x1))), (0, .ref h), (2, .long (lN x1)), (4, .long (lN y1)), (6, .int (nI i))]) hx hb dX1_common_66 hl (by decide) rfl (fun ls hl => ?_)
            refine lv_lload_n hx hb dX1_common_68 rfl (lv_at hl 2 rfl) ?_
            refine lv_lstore (lv' := [(4, .long (lN x1)), (7, .long (lN (y1 % x1))), (0, .ref h), (2, .long (lN x1)), (6, .int (nI i))]) hx hb dX1_common_69 hl (by decide) rfl (fun ls hl => ?_)
            refine lv_lload hx hb dX1_common_71 (lv_at hl 1 rfl) ?_
            refine lv_lstore_n (lv' := [(2, .long (lN (y1 % x1))), (4, .long (lN x1)), (7, .long (lN (y1 % x1))), (0, .ref h), (6, .int (nI i))]) hx hb dX1_common_73 rfl hl (by decide) rfl (fun ls hl => ?_)
            refine lv_iinc (v := nI (i + 1)) (lv' := [(6, .int (nI (i + 1))), (2, .long (lN (y1 % x1))), (4, .long (lN x1)), (7, .long (lN (y1 % x1))), (0, .ref h)]) hx hb dX1_common_74 hl (k := 4) rfl (n_inc _) (by decide) rfl (fun ls hl => ?_)
            refine lv_goto (tgt := 39) hx hb dX1_common_77 (by decide) ?_
            have h11 := Nat.mod_lt y1 h9
            exact ih (i + 1) (y1 % x1) x1 (by omega) (by omega) h9 g2 (by rw [← Nat.gcd_rec]; exact g4) (pm_eu_s h9 g5) H locs ls hw (lv_sub hl [4, 1, 2, 0] rfl)
          · exact absurd h10 h8
  have J : W p l e (rmK 0 0) s m [.ref h, .int (nI k1)].toArray below meth c s.heap [] 0 0 Q (F0 m 27 ls [.long (lN mm)]) := by
    refine lv_lstore_n (lv' := [(2, .long (lN mm)), (0, .ref h), (1, .int (nI k1))]) hx hb dX1_common_27 rfl hl (by decide) rfl (fun ls hl => ?_)
    refine lv_aload_n hx hb dX1_common_28 rfl (lv_at hl 1 rfl) ?_
    refine m_get4 hc hw dX1_common_29 ?_
    refine lv_iload_n hx hb dX1_common_32 rfl (lv_at hl 2 rfl) ?_
    refine m_ld4 hc hw (by omega) dX1_common_33 ?_
    refine n_topl (y := lN nn) h4 ?_
    refine lv_lstore (lv' := [(4, .long (lN nn)), (2, .long (lN mm)), (0, .ref h), (1, .int (nI k1))]) hx hb dX1_common_34 hl (by decide) rfl (fun ls hl => ?_)
    refine lv_iconst (v := nI 0) hx hb dX1_common_36 (by decide) ?_
    refine lv_istore (lv' := [(6, .int (nI 0)), (4, .long (lN nn)), (2, .long (lN mm)), (0, .ref h), (1, .int (nI k1))]) hx hb dX1_common_37 hl (by decide) rfl (fun ls hl => ?_)
    exact L 90 0 mm nn rfl (by omega) h5 (by omega) rfl (Or.inr ⟨by decide, Nat.lt_of_lt_of_le (Nat.mul_lt_mul_of_lt_of_lt h3 h6) (by decide)⟩) _ _ _ hw (lv_sub hl [3, 2, 1, 0] rfl)
  refine lv_aload_n hx hb dX1_common_0 rfl (lv_at hl 0 rfl) ?_
  refine m_get3 hc hw dX1_common_1 ?_
  refine lv_iload_n hx hb dX1_common_4 rfl (lv_at hl 1 rfl) ?_
  refine m_ld3 hc hw (by omega) dX1_common_5 ?_
  refine lv_lconst (v := 0) hx hb dX1_common_6 (by decide) ?_
  refine W.lcmp hx hb dX1_common_7 ?_
  refine j_if_ge (tgt := 21) hx hb dX1_common_8 (by decide) (fun h7 => ?_) (fun h7 => ?_)
  · refine lv_aload_n hx hb dX1_common_21 rfl (lv_at hl 0 rfl) ?_
    refine m_get3 hc hw dX1_common_22 ?_
    refine lv_iload_n hx hb dX1_common_25 rfl (lv_at hl 1 rfl) ?_
    refine m_ld3 hc hw (by omega) dX1_common_26 ?_
    refine n_topl (y := lN mm) (ps_abs_pos h2 h7) ?_
    exact J
  · refine lv_aload_n hx hb dX1_common_11 rfl (lv_at hl 0 rfl) ?_
    refine m_get3 hc hw dX1_common_12 ?_
    refine lv_iload_n hx hb dX1_common_15 rfl (lv_at hl 1 rfl) ?_
    refine m_ld3 hc hw (by omega) dX1_common_16 ?_
    refine lv_lneg hx hb dX1_common_17 ?_
    refine lv_goto (tgt := 27) hx hb dX1_common_18 (by decide) ?_
    refine n_topl (y := lN mm) (ps_abs_neg h2 (by omega) h7) ?_
    exact J
end
section
set_option maxHeartbeats 4000000 in
set_option maxRecDepth 100000 in
theorem pm_valueTop (l : Launch) (D : va_G) (h : Nat) (q : Nat → Nat) (d : Nat → ClassId) (R S : Nat → Int32) (ra tp bt : Nat → Int64) (x1 x2 : Int32) (hok : ps_Ok R S) : CI l D (mF h q d) (mT d) yX1_valueTop cX1_valueTop 5 .int (rmK 4 120) [.ref h, .int x1, .int x2] (R, S, ra, tp, bt) (fun r u => (∃ ra1 tp1 bt1, u = (R, S, ra1, tp1, bt1)) ∧ ((∃ p1 s1, p1 < 16 ∧ s1 < 4 ∧ x1 = nI p1 ∧ x2 = nI s1 ∧ r = ps_frT (ps_tp R S p1 s1) (ps_bo R S p1)) ∨ (¬ (ps_in x1 16 ∧ ps_in x2 4) ∧ r = -1000000))) := by
  refine CI.of (by decide) (Nat.le_of_ble_eq_true rfl) ?_
  intro p e s m below meth c A Q ls hc hret hw hl
  obtain ⟨hx, hb, hml, hown, hts, hK, hA⟩ := id hc
  have hl : lv_has ls 5 [(0, .ref h), (1, .int x1), (2, .int x2)] := hl
  refine lv_aload_n hx hb dX1_valueTop_0 rfl (lv_at hl 0 rfl) ?_
  refine lv_iload_n hx hb dX1_valueTop_1 rfl (lv_at hl 1 rfl) ?_
  refine CI.call (As := [.int x1]) (rest := []) (ci := 1) (n := 1) (pm_isPolicy l D h q d (R, S, ra, tp, bt) x1) hc hw rfl rfl (cwV 1 hts (lw_V q213 q215 qs14 q28 q216) rfl rfl rfl (by decide +kernel) ⟨Nat.le_of_ble_eq_true rfl, Nat.le_of_ble_eq_true rfl⟩) rfl hl.1 rfl (Nat.le_of_ble_eq_true rfl) ⟨Nat.le_of_ble_eq_true rfl, Nat.le_of_ble_eq_true rfl⟩ dX1_valueTop_2 (fun r u H locs hu hwc => ?_)
  have hw : ww D (mF h q d) A s.heap H locs (R, S, ra, tp, bt) := by rw [hu.1] at hwc; exact hwc
  obtain ⟨-, hu⟩ := hu
  rcases hu with ⟨rfl, h1⟩ | ⟨rfl, h1⟩
  · refine lv_if_eq (tgt := 16) hx hb dX1_valueTop_5 (by decide) (fun hN => ?_) (fun hN => ?_)
    · exact absurd hN (by decide)
    · refine lv_aload_n hx hb dX1_valueTop_8 rfl (lv_at hl 0 rfl) ?_
      refine lv_iload_n hx hb dX1_valueTop_9 rfl (lv_at hl 2 rfl) ?_
      refine CI.call (As := [.int x2]) (rest := []) (ci := 1) (n := 1) (pm_isState l D h q d (R, S, ra, tp, bt) x2) hc hw rfl rfl (cwV 1 hts (lw_V q217 q219 qs15 q28 q220) rfl rfl rfl (by decide +kernel) ⟨Nat.le_of_ble_eq_true rfl, Nat.le_of_ble_eq_true rfl⟩) rfl hl.1 rfl (Nat.le_of_ble_eq_true rfl) ⟨Nat.le_of_ble_eq_true rfl, Nat.le_of_ble_eq_true rfl⟩ dX1_valueTop_10 (fun r u H locs hu hwc => ?_)
      have hw : ww D (mF h q d) A s.heap H locs (R, S, ra, tp, bt) := by rw [hu.1] at hwc; exact hwc
      obtain ⟨-, hu⟩ := hu
      rcases hu with ⟨rfl, h2⟩ | ⟨rfl, h2⟩
      · refine lv_if_ne (tgt := 19) hx hb dX1_valueTop_13 (by decide) (fun hN => ?_) (fun hN => ?_)
        · obtain ⟨p1, hp1, rfl⟩ := h1
          obtain ⟨s1, hs1, rfl⟩ := h2
          refine lv_aload_n hx hb dX1_valueTop_19 rfl (lv_at hl 0 rfl) ?_
          refine CV.call (As := []) (rest := []) (ci := 1) (n := 0) (pm_solve l D h q d R S ra tp bt hok) hc hw rfl rfl (cwV 0 hts (lw_V q222 q224 qs16 q28 q225) rfl rfl rfl (by decide +kernel) ⟨Nat.le_of_ble_eq_true rfl, Nat.le_of_ble_eq_true rfl⟩) rfl hl.1 rfl (Nat.le_of_ble_eq_true rfl) ⟨Nat.le_of_ble_eq_true rfl, Nat.le_of_ble_eq_true rfl⟩ dX1_valueTop_20 (fun u H locs hu hwc => ?_)
          obtain ⟨ra1, tp1, bt1, rfl, hall⟩ := hu
          have hw : ww D (mF h q d) A s.heap H locs (R, S, ra1, tp1, bt1) := hwc
          obtain ⟨ha1, ha2⟩ := hall p1 s1 hp1 hs1
          refine lv_aload_n hx hb dX1_valueTop_23 rfl (lv_at hl 0 rfl) ?_
          refine lv_iconst (v := nI 4) hx hb dX1_valueTop_24 (by decide) ?_
          refine lv_iload_n hx hb dX1_valueTop_25 rfl (lv_at hl 1 rfl) ?_
          refine n_imul hx hb dX1_valueTop_26 ?_
          refine lv_iload_n hx hb dX1_valueTop_27 rfl (lv_at hl 2 rfl) ?_
          refine n_iadd hx hb dX1_valueTop_28 ?_
          refine CL.call (As := [.int (nI ((4 * p1) + s1))]) (rest := []) (ci := 1) (n := 1) (pm_common l D h q d R S ra1 tp1 bt1 (4 * p1 + s1) (ps_tp R S p1 s1).natAbs (ps_bo R S p1).toNat (by omega) (by rw [ha1]; exact ps_absT (ps_tp_b hok p1 s1)) (ps_tp_b hok p1 s1) (ha2.trans (ps_boN hok p1).1) (ps_boN hok p1).2.1 (ps_boN hok p1).2.2) hc hw rfl rfl (cwV 1 hts (lw_V q243 q245 qs21 q28 q246) rfl rfl rfl (by decide +kernel) ⟨Nat.le_of_ble_eq_true rfl, Nat.le_of_ble_eq_true rfl⟩) rfl hl.1 rfl (Nat.le_of_ble_eq_true rfl) ⟨Nat.le_of_ble_eq_true rfl, Nat.le_of_ble_eq_true rfl⟩ dX1_valueTop_29 (fun r u H locs hu hwc => ?_)
          have hw : ww D (mF h q d) A s.heap H locs (R, S, ra1, tp1, bt1) := by rw [hu.1] at hwc; exact hwc
          obtain ⟨-, rfl⟩ := hu
          refine lv_lstore_n (lv' := [(3, .long (lN (Nat.gcd (ps_tp R S p1 s1).natAbs (ps_bo R S p1).toNat))), (0, .ref h), (1, .int (nI p1)), (2, .int (nI s1))]) hx hb dX1_valueTop_32 rfl hl (by decide) rfl (fun ls hl => ?_)
          refine lv_aload_n hx hb dX1_valueTop_33 rfl (lv_at hl 1 rfl) ?_
          refine m_get3 hc hw dX1_valueTop_34 ?_
          refine lv_iconst (v := nI 4) hx hb dX1_valueTop_37 (by decide) ?_
          refine lv_iload_n hx hb dX1_valueTop_38 rfl (lv_at hl 2 rfl) ?_
          refine n_imul hx hb dX1_valueTop_39 ?_
          refine lv_iload_n hx hb dX1_valueTop_40 rfl (lv_at hl 3 rfl) ?_
          refine n_iadd hx hb dX1_valueTop_41 ?_
          refine m_ld3 hc hw (by omega) dX1_valueTop_42 ?_
          refine n_topl (y := Int64.ofInt (ps_tp R S p1 s1)) ha1 ?_
          refine lv_lload_n hx hb dX1_valueTop_43 rfl (lv_at hl 0 rfl) ?_
          refine lv_ldiv hx hb dX1_valueTop_44 (ps_lNne (ps_gcd_lt (ps_boN hok p1).2.1 (Nat.lt_trans (ps_boN hok p1).2.2 (by decide))) (ps_gcd_pos (ps_boN hok p1).2.1)) ?_
          refine lv_l2i (v := ((Int64.ofInt (ps_tp R S p1 s1)) / (lN (Nat.gcd (ps_tp R S p1 s1).natAbs (ps_bo R S p1).toNat))).toInt32) hx hb dX1_valueTop_45 rfl ?_
          exact hret _ _ _ _ _ _ dX1_valueTop_46 (vp_nar_int _) (⟨⟨_, _, _, rfl⟩, Or.inl ⟨p1, s1, hp1, hs1, rfl, rfl, rfl⟩⟩) hw
        · exact absurd hN (by decide)
      · refine lv_if_ne (tgt := 19) hx hb dX1_valueTop_13 (by decide) (fun hN => ?_) (fun hN => ?_)
        · exact absurd hN (by decide)
        · refine lv_ldc (v := -1000000) hx hb hown (hts _ q221) dX1_valueTop_16 ?_
          exact hret _ _ _ _ _ _ dX1_valueTop_18 (rfl) (⟨⟨_, _, _, rfl⟩, Or.inr ⟨fun z => h2 z.2, rfl⟩⟩) hw
  · refine lv_if_eq (tgt := 16) hx hb dX1_valueTop_5 (by decide) (fun hN => ?_) (fun hN => ?_)
    · refine lv_ldc (v := -1000000) hx hb hown (hts _ q221) dX1_valueTop_16 ?_
      exact hret _ _ _ _ _ _ dX1_valueTop_18 (rfl) (⟨⟨_, _, _, rfl⟩, Or.inr ⟨fun z => h1 z.1, rfl⟩⟩) hw
    · exact absurd hN (by decide)
set_option maxHeartbeats 4000000 in
set_option maxRecDepth 100000 in
theorem pm_valueBottom (l : Launch) (D : va_G) (h : Nat) (q : Nat → Nat) (d : Nat → ClassId) (R S : Nat → Int32) (ra tp bt : Nat → Int64) (x1 x2 : Int32) (hok : ps_Ok R S) : CI l D (mF h q d) (mT d) yX1_valueBottom cX1_valueBottom 5 .int (rmK 4 120) [.ref h, .int x1, .int x2] (R, S, ra, tp, bt) (fun r u => (∃ ra1 tp1 bt1, u = (R, S, ra1, tp1, bt1)) ∧ ((∃ p1 s1, p1 < 16 ∧ s1 < 4 ∧ x1 = nI p1 ∧ x2 = nI s1 ∧ r = ps_frB (ps_tp R S p1 s1) (ps_bo R S p1)) ∨ (¬ (ps_in x1 16 ∧ ps_in x2 4) ∧ r = -1000000))) := by
  refine CI.of (by decide) (Nat.le_of_ble_eq_true rfl) ?_
  intro p e s m below meth c A Q ls hc hret hw hl
  obtain ⟨hx, hb, hml, hown, hts, hK, hA⟩ := id hc
  have hl : lv_has ls 5 [(0, .ref h), (1, .int x1), (2, .int x2)] := hl
  refine lv_aload_n hx hb dX1_valueBottom_0 rfl (lv_at hl 0 rfl) ?_
  refine lv_iload_n hx hb dX1_valueBottom_1 rfl (lv_at hl 1 rfl) ?_
  refine CI.call (As := [.int x1]) (rest := []) (ci := 1) (n := 1) (pm_isPolicy l D h q d (R, S, ra, tp, bt) x1) hc hw rfl rfl (cwV 1 hts (lw_V q213 q215 qs14 q28 q216) rfl rfl rfl (by decide +kernel) ⟨Nat.le_of_ble_eq_true rfl, Nat.le_of_ble_eq_true rfl⟩) rfl hl.1 rfl (Nat.le_of_ble_eq_true rfl) ⟨Nat.le_of_ble_eq_true rfl, Nat.le_of_ble_eq_true rfl⟩ dX1_valueBottom_2 (fun r u H locs hu hwc => ?_)
  have hw : ww D (mF h q d) A s.heap H locs (R, S, ra, tp, bt) := by rw [hu.1] at hwc; exact hwc
  obtain ⟨-, hu⟩ := hu
  rcases hu with ⟨rfl, h1⟩ | ⟨rfl, h1⟩
  · refine lv_if_eq (tgt := 16) hx hb dX1_valueBottom_5 (by decide) (fun hN => ?_) (fun hN => ?_)
    · exact absurd hN (by decide)
    · refine lv_aload_n hx hb dX1_valueBottom_8 rfl (lv_at hl 0 rfl) ?_
      refine lv_iload_n hx hb dX1_valueBottom_9 rfl (lv_at hl 2 rfl) ?_
      refine CI.call (As := [.int x2]) (rest := []) (ci := 1) (n := 1) (pm_isState l D h q d (R, S, ra, tp, bt) x2) hc hw rfl rfl (cwV 1 hts (lw_V q217 q219 qs15 q28 q220) rfl rfl rfl (by decide +kernel) ⟨Nat.le_of_ble_eq_true rfl, Nat.le_of_ble_eq_true rfl⟩) rfl hl.1 rfl (Nat.le_of_ble_eq_true rfl) ⟨Nat.le_of_ble_eq_true rfl, Nat.le_of_ble_eq_true rfl⟩ dX1_valueBottom_10 (fun r u H locs hu hwc => ?_)
      have hw : ww D (mF h q d) A s.heap H locs (R, S, ra, tp, bt) := by rw [hu.1] at hwc; exact hwc
      obtain ⟨-, hu⟩ := hu
      rcases hu with ⟨rfl, h2⟩ | ⟨rfl, h2⟩
      · refine lv_if_ne (tgt := 19) hx hb dX1_valueBottom_13 (by decide) (fun hN => ?_) (fun hN => ?_)
        · obtain ⟨p1, hp1, rfl⟩ := h1
          obtain ⟨s1, hs1, rfl⟩ := h2
          refine lv_aload_n hx hb dX1_valueBottom_19 rfl (lv_at hl 0 rfl) ?_
          refine CV.call (As := []) (rest := []) (ci := 1) (n := 0) (pm_solve l D h q d R S ra tp bt hok) hc hw rfl rfl (cwV 0 hts (lw_V q222 q224 qs16 q28 q225) rfl rfl rfl (by decide +kernel) ⟨Nat.le_of_ble_eq_true rfl, Nat.le_of_ble_eq_true rfl⟩) rfl hl.1 rfl (Nat.le_of_ble_eq_true rfl) ⟨Nat.le_of_ble_eq_true rfl, Nat.le_of_ble_eq_true rfl⟩ dX1_valueBottom_20 (fun u H locs hu hwc => ?_)
          obtain ⟨ra1, tp1, bt1, rfl, hall⟩ := hu
          have hw : ww D (mF h q d) A s.heap H locs (R, S, ra1, tp1, bt1) := hwc
          obtain ⟨ha1, ha2⟩ := hall p1 s1 hp1 hs1
          refine lv_aload_n hx hb dX1_valueBottom_23 rfl (lv_at hl 0 rfl) ?_
          refine lv_iconst (v := nI 4) hx hb dX1_valueBottom_24 (by decide) ?_
          refine lv_iload_n hx hb dX1_valueBottom_25 rfl (lv_at hl 1 rfl) ?_
          refine n_imul hx hb dX1_valueBottom_26 ?_
          refine lv_iload_n hx hb dX1_valueBottom_27 rfl (lv_at hl 2 rfl) ?_
          refine n_iadd hx hb dX1_valueBottom_28 ?_
          refine CL.call (As := [.int (nI ((4 * p1) + s1))]) (rest := []) (ci := 1) (n := 1) (pm_common l D h q d R S ra1 tp1 bt1 (4 * p1 + s1) (ps_tp R S p1 s1).natAbs (ps_bo R S p1).toNat (by omega) (by rw [ha1]; exact ps_absT (ps_tp_b hok p1 s1)) (ps_tp_b hok p1 s1) (ha2.trans (ps_boN hok p1).1) (ps_boN hok p1).2.1 (ps_boN hok p1).2.2) hc hw rfl rfl (cwV 1 hts (lw_V q243 q245 qs21 q28 q246) rfl rfl rfl (by decide +kernel) ⟨Nat.le_of_ble_eq_true rfl, Nat.le_of_ble_eq_true rfl⟩) rfl hl.1 rfl (Nat.le_of_ble_eq_true rfl) ⟨Nat.le_of_ble_eq_true rfl, Nat.le_of_ble_eq_true rfl⟩ dX1_valueBottom_29 (fun r u H locs hu hwc => ?_)
          have hw : ww D (mF h q d) A s.heap H locs (R, S, ra1, tp1, bt1) := by rw [hu.1] at hwc; exact hwc
          obtain ⟨-, rfl⟩ := hu
          refine lv_lstore_n (lv' := [(3, .long (lN (Nat.gcd (ps_tp R S p1 s1).natAbs (ps_bo R S p1).toNat))), (0, .ref h), (1, .int (nI p1)), (2, .int (nI s1))]) hx hb dX1_valueBottom_32 rfl hl (by decide) rfl (fun ls hl => ?_)
          refine lv_aload_n hx hb dX1_valueBottom_33 rfl (lv_at hl 1 rfl) ?_
          refine m_get4 hc hw dX1_valueBottom_34 ?_
          refine lv_iconst (v := nI 4) hx hb dX1_valueBottom_37 (by decide) ?_
          refine lv_iload_n hx hb dX1_valueBottom_38 rfl (lv_at hl 2 rfl) ?_
          refine n_imul hx hb dX1_valueBottom_39 ?_
          refine lv_iload_n hx hb dX1_valueBottom_40 rfl (lv_at hl 3 rfl) ?_
          refine n_iadd hx hb dX1_valueBottom_41 ?_
          refine m_ld4 hc hw (by omega) dX1_valueBottom_42 ?_
          refine n_topl (y := lN (ps_bo R S p1).toNat) (ha2.trans (ps_boN hok p1).1) ?_
          refine lv_lload_n hx hb dX1_valueBottom_43 rfl (lv_at hl 0 rfl) ?_
          refine lv_ldiv hx hb dX1_valueBottom_44 (ps_lNne (ps_gcd_lt (ps_boN hok p1).2.1 (Nat.lt_trans (ps_boN hok p1).2.2 (by decide))) (ps_gcd_pos (ps_boN hok p1).2.1)) ?_
          refine lv_l2i (v := ((lN (ps_bo R S p1).toNat) / (lN (Nat.gcd (ps_tp R S p1 s1).natAbs (ps_bo R S p1).toNat))).toInt32) hx hb dX1_valueBottom_45 rfl ?_
          exact hret _ _ _ _ _ _ dX1_valueBottom_46 (vp_nar_int _) (⟨⟨_, _, _, rfl⟩, Or.inl ⟨p1, s1, hp1, hs1, rfl, rfl, rfl⟩⟩) hw
        · exact absurd hN (by decide)
      · refine lv_if_ne (tgt := 19) hx hb dX1_valueBottom_13 (by decide) (fun hN => ?_) (fun hN => ?_)
        · exact absurd hN (by decide)
        · refine lv_ldc (v := -1000000) hx hb hown (hts _ q221) dX1_valueBottom_16 ?_
          exact hret _ _ _ _ _ _ dX1_valueBottom_18 (rfl) (⟨⟨_, _, _, rfl⟩, Or.inr ⟨fun z => h2 z.2, rfl⟩⟩) hw
  · refine lv_if_eq (tgt := 16) hx hb dX1_valueBottom_5 (by decide) (fun hN => ?_) (fun hN => ?_)
    · refine lv_ldc (v := -1000000) hx hb hown (hts _ q221) dX1_valueBottom_16 ?_
      exact hret _ _ _ _ _ _ dX1_valueBottom_18 (rfl) (⟨⟨_, _, _, rfl⟩, Or.inr ⟨fun z => h1 z.1, rfl⟩⟩) hw
    · exact absurd hN (by decide)
set_option maxHeartbeats 4000000 in
set_option maxRecDepth 100000 in
theorem pm_order (l : Launch) (D : va_G) (h : Nat) (q : Nat → Nat) (d : Nat → ClassId) (R S : Nat → Int32) (ra tp bt : Nat → Int64) (p1 p2 s1 : Nat) (h1 : p1 < 16) (h2 : p2 < 16) (h3 : s1 < 4) (hok : ps_Ok R S) (hall : pm_all R S tp bt) : CI l D (mF h q d) (mT d) yX1_order cX1_order 8 .int (rmK 0 0) [.ref h, .int (nI p1), .int (nI p2), .int (nI s1)] (R, S, ra, tp, bt) (fun r u => u = (R, S, ra, tp, bt) ∧ r = ps_cmp (ps_tp R S p1 s1 * ps_bo R S p2) (ps_tp R S p2 s1 * ps_bo R S p1)) := by
  refine CI.of (by decide) (Nat.le_of_ble_eq_true rfl) ?_
  intro p e s m below meth c A Q ls hc hret hw hl
  obtain ⟨hx, hb, hml, hown, hts, hK, hA⟩ := id hc
  have hl : lv_has ls 8 [(0, .ref h), (1, .int (nI p1)), (2, .int (nI p2)), (3, .int (nI s1))] := hl
  obtain ⟨ha1, ha2⟩ := hall p1 s1 h1 h3
  obtain ⟨hb1, hb2⟩ := hall p2 s1 h2 h3
  refine lv_aload_n hx hb dX1_order_0 rfl (lv_at hl 0 rfl) ?_
  refine m_get3 hc hw dX1_order_1 ?_
  refine lv_iconst (v := nI 4) hx hb dX1_order_4 (by decide) ?_
  refine lv_iload_n hx hb dX1_order_5 rfl (lv_at hl 1 rfl) ?_
  refine n_imul hx hb dX1_order_6 ?_
  refine lv_iload_n hx hb dX1_order_7 rfl (lv_at hl 3 rfl) ?_
  refine n_iadd hx hb dX1_order_8 ?_
  refine m_ld3 hc hw (by omega) dX1_order_9 ?_
  refine n_topl (y := Int64.ofInt (ps_tp R S p1 s1)) ha1 ?_
  refine lv_aload_n hx hb dX1_order_10 rfl (lv_at hl 0 rfl) ?_
  refine m_get4 hc hw dX1_order_11 ?_
  refine lv_iconst (v := nI 4) hx hb dX1_order_14 (by decide) ?_
  refine lv_iload_n hx hb dX1_order_15 rfl (lv_at hl 2 rfl) ?_
  refine n_imul hx hb dX1_order_16 ?_
  refine lv_iload_n hx hb dX1_order_17 rfl (lv_at hl 3 rfl) ?_
  refine n_iadd hx hb dX1_order_18 ?_
  refine m_ld4 hc hw (by omega) dX1_order_19 ?_
  refine n_topl (y := Int64.ofInt (ps_bo R S p2)) hb2 ?_
  refine lv_lmul hx hb dX1_order_20 ?_
  refine lv_lstore (lv' := [(4, .long ((Int64.ofInt (ps_tp R S p1 s1)) * (Int64.ofInt (ps_bo R S p2)))), (0, .ref h), (1, .int (nI p1)), (2, .int (nI p2)), (3, .int (nI s1))]) hx hb dX1_order_21 hl (by decide) rfl (fun ls hl => ?_)
  refine lv_aload_n hx hb dX1_order_23 rfl (lv_at hl 1 rfl) ?_
  refine m_get3 hc hw dX1_order_24 ?_
  refine lv_iconst (v := nI 4) hx hb dX1_order_27 (by decide) ?_
  refine lv_iload_n hx hb dX1_order_28 rfl (lv_at hl 3 rfl) ?_
  refine n_imul hx hb dX1_order_29 ?_
  refine lv_iload_n hx hb dX1_order_30 rfl (lv_at hl 4 rfl) ?_
  refine n_iadd hx hb dX1_order_31 ?_
  refine m_ld3 hc hw (by omega) dX1_order_32 ?_
  refine n_topl (y := Int64.ofInt (ps_tp R S p2 s1)) hb1 ?_
  refine lv_aload_n hx hb dX1_order_33 rfl (lv_at hl 1 rfl) ?_
  refine m_get4 hc hw dX1_order_34 ?_
  refine lv_iconst (v := nI 4) hx hb dX1_order_37 (by decide) ?_
  refine lv_iload_n hx hb dX1_order_38 rfl (lv_at hl 2 rfl) ?_
  refine n_imul hx hb dX1_order_39 ?_
  refine lv_iload_n hx hb dX1_order_40 rfl (lv_at hl 4 rfl) ?_
  refine n_iadd hx hb dX1_order_41 ?_
  refine m_ld4 hc hw (by omega) dX1_order_42 ?_
  refine n_topl (y := Int64.ofInt (ps_bo R S p1)) ha2 ?_
  refine lv_lmul hx hb dX1_order_43 ?_
  refine lv_lstore (lv' := [(6, .long ((Int64.ofInt (ps_tp R S p2 s1)) * (Int64.ofInt (ps_bo R S p1)))), (4, .long ((Int64.ofInt (ps_tp R S p1 s1)) * (Int64.ofInt (ps_bo R S p2)))), (0, .ref h), (1, .int (nI p1)), (2, .int (nI p2)), (3, .int (nI s1))]) hx hb dX1_order_44 hl (by decide) rfl (fun ls hl => ?_)
  refine lv_lload hx hb dX1_order_46 (lv_at hl 1 rfl) ?_
  refine lv_lload hx hb dX1_order_48 (lv_at hl 0 rfl) ?_
  refine W.lcmp hx hb dX1_order_50 ?_
  refine j_if_ge (tgt := 58) hx hb dX1_order_51 (by decide) (fun h4 => ?_) (fun h4 => ?_)
  · refine lv_lload hx hb dX1_order_58 (lv_at hl 1 rfl) ?_
    refine lv_lload hx hb dX1_order_60 (lv_at hl 0 rfl) ?_
    refine W.lcmp hx hb dX1_order_62 ?_
    refine j_if_le (tgt := 70) hx hb dX1_order_63 (by decide) (fun h5 => ?_) (fun h5 => ?_)
    · refine lv_iconst (v := 0) hx hb dX1_order_70 (by decide) ?_
      exact hret _ _ _ _ _ _ dX1_order_71 (rfl) (⟨rfl, by
        have z1 := (ps_prE hok _ _ _ _ _ _).mp h4
        have z2 := (ps_prE hok _ _ _ _ _ _).mp h5
        unfold ps_cmp
        rw [if_neg (by omega), if_neg (by omega)]⟩) hw
    · refine lv_iconst (v := 1) hx hb dX1_order_66 (by decide) ?_
      refine lv_goto (tgt := 71) hx hb dX1_order_67 (by decide) ?_
      exact hret _ _ _ _ _ _ dX1_order_71 (rfl) (⟨rfl, by
        have z1 := (ps_prE hok _ _ _ _ _ _).mp h4
        have z2 := mt (ps_prE hok _ _ _ _ _ _).mpr h5
        unfold ps_cmp
        rw [if_neg (by omega), if_pos (by omega)]⟩) hw
  · refine lv_iconst (v := (-1)) hx hb dX1_order_54 (by decide) ?_
    refine lv_goto (tgt := 71) hx hb dX1_order_55 (by decide) ?_
    exact hret _ _ _ _ _ _ dX1_order_71 (rfl) (⟨rfl, by
      have z1 := mt (ps_prE hok _ _ _ _ _ _).mpr h4
      unfold ps_cmp
      rw [if_pos (by omega)]⟩) hw
set_option maxHeartbeats 4000000 in
set_option maxRecDepth 100000 in
theorem pm_isBest (l : Launch) (D : va_G) (h : Nat) (q : Nat → Nat) (d : Nat → ClassId) (R S : Nat → Int32) (ra tp bt : Nat → Int64) (p1 : Nat) (h1 : p1 < 16) (hok : ps_Ok R S) (hall : pm_all R S tp bt) : CI l D (mF h q d) (mT d) yX1_isBest cX1_isBest 4 .boolean (rmK 1 30) [.ref h, .int (nI p1)] (R, S, ra, tp, bt) (fun r u => u = (R, S, ra, tp, bt) ∧ ((r = 1 ∧ pi_best (ps_tp R S) (ps_bo R S) p1) ∨ (r = 0 ∧ ¬ pi_best (ps_tp R S) (ps_bo R S) p1))) := by
  refine CI.of (by decide) (Nat.le_of_ble_eq_true rfl) ?_
  intro p e s m below meth c A Q ls hc hret hw hl
  obtain ⟨hx, hb, hml, hown, hts, hK, hA⟩ := id hc
  have hl : lv_has ls 4 [(0, .ref h), (1, .int (nI p1))] := hl
  have L1 : ∀ (n i : Nat), i + n = 16 → (∀ p2, p2 < i → ∀ s1, s1 < 4 → ps_tp R S p2 s1 * ps_bo R S p1 ≤ ps_tp R S p1 s1 * ps_bo R S p2) → ∀ (H : Heap) (locs : List Loc) (ls : Array Slot), ww D (mF h q d) A s.heap H locs (R, S, ra, tp, bt) → lv_has ls 4 [(0, .ref h), (1, .int (nI p1)), (2, .int (nI i))] → W p l e (rmK 1 30) s m [.ref h, .int (nI p1)].toArray below meth c H locs 0 0 Q (F0 m 2 ls []) := by
    intro n
    induction n with
    | zero =>
      intro i k1 k2 H locs ls hw hl
      refine lv_iload_n hx hb dX1_isBest_2 rfl (lv_at hl 2 rfl) ?_
      refine lv_bipush (v := nI 16) hx hb dX1_isBest_3 (by decide) ?_
      refine n_icmp_ge (tgt := 39) hx hb (by omega) (by omega) dX1_isBest_5 (by decide) (fun h2 => ?_) (fun h2 => ?_)
      · refine lv_iconst (v := 1) hx hb dX1_isBest_39 (by decide) ?_
        exact hret _ _ _ _ _ _ dX1_isBest_40 (rfl) (⟨rfl, Or.inl ⟨rfl, fun p2 hp2 s1 hs1 => k2 p2 (by omega) s1 hs1⟩⟩) hw
      · exact absurd h2 (by omega)
    | succ n ih =>
      intro i k1 k2 H locs ls hw hl
      refine lv_iload_n hx hb dX1_isBest_2 rfl (lv_at hl 2 rfl) ?_
      refine lv_bipush (v := nI 16) hx hb dX1_isBest_3 (by decide) ?_
      refine n_icmp_ge (tgt := 39) hx hb (by omega) (by omega) dX1_isBest_5 (by decide) (fun h2 => ?_) (fun h2 => ?_)
      · exact absurd h2 (by omega)
      · refine lv_iconst (v := nI 0) hx hb dX1_isBest_8 (by decide) ?_
        refine lv_istore_n (lv' := [(3, .int (nI 0)), (0, .ref h), (1, .int (nI p1)), (2, .int (nI i))]) hx hb dX1_isBest_9 rfl hl (by decide) rfl (fun ls hl => ?_)
        have L2 : ∀ (n2 j : Nat), j + n2 = 4 → (∀ s1, s1 < j → ps_tp R S i s1 * ps_bo R S p1 ≤ ps_tp R S p1 s1 * ps_bo R S i) → ∀ (H : Heap) (locs : List Loc) (ls : Array Slot), ww D (mF h q d) A s.heap H locs (R, S, ra, tp, bt) → lv_has ls 4 [(0, .ref h), (1, .int (nI p1)), (2, .int (nI i)), (3, .int (nI j))] → W p l e (rmK 1 30) s m [.ref h, .int (nI p1)].toArray below meth c H locs 0 0 Q (F0 m 10 ls []) := by
          intro n2
          induction n2 with
          | zero =>
            intro j k3 k4 H locs ls hw hl
            refine lv_iload_n hx hb dX1_isBest_10 rfl (lv_at hl 3 rfl) ?_
            refine lv_iconst (v := nI 4) hx hb dX1_isBest_11 (by decide) ?_
            refine n_icmp_ge (tgt := 33) hx hb (by omega) (by omega) dX1_isBest_12 (by decide) (fun h3 => ?_) (fun h3 => ?_)
            · refine lv_iinc (v := nI (i + 1)) (lv' := [(2, .int (nI (i + 1))), (0, .ref h), (1, .int (nI p1)), (3, .int (nI j))]) hx hb dX1_isBest_33 hl (k := 2) rfl (n_inc _) (by decide) rfl (fun ls hl => ?_)
              refine lv_goto (tgt := 2) hx hb dX1_isBest_36 (by decide) ?_
              exact ih (i + 1) (by omega) (fun p2 hp2 s1 hs1 => by
                rcases Nat.lt_or_ge p2 i with z | z
                · exact k2 p2 z s1 hs1
                · rw [show p2 = i by omega]
                  exact k4 s1 (by omega)) H locs ls hw (lv_sub hl [1, 2, 0] rfl)
            · exact absurd h3 (by omega)
          | succ n2 ih2 =>
            intro j k3 k4 H locs ls hw hl
            refine lv_iload_n hx hb dX1_isBest_10 rfl (lv_at hl 3 rfl) ?_
            refine lv_iconst (v := nI 4) hx hb dX1_isBest_11 (by decide) ?_
            refine n_icmp_ge (tgt := 33) hx hb (by omega) (by omega) dX1_isBest_12 (by decide) (fun h3 => ?_) (fun h3 => ?_)
            · exact absurd h3 (by omega)
            · refine lv_aload_n hx hb dX1_isBest_15 rfl (lv_at hl 0 rfl) ?_
              refine lv_iload_n hx hb dX1_isBest_16 rfl (lv_at hl 2 rfl) ?_
              refine lv_iload_n hx hb dX1_isBest_17 rfl (lv_at hl 1 rfl) ?_
              refine lv_iload_n hx hb dX1_isBest_18 rfl (lv_at hl 3 rfl) ?_
              refine CI.call (As := [.int (nI i), .int (nI p1), .int (nI j)]) (rest := []) (ci := 1) (n := 3) (pm_order l D h q d R S ra tp bt i p1 j h2 h1 h3 hok hall) hc hw rfl rfl (cwV 3 hts (lw_V q263 q265 qs24 q28 q266) rfl rfl rfl (by decide +kernel) ⟨Nat.le_of_ble_eq_true rfl, Nat.le_of_ble_eq_true rfl⟩) rfl hl.1 rfl (Nat.le_of_ble_eq_true rfl) ⟨Nat.le_of_ble_eq_true rfl, Nat.le_of_ble_eq_true rfl⟩ dX1_isBest_19 (fun r u H locs hu hwc => ?_)
              have hw : ww D (mF h q d) A s.heap H locs (R, S, ra, tp, bt) := by rw [hu.1] at hwc; exact hwc
              obtain ⟨-, rfl⟩ := hu
              refine lv_if_le (tgt := 27) hx hb dX1_isBest_22 (by decide) (fun h4 => ?_) (fun h4 => ?_)
              · refine lv_iinc (v := nI (j + 1)) (lv' := [(3, .int (nI (j + 1))), (0, .ref h), (1, .int (nI p1)), (2, .int (nI i))]) hx hb dX1_isBest_27 hl (k := 3) rfl (n_inc _) (by decide) rfl (fun ls hl => ?_)
                refine lv_goto (tgt := 10) hx hb dX1_isBest_30 (by decide) ?_
                exact ih2 (j + 1) (by omega) (fun s1 hs1 => by
                  rcases Nat.lt_or_ge s1 j with z | z
                  · exact k4 s1 z
                  · rw [show s1 = j by omega]
                    exact (ps_cmp_le _ _).mp h4) H locs ls hw (lv_sub hl [1, 2, 3, 0] rfl)
              · refine lv_iconst (v := 0) hx hb dX1_isBest_25 (by decide) ?_
                exact hret _ _ _ _ _ _ dX1_isBest_26 (rfl) (⟨rfl, Or.inr ⟨rfl, fun z => h4 ((ps_cmp_le _ _).mpr (z i h2 j h3))⟩⟩) hw
        exact L2 4 0 rfl (fun s1 hs1 => absurd hs1 (by omega)) _ _ _ hw (lv_sub hl [1, 2, 3, 0] rfl)
  refine lv_iconst (v := nI 0) hx hb dX1_isBest_0 (by decide) ?_
  refine lv_istore_n (lv' := [(2, .int (nI 0)), (0, .ref h), (1, .int (nI p1))]) hx hb dX1_isBest_1 rfl hl (by decide) rfl (fun ls hl => ?_)
  exact L1 16 0 rfl (fun p2 hp2 => absurd hp2 (by omega)) _ _ _ hw (lv_sub hl [1, 2, 0] rfl)
set_option maxHeartbeats 4000000 in
set_option maxRecDepth 100000 in
theorem pm_firstBest (l : Launch) (D : va_G) (h : Nat) (q : Nat → Nat) (d : Nat → ClassId) (R S : Nat → Int32) (ra tp bt : Nat → Int64) (hok : ps_Ok R S) : CI l D (mF h q d) (mT d) yX1_firstBest cX1_firstBest 2 .int (rmK 4 120) [.ref h] (R, S, ra, tp, bt) (fun r u => (∃ ra1 tp1 bt1, u = (R, S, ra1, tp1, bt1)) ∧ r = nI (pm_fb (ps_bb R S) 16 0)) := by
  refine CI.of (by decide) (Nat.le_of_ble_eq_true rfl) ?_
  intro p e s m below meth c A Q ls hc hret hw hl
  obtain ⟨hx, hb, hml, hown, hts, hK, hA⟩ := id hc
  have hl : lv_has ls 2 [(0, .ref h)] := hl
  refine lv_aload_n hx hb dX1_firstBest_0 rfl (lv_at hl 0 rfl) ?_
  refine CV.call (As := []) (rest := []) (ci := 1) (n := 0) (pm_solve l D h q d R S ra tp bt hok) hc hw rfl rfl (cwV 0 hts (lw_V q222 q224 qs16 q28 q225) rfl rfl rfl (by decide +kernel) ⟨Nat.le_of_ble_eq_true rfl, Nat.le_of_ble_eq_true rfl⟩) rfl hl.1 rfl (Nat.le_of_ble_eq_true rfl) ⟨Nat.le_of_ble_eq_true rfl, Nat.le_of_ble_eq_true rfl⟩ dX1_firstBest_1 (fun u H locs hu hwc => ?_)
  obtain ⟨ra1, tp1, bt1, rfl, hall⟩ := hu
  have hw : ww D (mF h q d) A s.heap H locs (R, S, ra1, tp1, bt1) := hwc
  have L1 : ∀ (n i : Nat), i + n = 16 → pm_fb (ps_bb R S) n i = pm_fb (ps_bb R S) 16 0 → ∀ (H : Heap) (locs : List Loc) (ls : Array Slot), ww D (mF h q d) A s.heap H locs (R, S, ra1, tp1, bt1) → lv_has ls 2 [(0, .ref h), (1, .int (nI i))] → W p l e (rmK 4 120) s m [.ref h].toArray below meth c H locs 0 0 Q (F0 m 6 ls []) := by
    intro n
    induction n with
    | zero =>
      intro i k1 k2 H locs ls hw hl
      refine lv_iload_n hx hb dX1_firstBest_6 rfl (lv_at hl 1 rfl) ?_
      refine lv_bipush (v := nI 16) hx hb dX1_firstBest_7 (by decide) ?_
      refine n_icmp_ge (tgt := 28) hx hb (by omega) (by omega) dX1_firstBest_9 (by decide) (fun h2 => ?_) (fun h2 => ?_)
      · refine lv_iconst (v := 0) hx hb dX1_firstBest_28 (by decide) ?_
        exact hret _ _ _ _ _ _ dX1_firstBest_29 (vp_nar_int _) (⟨⟨_, _, _, rfl⟩, by rw [← k2]; rfl⟩) hw
      · exact absurd h2 (by omega)
    | succ n ih =>
      intro i k1 k2 H locs ls hw hl
      refine lv_iload_n hx hb dX1_firstBest_6 rfl (lv_at hl 1 rfl) ?_
      refine lv_bipush (v := nI 16) hx hb dX1_firstBest_7 (by decide) ?_
      refine n_icmp_ge (tgt := 28) hx hb (by omega) (by omega) dX1_firstBest_9 (by decide) (fun h2 => ?_) (fun h2 => ?_)
      · exact absurd h2 (by omega)
      · refine lv_aload_n hx hb dX1_firstBest_12 rfl (lv_at hl 0 rfl) ?_
        refine lv_iload_n hx hb dX1_firstBest_13 rfl (lv_at hl 1 rfl) ?_
        refine CI.call (As := [.int (nI i)]) (rest := []) (ci := 1) (n := 1) (pm_isBest l D h q d R S ra1 tp1 bt1 i h2 hok hall) hc hw rfl rfl (cwV 1 hts (lw_V q259 q261 qs23 q28 q262) rfl rfl rfl (by decide +kernel) ⟨Nat.le_of_ble_eq_true rfl, Nat.le_of_ble_eq_true rfl⟩) rfl hl.1 rfl (Nat.le_of_ble_eq_true rfl) ⟨Nat.le_of_ble_eq_true rfl, Nat.le_of_ble_eq_true rfl⟩ dX1_firstBest_14 (fun r u H locs hu hwc => ?_)
        have hw : ww D (mF h q d) A s.heap H locs (R, S, ra1, tp1, bt1) := by rw [hu.1] at hwc; exact hwc
        obtain ⟨-, hu⟩ := hu
        rcases hu with ⟨rfl, h3⟩ | ⟨rfl, h3⟩
        · refine lv_if_eq (tgt := 22) hx hb dX1_firstBest_17 (by decide) (fun hN => ?_) (fun hN => ?_)
          · exact absurd hN (by decide)
          · refine lv_iload_n hx hb dX1_firstBest_20 rfl (lv_at hl 1 rfl) ?_
            exact hret _ _ _ _ _ _ dX1_firstBest_21 (vp_nar_int _) (⟨⟨_, _, _, rfl⟩, by rw [← k2, pm_fb, if_pos (ps_bb_t h3)]⟩) hw
        · refine lv_if_eq (tgt := 22) hx hb dX1_firstBest_17 (by decide) (fun hN => ?_) (fun hN => ?_)
          · refine lv_iinc (v := nI (i + 1)) (lv' := [(1, .int (nI (i + 1))), (0, .ref h)]) hx hb dX1_firstBest_22 hl (k := 1) rfl (n_inc _) (by decide) rfl (fun ls hl => ?_)
            refine lv_goto (tgt := 6) hx hb dX1_firstBest_25 (by decide) ?_
            exact ih (i + 1) (by omega) (by rw [← k2, pm_fb, if_neg (by rw [ps_bb_f h3]; decide)]) H locs ls hw (lv_sub hl [1, 0] rfl)
          · exact absurd hN (by decide)
  refine lv_iconst (v := nI 0) hx hb dX1_firstBest_4 (by decide) ?_
  refine lv_istore_n (lv' := [(1, .int (nI 0)), (0, .ref h)]) hx hb dX1_firstBest_5 rfl hl (by decide) rfl (fun ls hl => ?_)
  exact L1 16 0 rfl rfl _ _ _ hw (lv_sub hl [1, 0] rfl)
set_option maxHeartbeats 4000000 in
set_option maxRecDepth 100000 in
theorem pm_bestTop (l : Launch) (D : va_G) (h : Nat) (q : Nat → Nat) (d : Nat → ClassId) (R S : Nat → Int32) (ra tp bt : Nat → Int64) (x1 : Int32) (hok : ps_Ok R S) : CI l D (mF h q d) (mT d) yX1_bestTop cX1_bestTop 3 .int (rmK 5 150) [.ref h, .int x1] (R, S, ra, tp, bt) (fun r u => (∃ ra1 tp1 bt1, u = (R, S, ra1, tp1, bt1)) ∧ ((∃ s1, s1 < 4 ∧ x1 = nI s1 ∧ r = ps_frT (ps_tp R S (pm_fb (ps_bb R S) 16 0) s1) (ps_bo R S (pm_fb (ps_bb R S) 16 0))) ∨ (¬ ps_in x1 4 ∧ r = -1000000))) := by
  refine CI.of (by decide) (Nat.le_of_ble_eq_true rfl) ?_
  intro p e s m below meth c A Q ls hc hret hw hl
  obtain ⟨hx, hb, hml, hown, hts, hK, hA⟩ := id hc
  have hl : lv_has ls 3 [(0, .ref h), (1, .int x1)] := hl
  refine lv_aload_n hx hb dX1_bestTop_0 rfl (lv_at hl 0 rfl) ?_
  refine lv_iload_n hx hb dX1_bestTop_1 rfl (lv_at hl 1 rfl) ?_
  refine CI.call (As := [.int x1]) (rest := []) (ci := 1) (n := 1) (pm_isState l D h q d (R, S, ra, tp, bt) x1) hc hw rfl rfl (cwV 1 hts (lw_V q217 q219 qs15 q28 q220) rfl rfl rfl (by decide +kernel) ⟨Nat.le_of_ble_eq_true rfl, Nat.le_of_ble_eq_true rfl⟩) rfl hl.1 rfl (Nat.le_of_ble_eq_true rfl) ⟨Nat.le_of_ble_eq_true rfl, Nat.le_of_ble_eq_true rfl⟩ dX1_bestTop_2 (fun r u H locs hu hwc => ?_)
  have hw : ww D (mF h q d) A s.heap H locs (R, S, ra, tp, bt) := by rw [hu.1] at hwc; exact hwc
  obtain ⟨-, hu⟩ := hu
  rcases hu with ⟨rfl, h1⟩ | ⟨rfl, h1⟩
  · refine lv_if_ne (tgt := 11) hx hb dX1_bestTop_5 (by decide) (fun hN => ?_) (fun hN => ?_)
    · obtain ⟨s1, hs1, rfl⟩ := h1
      refine lv_aload_n hx hb dX1_bestTop_11 rfl (lv_at hl 0 rfl) ?_
      refine CI.call (As := []) (rest := []) (ci := 1) (n := 0) (pm_firstBest l D h q d R S ra tp bt hok) hc hw rfl rfl (cwV 0 hts (lw_V q255 q257 qs22 q28 q258) rfl rfl rfl (by decide +kernel) ⟨Nat.le_of_ble_eq_true rfl, Nat.le_of_ble_eq_true rfl⟩) rfl hl.1 rfl (Nat.le_of_ble_eq_true rfl) ⟨Nat.le_of_ble_eq_true rfl, Nat.le_of_ble_eq_true rfl⟩ dX1_bestTop_12 (fun r u H locs hu hwc => ?_)
      obtain ⟨⟨ra1, tp1, bt1, rfl⟩, rfl⟩ := hu
      have hw : ww D (mF h q d) A s.heap H locs (R, S, ra1, tp1, bt1) := hwc
      refine lv_istore_n (lv' := [(2, .int (nI (pm_fb (ps_bb R S) 16 0))), (0, .ref h), (1, .int (nI s1))]) hx hb dX1_bestTop_15 rfl hl (by decide) rfl (fun ls hl => ?_)
      refine lv_aload_n hx hb dX1_bestTop_16 rfl (lv_at hl 1 rfl) ?_
      refine lv_iload_n hx hb dX1_bestTop_17 rfl (lv_at hl 0 rfl) ?_
      refine lv_iload_n hx hb dX1_bestTop_18 rfl (lv_at hl 2 rfl) ?_
      refine CI.call (As := [.int (nI (pm_fb (ps_bb R S) 16 0)), .int (nI s1)]) (rest := []) (ci := 1) (n := 2) (pm_valueTop l D h q d R S ra1 tp1 bt1 (nI (pm_fb (ps_bb R S) 16 0)) (nI s1) hok) hc hw rfl rfl (cwV 2 hts (lw_V q267 q210 q211 q28 q212) rfl rfl rfl (by decide +kernel) ⟨Nat.le_of_ble_eq_true rfl, Nat.le_of_ble_eq_true rfl⟩) rfl hl.1 rfl (Nat.le_of_ble_eq_true rfl) ⟨Nat.le_of_ble_eq_true rfl, Nat.le_of_ble_eq_true rfl⟩ dX1_bestTop_19 (fun r u H locs hu hwc => ?_)
      obtain ⟨⟨ra2, tp2, bt2, rfl⟩, hr⟩ := hu
      have hw : ww D (mF h q d) A s.heap H locs (R, S, ra2, tp2, bt2) := hwc
      exact hret _ _ _ _ _ _ dX1_bestTop_22 (vp_nar_int _) (⟨⟨_, _, _, rfl⟩, Or.inl ⟨s1, hs1, rfl, ps_in2 (f := fun a b => ps_frT (ps_tp R S a b) (ps_bo R S a)) (pm_fb16 _) hs1 (by decide) (by decide) hr⟩⟩) hw
    · exact absurd hN (by decide)
  · refine lv_if_ne (tgt := 11) hx hb dX1_bestTop_5 (by decide) (fun hN => ?_) (fun hN => ?_)
    · exact absurd hN (by decide)
    · refine lv_ldc (v := -1000000) hx hb hown (hts _ q221) dX1_bestTop_8 ?_
      exact hret _ _ _ _ _ _ dX1_bestTop_10 (rfl) (⟨⟨_, _, _, rfl⟩, Or.inr ⟨h1, rfl⟩⟩) hw
set_option maxHeartbeats 4000000 in
set_option maxRecDepth 100000 in
theorem pm_bestBottom (l : Launch) (D : va_G) (h : Nat) (q : Nat → Nat) (d : Nat → ClassId) (R S : Nat → Int32) (ra tp bt : Nat → Int64) (x1 : Int32) (hok : ps_Ok R S) : CI l D (mF h q d) (mT d) yX1_bestBottom cX1_bestBottom 3 .int (rmK 5 150) [.ref h, .int x1] (R, S, ra, tp, bt) (fun r u => (∃ ra1 tp1 bt1, u = (R, S, ra1, tp1, bt1)) ∧ ((∃ s1, s1 < 4 ∧ x1 = nI s1 ∧ r = ps_frB (ps_tp R S (pm_fb (ps_bb R S) 16 0) s1) (ps_bo R S (pm_fb (ps_bb R S) 16 0))) ∨ (¬ ps_in x1 4 ∧ r = -1000000))) := by
  refine CI.of (by decide) (Nat.le_of_ble_eq_true rfl) ?_
  intro p e s m below meth c A Q ls hc hret hw hl
  obtain ⟨hx, hb, hml, hown, hts, hK, hA⟩ := id hc
  have hl : lv_has ls 3 [(0, .ref h), (1, .int x1)] := hl
  refine lv_aload_n hx hb dX1_bestBottom_0 rfl (lv_at hl 0 rfl) ?_
  refine lv_iload_n hx hb dX1_bestBottom_1 rfl (lv_at hl 1 rfl) ?_
  refine CI.call (As := [.int x1]) (rest := []) (ci := 1) (n := 1) (pm_isState l D h q d (R, S, ra, tp, bt) x1) hc hw rfl rfl (cwV 1 hts (lw_V q217 q219 qs15 q28 q220) rfl rfl rfl (by decide +kernel) ⟨Nat.le_of_ble_eq_true rfl, Nat.le_of_ble_eq_true rfl⟩) rfl hl.1 rfl (Nat.le_of_ble_eq_true rfl) ⟨Nat.le_of_ble_eq_true rfl, Nat.le_of_ble_eq_true rfl⟩ dX1_bestBottom_2 (fun r u H locs hu hwc => ?_)
  have hw : ww D (mF h q d) A s.heap H locs (R, S, ra, tp, bt) := by rw [hu.1] at hwc; exact hwc
  obtain ⟨-, hu⟩ := hu
  rcases hu with ⟨rfl, h1⟩ | ⟨rfl, h1⟩
  · refine lv_if_ne (tgt := 11) hx hb dX1_bestBottom_5 (by decide) (fun hN => ?_) (fun hN => ?_)
    · obtain ⟨s1, hs1, rfl⟩ := h1
      refine lv_aload_n hx hb dX1_bestBottom_11 rfl (lv_at hl 0 rfl) ?_
      refine CI.call (As := []) (rest := []) (ci := 1) (n := 0) (pm_firstBest l D h q d R S ra tp bt hok) hc hw rfl rfl (cwV 0 hts (lw_V q255 q257 qs22 q28 q258) rfl rfl rfl (by decide +kernel) ⟨Nat.le_of_ble_eq_true rfl, Nat.le_of_ble_eq_true rfl⟩) rfl hl.1 rfl (Nat.le_of_ble_eq_true rfl) ⟨Nat.le_of_ble_eq_true rfl, Nat.le_of_ble_eq_true rfl⟩ dX1_bestBottom_12 (fun r u H locs hu hwc => ?_)
      obtain ⟨⟨ra1, tp1, bt1, rfl⟩, rfl⟩ := hu
      have hw : ww D (mF h q d) A s.heap H locs (R, S, ra1, tp1, bt1) := hwc
      refine lv_istore_n (lv' := [(2, .int (nI (pm_fb (ps_bb R S) 16 0))), (0, .ref h), (1, .int (nI s1))]) hx hb dX1_bestBottom_15 rfl hl (by decide) rfl (fun ls hl => ?_)
      refine lv_aload_n hx hb dX1_bestBottom_16 rfl (lv_at hl 1 rfl) ?_
      refine lv_iload_n hx hb dX1_bestBottom_17 rfl (lv_at hl 0 rfl) ?_
      refine lv_iload_n hx hb dX1_bestBottom_18 rfl (lv_at hl 2 rfl) ?_
      refine CI.call (As := [.int (nI (pm_fb (ps_bb R S) 16 0)), .int (nI s1)]) (rest := []) (ci := 1) (n := 2) (pm_valueBottom l D h q d R S ra1 tp1 bt1 (nI (pm_fb (ps_bb R S) 16 0)) (nI s1) hok) hc hw rfl rfl (cwV 2 hts (lw_V q272 q248 q249 q28 q250) rfl rfl rfl (by decide +kernel) ⟨Nat.le_of_ble_eq_true rfl, Nat.le_of_ble_eq_true rfl⟩) rfl hl.1 rfl (Nat.le_of_ble_eq_true rfl) ⟨Nat.le_of_ble_eq_true rfl, Nat.le_of_ble_eq_true rfl⟩ dX1_bestBottom_19 (fun r u H locs hu hwc => ?_)
      obtain ⟨⟨ra2, tp2, bt2, rfl⟩, hr⟩ := hu
      have hw : ww D (mF h q d) A s.heap H locs (R, S, ra2, tp2, bt2) := hwc
      exact hret _ _ _ _ _ _ dX1_bestBottom_22 (vp_nar_int _) (⟨⟨_, _, _, rfl⟩, Or.inl ⟨s1, hs1, rfl, ps_in2 (f := fun a b => ps_frB (ps_tp R S a b) (ps_bo R S a)) (pm_fb16 _) hs1 (by decide) (by decide) hr⟩⟩) hw
    · exact absurd hN (by decide)
  · refine lv_if_ne (tgt := 11) hx hb dX1_bestBottom_5 (by decide) (fun hN => ?_) (fun hN => ?_)
    · exact absurd hN (by decide)
    · refine lv_ldc (v := -1000000) hx hb hown (hts _ q221) dX1_bestBottom_8 ?_
      exact hret _ _ _ _ _ _ dX1_bestBottom_10 (rfl) (⟨⟨_, _, _, rfl⟩, Or.inr ⟨h1, rfl⟩⟩) hw
set_option maxHeartbeats 4000000 in
set_option maxRecDepth 100000 in
theorem pm_policy (l : Launch) (D : va_G) (h : Nat) (q : Nat → Nat) (d : Nat → ClassId) (R S : Nat → Int32) (ra tp bt : Nat → Int64) (hok : ps_Ok R S) : CI l D (mF h q d) (mT d) yX1_policy cX1_policy 1 .int (rmK 5 150) [.ref h] (R, S, ra, tp, bt) (fun r u => (∃ ra1 tp1 bt1, u = (R, S, ra1, tp1, bt1)) ∧ r = nI (pm_fb (ps_bb R S) 16 0)) := by
  refine CI.of (by decide) (Nat.le_of_ble_eq_true rfl) ?_
  intro p e s m below meth c A Q ls hc hret hw hl
  obtain ⟨hx, hb, hml, hown, hts, hK, hA⟩ := id hc
  have hl : lv_has ls 1 [(0, .ref h)] := hl
  refine lv_aload_n hx hb dX1_policy_0 rfl (lv_at hl 0 rfl) ?_
  refine CI.call (As := []) (rest := []) (ci := 1) (n := 0) (pm_firstBest l D h q d R S ra tp bt hok) hc hw rfl rfl (cwV 0 hts (lw_V q255 q257 qs22 q28 q258) rfl rfl rfl (by decide +kernel) ⟨Nat.le_of_ble_eq_true rfl, Nat.le_of_ble_eq_true rfl⟩) rfl hl.1 rfl (Nat.le_of_ble_eq_true rfl) ⟨Nat.le_of_ble_eq_true rfl, Nat.le_of_ble_eq_true rfl⟩ dX1_policy_1 (fun r u H locs hu hwc => ?_)
  obtain ⟨⟨ra1, tp1, bt1, rfl⟩, rfl⟩ := hu
  have hw : ww D (mF h q d) A s.heap H locs (R, S, ra1, tp1, bt1) := hwc
  exact hret _ _ _ _ _ _ dX1_policy_4 (vp_nar_int _) (⟨⟨_, _, _, rfl⟩, rfl⟩) hw
set_option maxHeartbeats 4000000 in
set_option maxRecDepth 100000 in
theorem pm_policies (l : Launch) (D : va_G) (h : Nat) (q : Nat → Nat) (d : Nat → ClassId) (R S : Nat → Int32) (ra tp bt : Nat → Int64) (hok : ps_Ok R S) : CI l D (mF h q d) (mT d) yX1_policies cX1_policies 3 .int (rmK 4 120) [.ref h] (R, S, ra, tp, bt) (fun r u => (∃ ra1 tp1 bt1, u = (R, S, ra1, tp1, bt1)) ∧ r = nI (pm_ct (ps_bb R S) 16 0 0)) := by
  refine CI.of (by decide) (Nat.le_of_ble_eq_true rfl) ?_
  intro p e s m below meth c A Q ls hc hret hw hl
  obtain ⟨hx, hb, hml, hown, hts, hK, hA⟩ := id hc
  have hl : lv_has ls 3 [(0, .ref h)] := hl
  refine lv_aload_n hx hb dX1_policies_0 rfl (lv_at hl 0 rfl) ?_
  refine CV.call (As := []) (rest := []) (ci := 1) (n := 0) (pm_solve l D h q d R S ra tp bt hok) hc hw rfl rfl (cwV 0 hts (lw_V q222 q224 qs16 q28 q225) rfl rfl rfl (by decide +kernel) ⟨Nat.le_of_ble_eq_true rfl, Nat.le_of_ble_eq_true rfl⟩) rfl hl.1 rfl (Nat.le_of_ble_eq_true rfl) ⟨Nat.le_of_ble_eq_true rfl, Nat.le_of_ble_eq_true rfl⟩ dX1_policies_1 (fun u H locs hu hwc => ?_)
  obtain ⟨ra1, tp1, bt1, rfl, hall⟩ := hu
  have hw : ww D (mF h q d) A s.heap H locs (R, S, ra1, tp1, bt1) := hwc
  have L1 : ∀ (n i c1 : Nat), i + n = 16 → pm_ct (ps_bb R S) n i c1 = pm_ct (ps_bb R S) 16 0 0 → ∀ (H : Heap) (locs : List Loc) (ls : Array Slot), ww D (mF h q d) A s.heap H locs (R, S, ra1, tp1, bt1) → lv_has ls 3 [(0, .ref h), (1, .int (nI c1)), (2, .int (nI i))] → W p l e (rmK 4 120) s m [.ref h].toArray below meth c H locs 0 0 Q (F0 m 8 ls []) := by
    intro n
    induction n with
    | zero =>
      intro i c1 k1 k2 H locs ls hw hl
      refine lv_iload_n hx hb dX1_policies_8 rfl (lv_at hl 2 rfl) ?_
      refine lv_bipush (v := nI 16) hx hb dX1_policies_9 (by decide) ?_
      refine n_icmp_ge (tgt := 31) hx hb (by omega) (by omega) dX1_policies_11 (by decide) (fun h2 => ?_) (fun h2 => ?_)
      · refine lv_iload_n hx hb dX1_policies_31 rfl (lv_at hl 1 rfl) ?_
        exact hret _ _ _ _ _ _ dX1_policies_32 (vp_nar_int _) (⟨⟨_, _, _, rfl⟩, by rw [← k2]; rfl⟩) hw
      · exact absurd h2 (by omega)
    | succ n ih =>
      intro i c1 k1 k2 H locs ls hw hl
      refine lv_iload_n hx hb dX1_policies_8 rfl (lv_at hl 2 rfl) ?_
      refine lv_bipush (v := nI 16) hx hb dX1_policies_9 (by decide) ?_
      refine n_icmp_ge (tgt := 31) hx hb (by omega) (by omega) dX1_policies_11 (by decide) (fun h2 => ?_) (fun h2 => ?_)
      · exact absurd h2 (by omega)
      · refine lv_aload_n hx hb dX1_policies_14 rfl (lv_at hl 0 rfl) ?_
        refine lv_iload_n hx hb dX1_policies_15 rfl (lv_at hl 2 rfl) ?_
        refine CI.call (As := [.int (nI i)]) (rest := []) (ci := 1) (n := 1) (pm_isBest l D h q d R S ra1 tp1 bt1 i h2 hok hall) hc hw rfl rfl (cwV 1 hts (lw_V q259 q261 qs23 q28 q262) rfl rfl rfl (by decide +kernel) ⟨Nat.le_of_ble_eq_true rfl, Nat.le_of_ble_eq_true rfl⟩) rfl hl.1 rfl (Nat.le_of_ble_eq_true rfl) ⟨Nat.le_of_ble_eq_true rfl, Nat.le_of_ble_eq_true rfl⟩ dX1_policies_16 (fun r u H locs hu hwc => ?_)
        have hw : ww D (mF h q d) A s.heap H locs (R, S, ra1, tp1, bt1) := by rw [hu.1] at hwc; exact hwc
        obtain ⟨-, hu⟩ := hu
        rcases hu with ⟨rfl, h3⟩ | ⟨rfl, h3⟩
        · refine lv_if_eq (tgt := 25) hx hb dX1_policies_19 (by decide) (fun hN => ?_) (fun hN => ?_)
          · exact absurd hN (by decide)
          · refine lv_iinc (v := nI (c1 + 1)) (lv' := [(1, .int (nI (c1 + 1))), (0, .ref h), (2, .int (nI i))]) hx hb dX1_policies_22 hl (k := 1) rfl (n_inc _) (by decide) rfl (fun ls hl => ?_)
            refine lv_iinc (v := nI (i + 1)) (lv' := [(2, .int (nI (i + 1))), (1, .int (nI (c1 + 1))), (0, .ref h)]) hx hb dX1_policies_25 hl (k := 2) rfl (n_inc _) (by decide) rfl (fun ls hl => ?_)
            refine lv_goto (tgt := 8) hx hb dX1_policies_28 (by decide) ?_
            exact ih (i + 1) (c1 + 1) (by omega) (by rw [← k2, pm_ct, if_pos (ps_bb_t h3)]) H locs ls hw (lv_sub hl [2, 1, 0] rfl)
        · refine lv_if_eq (tgt := 25) hx hb dX1_policies_19 (by decide) (fun hN => ?_) (fun hN => ?_)
          · refine lv_iinc (v := nI (i + 1)) (lv' := [(2, .int (nI (i + 1))), (0, .ref h), (1, .int (nI c1))]) hx hb dX1_policies_25 hl (k := 2) rfl (n_inc _) (by decide) rfl (fun ls hl => ?_)
            refine lv_goto (tgt := 8) hx hb dX1_policies_28 (by decide) ?_
            exact ih (i + 1) c1 (by omega) (by rw [← k2, pm_ct, if_neg (by rw [ps_bb_f h3]; decide)]) H locs ls hw (lv_sub hl [1, 2, 0] rfl)
          · exact absurd hN (by decide)
  refine lv_iconst (v := nI 0) hx hb dX1_policies_4 (by decide) ?_
  refine lv_istore_n (lv' := [(1, .int (nI 0)), (0, .ref h)]) hx hb dX1_policies_5 rfl hl (by decide) rfl (fun ls hl => ?_)
  refine lv_iconst (v := nI 0) hx hb dX1_policies_6 (by decide) ?_
  refine lv_istore_n (lv' := [(2, .int (nI 0)), (1, .int (nI 0)), (0, .ref h)]) hx hb dX1_policies_7 rfl hl (by decide) rfl (fun ls hl => ?_)
  exact L1 16 0 0 rfl rfl _ _ _ hw (lv_sub hl [2, 1, 0] rfl)
end
section
set_option maxHeartbeats 4000000 in
set_option maxRecDepth 100000 in
theorem pm_good (l : Launch) (D : va_G) (h : Nat) (q : Nat → Nat) (d : Nat → ClassId) (R S : Nat → Int32) (ra tp bt : Nat → Int64) (x1 x2 : Int32) (hok : ps_Ok R S) : CI l D (mF h q d) (mT d) yX1_good cX1_good 4 .boolean (rmK 4 120) [.ref h, .int x1, .int x2] (R, S, ra, tp, bt) (fun r u => (∃ ra1 tp1 bt1, u = (R, S, ra1, tp1, bt1)) ∧ ((∃ s1 a1, s1 < 4 ∧ a1 < 2 ∧ x1 = nI s1 ∧ x2 = nI a1 ∧ r = (if pm_gd (ps_bb R S) s1 a1 16 0 = true then 1 else 0)) ∨ (¬ (ps_in x1 4 ∧ ps_in x2 2) ∧ r = 0))) := by
  refine CI.of (by decide) (Nat.le_of_ble_eq_true rfl) ?_
  intro p e s m below meth c A Q ls hc hret hw hl
  obtain ⟨hx, hb, hml, hown, hts, hK, hA⟩ := id hc
  have hl : lv_has ls 4 [(0, .ref h), (1, .int x1), (2, .int x2)] := hl
  refine lv_aload_n hx hb dX1_good_0 rfl (lv_at hl 0 rfl) ?_
  refine lv_iload_n hx hb dX1_good_1 rfl (lv_at hl 1 rfl) ?_
  refine lv_iload_n hx hb dX1_good_2 rfl (lv_at hl 2 rfl) ?_
  refine CI.call (As := [.int x1, .int x2]) (rest := []) (ci := 1) (n := 2) (pm_isAction l D h q d (R, S, ra, tp, bt) x1 x2) hc hw rfl rfl (cwV 2 hts (lw_V q201 q203 qs13 q28 q204) rfl rfl rfl (by decide +kernel) ⟨Nat.le_of_ble_eq_true rfl, Nat.le_of_ble_eq_true rfl⟩) rfl hl.1 rfl (Nat.le_of_ble_eq_true rfl) ⟨Nat.le_of_ble_eq_true rfl, Nat.le_of_ble_eq_true rfl⟩ dX1_good_3 (fun r u H locs hu hwc => ?_)
  have hw : ww D (mF h q d) A s.heap H locs (R, S, ra, tp, bt) := by rw [hu.1] at hwc; exact hwc
  obtain ⟨-, hu⟩ := hu
  rcases hu with ⟨rfl, h1⟩ | ⟨rfl, h1⟩
  · refine lv_if_ne (tgt := 11) hx hb dX1_good_6 (by decide) (fun hN => ?_) (fun hN => ?_)
    · obtain ⟨⟨s1, hs1, rfl⟩, ⟨a1, ha1, rfl⟩⟩ := h1
      refine lv_aload_n hx hb dX1_good_11 rfl (lv_at hl 0 rfl) ?_
      refine CV.call (As := []) (rest := []) (ci := 1) (n := 0) (pm_solve l D h q d R S ra tp bt hok) hc hw rfl rfl (cwV 0 hts (lw_V q222 q224 qs16 q28 q225) rfl rfl rfl (by decide +kernel) ⟨Nat.le_of_ble_eq_true rfl, Nat.le_of_ble_eq_true rfl⟩) rfl hl.1 rfl (Nat.le_of_ble_eq_true rfl) ⟨Nat.le_of_ble_eq_true rfl, Nat.le_of_ble_eq_true rfl⟩ dX1_good_12 (fun u H locs hu hwc => ?_)
      obtain ⟨ra1, tp1, bt1, rfl, hall⟩ := hu
      have hw : ww D (mF h q d) A s.heap H locs (R, S, ra1, tp1, bt1) := hwc
      have L1 : ∀ (n i : Nat), i + n = 16 → pm_gd (ps_bb R S) s1 a1 n i = pm_gd (ps_bb R S) s1 a1 16 0 → ∀ (H : Heap) (locs : List Loc) (ls : Array Slot), ww D (mF h q d) A s.heap H locs (R, S, ra1, tp1, bt1) → lv_has ls 4 [(0, .ref h), (1, .int (nI s1)), (2, .int (nI a1)), (3, .int (nI i))] → W p l e (rmK 4 120) s m [.ref h, .int (nI s1), .int (nI a1)].toArray below meth c H locs 0 0 Q (F0 m 17 ls []) := by
        intro n
        induction n with
        | zero =>
          intro i k1 k2 H locs ls hw hl
          refine lv_iload_n hx hb dX1_good_17 rfl (lv_at hl 3 rfl) ?_
          refine lv_bipush (v := nI 16) hx hb dX1_good_18 (by decide) ?_
          refine n_icmp_ge (tgt := 48) hx hb (by omega) (by omega) dX1_good_20 (by decide) (fun h2 => ?_) (fun h2 => ?_)
          · refine lv_iconst (v := 0) hx hb dX1_good_48 (by decide) ?_
            exact hret _ _ _ _ _ _ dX1_good_49 (rfl) (⟨⟨_, _, _, rfl⟩, Or.inl ⟨s1, a1, hs1, ha1, rfl, rfl, by rw [← k2]; rfl⟩⟩) hw
          · exact absurd h2 (by omega)
        | succ n ih =>
          intro i k1 k2 H locs ls hw hl
          refine lv_iload_n hx hb dX1_good_17 rfl (lv_at hl 3 rfl) ?_
          refine lv_bipush (v := nI 16) hx hb dX1_good_18 (by decide) ?_
          refine n_icmp_ge (tgt := 48) hx hb (by omega) (by omega) dX1_good_20 (by decide) (fun h2 => ?_) (fun h2 => ?_)
          · exact absurd h2 (by omega)
          · refine lv_iload_n hx hb dX1_good_23 rfl (lv_at hl 3 rfl) ?_
            refine lv_iload_n hx hb dX1_good_24 rfl (lv_at hl 1 rfl) ?_
            refine n_ishr hx hb (by omega) (by omega) dX1_good_25 ?_
            refine lv_iconst (v := nI 1) hx hb dX1_good_26 (by decide) ?_
            refine n_iand1 hx hb (Nat.lt_of_le_of_lt (Nat.div_le_self _ _) (by omega)) dX1_good_27 ?_
            refine lv_iload_n hx hb dX1_good_28 rfl (lv_at hl 2 rfl) ?_
            refine n_icmp_ne (tgt := 42) hx hb (by omega) (by omega) dX1_good_29 (by decide) (fun h3 => ?_) (fun h3 => ?_)
            · refine lv_iinc (v := nI (i + 1)) (lv' := [(3, .int (nI (i + 1))), (0, .ref h), (1, .int (nI s1)), (2, .int (nI a1))]) hx hb dX1_good_42 hl (k := 3) rfl (n_inc _) (by decide) rfl (fun ls hl => ?_)
              refine lv_goto (tgt := 17) hx hb dX1_good_45 (by decide) ?_
              exact ih (i + 1) (by omega) (by rw [← k2, pm_gd, if_neg (fun z => h3 z.1)]) H locs ls hw (lv_sub hl [1, 2, 3, 0] rfl)
            · refine lv_aload_n hx hb dX1_good_32 rfl (lv_at hl 0 rfl) ?_
              refine lv_iload_n hx hb dX1_good_33 rfl (lv_at hl 3 rfl) ?_
              refine CI.call (As := [.int (nI i)]) (rest := []) (ci := 1) (n := 1) (pm_isBest l D h q d R S ra1 tp1 bt1 i h2 hok hall) hc hw rfl rfl (cwV 1 hts (lw_V q259 q261 qs23 q28 q262) rfl rfl rfl (by decide +kernel) ⟨Nat.le_of_ble_eq_true rfl, Nat.le_of_ble_eq_true rfl⟩) rfl hl.1 rfl (Nat.le_of_ble_eq_true rfl) ⟨Nat.le_of_ble_eq_true rfl, Nat.le_of_ble_eq_true rfl⟩ dX1_good_34 (fun r u H locs hu hwc => ?_)
              have hw : ww D (mF h q d) A s.heap H locs (R, S, ra1, tp1, bt1) := by rw [hu.1] at hwc; exact hwc
              obtain ⟨-, hu⟩ := hu
              rcases hu with ⟨rfl, h4⟩ | ⟨rfl, h4⟩
              · refine lv_if_eq (tgt := 42) hx hb dX1_good_37 (by decide) (fun hN => ?_) (fun hN => ?_)
                · exact absurd hN (by decide)
                · refine lv_iconst (v := 1) hx hb dX1_good_40 (by decide) ?_
                  exact hret _ _ _ _ _ _ dX1_good_41 (rfl) (⟨⟨_, _, _, rfl⟩, Or.inl ⟨s1, a1, hs1, ha1, rfl, rfl, by rw [if_pos (by rw [← k2, pm_gd, if_pos ⟨h3, ps_bb_t h4⟩])]⟩⟩) hw
              · refine lv_if_eq (tgt := 42) hx hb dX1_good_37 (by decide) (fun hN => ?_) (fun hN => ?_)
                · refine lv_iinc (v := nI (i + 1)) (lv' := [(3, .int (nI (i + 1))), (0, .ref h), (1, .int (nI s1)), (2, .int (nI a1))]) hx hb dX1_good_42 hl (k := 3) rfl (n_inc _) (by decide) rfl (fun ls hl => ?_)
                  refine lv_goto (tgt := 17) hx hb dX1_good_45 (by decide) ?_
                  exact ih (i + 1) (by omega) (by rw [← k2, pm_gd, if_neg (fun z => h4 (ps_bb_iff.mp z.2))]) H locs ls hw (lv_sub hl [1, 2, 3, 0] rfl)
                · exact absurd hN (by decide)
      refine lv_iconst (v := nI 0) hx hb dX1_good_15 (by decide) ?_
      refine lv_istore_n (lv' := [(3, .int (nI 0)), (0, .ref h), (1, .int (nI s1)), (2, .int (nI a1))]) hx hb dX1_good_16 rfl hl (by decide) rfl (fun ls hl => ?_)
      exact L1 16 0 rfl rfl _ _ _ hw (lv_sub hl [1, 2, 3, 0] rfl)
    · exact absurd hN (by decide)
  · refine lv_if_ne (tgt := 11) hx hb dX1_good_6 (by decide) (fun hN => ?_) (fun hN => ?_)
    · exact absurd hN (by decide)
    · refine lv_iconst (v := 0) hx hb dX1_good_9 (by decide) ?_
      exact hret _ _ _ _ _ _ dX1_good_10 (rfl) (⟨⟨_, _, _, rfl⟩, Or.inr ⟨h1, rfl⟩⟩) hw
set_option maxHeartbeats 4000000 in
set_option maxRecDepth 100000 in
theorem pm_copy (l : Launch) (D : va_G) (h : Nat) (q : Nat → Nat) (d : Nat → ClassId) (R S : Nat → Int32) (ra tp bt : Nat → Int64) (x1 y1 : Nat) (h1 : x1 < 8) (h2 : y1 < 8) : CV l D (mF h q d) (mT d) yX1_copy cX1_copy 4 (rmK 0 0) [.ref h, .int (nI x1), .int (nI y1)] (R, S, ra, tp, bt) (fun u => u = (upd R y1 (R x1), pm_cp x1 y1 4 0 S, ra, tp, bt)) := by
  refine CV.of (by decide) (Nat.le_of_ble_eq_true rfl) ?_
  intro p e s m below meth c A Q ls hc hret hw hl
  obtain ⟨hx, hb, hml, hown, hts, hK, hA⟩ := id hc
  have hl : lv_has ls 4 [(0, .ref h), (1, .int (nI x1)), (2, .int (nI y1))] := hl
  refine lv_aload_n hx hb dX1_copy_0 rfl (lv_at hl 0 rfl) ?_
  refine m_get0 hc hw dX1_copy_1 ?_
  refine lv_iload_n hx hb dX1_copy_4 rfl (lv_at hl 2 rfl) ?_
  refine lv_aload_n hx hb dX1_copy_5 rfl (lv_at hl 0 rfl) ?_
  refine m_get0 hc hw dX1_copy_6 ?_
  refine lv_iload_n hx hb dX1_copy_9 rfl (lv_at hl 1 rfl) ?_
  refine m_ld0 hc hw (by omega) dX1_copy_10 ?_
  refine m_st0 hc hw (by omega) dX1_copy_11 (fun H locs hw => ?_)
  refine lv_iconst (v := nI 0) hx hb dX1_copy_12 (by decide) ?_
  refine lv_istore_n (lv' := [(3, .int (nI 0)), (0, .ref h), (1, .int (nI x1)), (2, .int (nI y1))]) hx hb dX1_copy_13 rfl hl (by decide) rfl (fun ls hl => ?_)
  have L1 : ∀ (n t : Nat) (S1 : Nat → Int32), t + n = 4 → pm_cp x1 y1 n t S1 = pm_cp x1 y1 4 0 S → ∀ (H : Heap) (locs : List Loc) (ls : Array Slot), ww D (mF h q d) A s.heap H locs ((upd R y1 (R x1)), S1, ra, tp, bt) → lv_has ls 4 [(0, .ref h), (1, .int (nI x1)), (2, .int (nI y1)), (3, .int (nI t))] → W p l e (rmK 0 0) s m [.ref h, .int (nI x1), .int (nI y1)].toArray below meth c H locs 0 0 Q (F0 m 14 ls []) := by
    intro n
    induction n with
    | zero =>
      intro t S1 k1 k2 H locs ls hw hl
      refine lv_iload_n hx hb dX1_copy_14 rfl (lv_at hl 3 rfl) ?_
      refine lv_iconst (v := nI 4) hx hb dX1_copy_15 (by decide) ?_
      refine n_icmp_ge (tgt := 45) hx hb (by omega) (by omega) dX1_copy_16 (by decide) (fun h3 => ?_) (fun h3 => ?_)
      · exact hret _ _ _ _ _ dX1_copy_45 (by rw [← k2]; rfl) hw
      · exact absurd h3 (by omega)
    | succ n ih =>
      intro t S1 k1 k2 H locs ls hw hl
      refine lv_iload_n hx hb dX1_copy_14 rfl (lv_at hl 3 rfl) ?_
      refine lv_iconst (v := nI 4) hx hb dX1_copy_15 (by decide) ?_
      refine n_icmp_ge (tgt := 45) hx hb (by omega) (by omega) dX1_copy_16 (by decide) (fun h3 => ?_) (fun h3 => ?_)
      · exact absurd h3 (by omega)
      · refine lv_aload_n hx hb dX1_copy_19 rfl (lv_at hl 0 rfl) ?_
        refine m_get1 hc hw dX1_copy_20 ?_
        refine lv_iconst (v := nI 4) hx hb dX1_copy_23 (by decide) ?_
        refine lv_iload_n hx hb dX1_copy_24 rfl (lv_at hl 2 rfl) ?_
        refine n_imul hx hb dX1_copy_25 ?_
        refine lv_iload_n hx hb dX1_copy_26 rfl (lv_at hl 3 rfl) ?_
        refine n_iadd hx hb dX1_copy_27 ?_
        refine lv_aload_n hx hb dX1_copy_28 rfl (lv_at hl 0 rfl) ?_
        refine m_get1 hc hw dX1_copy_29 ?_
        refine lv_iconst (v := nI 4) hx hb dX1_copy_32 (by decide) ?_
        refine lv_iload_n hx hb dX1_copy_33 rfl (lv_at hl 1 rfl) ?_
        refine n_imul hx hb dX1_copy_34 ?_
        refine lv_iload_n hx hb dX1_copy_35 rfl (lv_at hl 3 rfl) ?_
        refine n_iadd hx hb dX1_copy_36 ?_
        refine m_ld1 hc hw (by omega) dX1_copy_37 ?_
        refine m_st1 hc hw (by omega) dX1_copy_38 (fun H locs hw => ?_)
        refine lv_iinc (v := nI (t + 1)) (lv' := [(3, .int (nI (t + 1))), (0, .ref h), (1, .int (nI x1)), (2, .int (nI y1))]) hx hb dX1_copy_39 hl (k := 3) rfl (n_inc _) (by decide) rfl (fun ls hl => ?_)
        refine lv_goto (tgt := 14) hx hb dX1_copy_42 (by decide) ?_
        exact ih (t + 1) _ (by omega) k2 H locs ls hw (lv_sub hl [1, 2, 3, 0] rfl)
  exact L1 4 0 S rfl rfl _ _ _ hw (lv_sub hl [1, 2, 3, 0] rfl)
set_option maxHeartbeats 4000000 in
set_option maxRecDepth 100000 in
theorem pm_prune (l : Launch) (D : va_G) (h : Nat) (q : Nat → Nat) (d : Nat → ClassId) (R S : Nat → Int32) (ra tp bt : Nat → Int64) (hok : ps_Ok R S) : CI l D (mF h q d) (mT d) yX1_prune cX1_prune 4 .int (rmK 5 150) [.ref h] (R, S, ra, tp, bt) (fun r u => ∃ ra1 tp1 bt1, u = ((pm_pr (pm_bd (fun k => pm_gd (ps_bb R S) (k / 2) (k % 2) 16 0) 8 0 0) 8 0 (R, S, 0)).1, (pm_pr (pm_bd (fun k => pm_gd (ps_bb R S) (k / 2) (k % 2) 16 0) 8 0 0) 8 0 (R, S, 0)).2.1, ra1, tp1, bt1) ∧ r = nI (pm_pr (pm_bd (fun k => pm_gd (ps_bb R S) (k / 2) (k % 2) 16 0) 8 0 0) 8 0 (R, S, 0)).2.2) := by
  refine CI.of (by decide) (Nat.le_of_ble_eq_true rfl) ?_
  intro p e s m below meth c A Q ls hc hret hw hl
  obtain ⟨hx, hb, hml, hown, hts, hK, hA⟩ := id hc
  have hl : lv_has ls 4 [(0, .ref h)] := hl
  have hB : (pm_bd (fun k => pm_gd (ps_bb R S) (k / 2) (k % 2) 16 0) 8 0 0) < 2 ^ 8 := pm_bd_lt (fun k => pm_gd (ps_bb R S) (k / 2) (k % 2) 16 0) 8 0 0 (by decide)
  have L2 : ∀ (n k1 : Nat) (R1 S1 : Nat → Int32) (c1 : Nat) (ra1 tp1 bt1 : Nat → Int64), k1 + n = 8 → pm_pr (pm_bd (fun k => pm_gd (ps_bb R S) (k / 2) (k % 2) 16 0) 8 0 0) n k1 (R1, S1, c1) = pm_pr (pm_bd (fun k => pm_gd (ps_bb R S) (k / 2) (k % 2) 16 0) 8 0 0) 8 0 (R, S, 0) → ∀ (H : Heap) (locs : List Loc) (ls : Array Slot), ww D (mF h q d) A s.heap H locs (R1, S1, ra1, tp1, bt1) → lv_has ls 4 [(0, .ref h), (1, .int (nI (pm_bd (fun k => pm_gd (ps_bb R S) (k / 2) (k % 2) 16 0) 8 0 0))), (2, .int (nI c1)), (3, .int (nI k1))] → W p l e (rmK 5 150) s m [.ref h].toArray below meth c H locs 0 0 Q (F0 m 39 ls []) := by
    intro n
    induction n with
    | zero =>
      intro k1 R1 S1 c1 ra1 tp1 bt1 g1 g2 H locs ls hw hl
      refine lv_iload_n hx hb dX1_prune_39 rfl (lv_at hl 3 rfl) ?_
      refine lv_bipush (v := nI 8) hx hb dX1_prune_40 (by decide) ?_
      refine n_icmp_ge (tgt := 83) hx hb (by omega) (by omega) dX1_prune_42 (by decide) (fun h3 => ?_) (fun h3 => ?_)
      · refine lv_iload_n hx hb dX1_prune_83 rfl (lv_at hl 2 rfl) ?_
        exact hret _ _ _ _ _ _ dX1_prune_84 (vp_nar_int _) (⟨ra1, tp1, bt1, by rw [← g2]; rfl, by rw [← g2]; rfl⟩) hw
      · exact absurd h3 (by omega)
    | succ n ih =>
      intro k1 R1 S1 c1 ra1 tp1 bt1 g1 g2 H locs ls hw hl
      refine lv_iload_n hx hb dX1_prune_39 rfl (lv_at hl 3 rfl) ?_
      refine lv_bipush (v := nI 8) hx hb dX1_prune_40 (by decide) ?_
      refine n_icmp_ge (tgt := 83) hx hb (by omega) (by omega) dX1_prune_42 (by decide) (fun h3 => ?_) (fun h3 => ?_)
      · exact absurd h3 (by omega)
      · refine lv_iload_n hx hb dX1_prune_45 rfl (lv_at hl 1 rfl) ?_
        refine lv_iload_n hx hb dX1_prune_46 rfl (lv_at hl 3 rfl) ?_
        refine n_ishr hx hb (by omega) (by omega) dX1_prune_47 ?_
        refine lv_iconst (v := nI 1) hx hb dX1_prune_48 (by decide) ?_
        refine n_iand1 hx hb (Nat.lt_of_le_of_lt (Nat.div_le_self _ _) (by omega)) dX1_prune_49 ?_
        refine lv_iconst (v := nI 1) hx hb dX1_prune_50 (by decide) ?_
        refine n_icmp_ne (tgt := 77) hx hb (by omega) (by omega) dX1_prune_51 (by decide) (fun h4 => ?_) (fun h4 => ?_)
        · refine lv_iinc (v := nI (k1 + 1)) (lv' := [(3, .int (nI (k1 + 1))), (0, .ref h), (1, .int (nI (pm_bd (fun k => pm_gd (ps_bb R S) (k / 2) (k % 2) 16 0) 8 0 0))), (2, .int (nI c1))]) hx hb dX1_prune_77 hl (k := 3) rfl (n_inc _) (by decide) rfl (fun ls hl => ?_)
          refine lv_goto (tgt := 39) hx hb dX1_prune_80 (by decide) ?_
          exact ih (k1 + 1) R1 S1 c1 _ _ _ (by omega) (by rw [← g2, pm_pr_0 h4]) H locs ls hw (lv_sub hl [1, 2, 3, 0] rfl)
        · refine lv_aload_n hx hb dX1_prune_54 rfl (lv_at hl 0 rfl) ?_
          refine lv_iload_n hx hb dX1_prune_55 rfl (lv_at hl 3 rfl) ?_
          refine lv_iconst (v := nI 2) hx hb dX1_prune_56 (by decide) ?_
          refine n_irem hx hb (by omega) (by omega) (by omega) dX1_prune_57 ?_
          refine n_if_ne (tgt := 67) hx hb (by omega) dX1_prune_58 (by decide) (fun h5 => ?_) (fun h5 => ?_)
          · have hpt : pm_pt k1 = (k1 - 1) := by unfold pm_pt; rw [if_neg h5]
            refine lv_iload_n hx hb dX1_prune_67 rfl (lv_at hl 3 rfl) ?_
            refine lv_iconst (v := nI 1) hx hb dX1_prune_68 (by decide) ?_
            refine n_isub hx hb (by omega) dX1_prune_69 ?_
            refine lv_iload_n hx hb dX1_prune_70 rfl (lv_at hl 3 rfl) ?_
            refine CV.call (As := [.int (nI (k1 - 1)), .int (nI k1)]) (rest := []) (ci := 1) (n := 2) (pm_copy l D h q d R1 S1 ra1 tp1 bt1 (k1 - 1) k1 (by omega) h3) hc hw rfl rfl (cwV 2 hts (lw_V q290 q292 qs25 q28 q293) rfl rfl rfl (by decide +kernel) ⟨Nat.le_of_ble_eq_true rfl, Nat.le_of_ble_eq_true rfl⟩) rfl hl.1 rfl (Nat.le_of_ble_eq_true rfl) ⟨Nat.le_of_ble_eq_true rfl, Nat.le_of_ble_eq_true rfl⟩ dX1_prune_71 (fun u H locs hu hwc => ?_)
            subst hu
            have hw : ww D (mF h q d) A s.heap H locs ((upd R1 k1 (R1 (k1 - 1))), (pm_cp (k1 - 1) k1 4 0 S1), ra1, tp1, bt1) := hwc
            refine lv_iinc (v := nI (c1 + 1)) (lv' := [(2, .int (nI (c1 + 1))), (0, .ref h), (1, .int (nI (pm_bd (fun k => pm_gd (ps_bb R S) (k / 2) (k % 2) 16 0) 8 0 0))), (3, .int (nI k1))]) hx hb dX1_prune_74 hl (k := 2) rfl (n_inc _) (by decide) rfl (fun ls hl => ?_)
            refine lv_iinc (v := nI (k1 + 1)) (lv' := [(3, .int (nI (k1 + 1))), (2, .int (nI (c1 + 1))), (0, .ref h), (1, .int (nI (pm_bd (fun k => pm_gd (ps_bb R S) (k / 2) (k % 2) 16 0) 8 0 0)))]) hx hb dX1_prune_77 hl (k := 3) rfl (n_inc _) (by decide) rfl (fun ls hl => ?_)
            refine lv_goto (tgt := 39) hx hb dX1_prune_80 (by decide) ?_
            exact ih (k1 + 1) _ _ _ _ _ _ (by omega) (by rw [← g2, pm_pr_1 h4, hpt]) H locs ls hw (lv_sub hl [2, 3, 1, 0] rfl)
          · have hpt : pm_pt k1 = (k1 + 1) := by unfold pm_pt; rw [if_pos h5]
            refine lv_iload_n hx hb dX1_prune_61 rfl (lv_at hl 3 rfl) ?_
            refine lv_iconst (v := nI 1) hx hb dX1_prune_62 (by decide) ?_
            refine n_iadd hx hb dX1_prune_63 ?_
            refine lv_goto (tgt := 70) hx hb dX1_prune_64 (by decide) ?_
            refine lv_iload_n hx hb dX1_prune_70 rfl (lv_at hl 3 rfl) ?_
            refine CV.call (As := [.int (nI (k1 + 1)), .int (nI k1)]) (rest := []) (ci := 1) (n := 2) (pm_copy l D h q d R1 S1 ra1 tp1 bt1 (k1 + 1) k1 (by omega) h3) hc hw rfl rfl (cwV 2 hts (lw_V q290 q292 qs25 q28 q293) rfl rfl rfl (by decide +kernel) ⟨Nat.le_of_ble_eq_true rfl, Nat.le_of_ble_eq_true rfl⟩) rfl hl.1 rfl (Nat.le_of_ble_eq_true rfl) ⟨Nat.le_of_ble_eq_true rfl, Nat.le_of_ble_eq_true rfl⟩ dX1_prune_71 (fun u H locs hu hwc => ?_)
            subst hu
            have hw : ww D (mF h q d) A s.heap H locs ((upd R1 k1 (R1 (k1 + 1))), (pm_cp (k1 + 1) k1 4 0 S1), ra1, tp1, bt1) := hwc
            refine lv_iinc (v := nI (c1 + 1)) (lv' := [(2, .int (nI (c1 + 1))), (0, .ref h), (1, .int (nI (pm_bd (fun k => pm_gd (ps_bb R S) (k / 2) (k % 2) 16 0) 8 0 0))), (3, .int (nI k1))]) hx hb dX1_prune_74 hl (k := 2) rfl (n_inc _) (by decide) rfl (fun ls hl => ?_)
            refine lv_iinc (v := nI (k1 + 1)) (lv' := [(3, .int (nI (k1 + 1))), (2, .int (nI (c1 + 1))), (0, .ref h), (1, .int (nI (pm_bd (fun k => pm_gd (ps_bb R S) (k / 2) (k % 2) 16 0) 8 0 0)))]) hx hb dX1_prune_77 hl (k := 3) rfl (n_inc _) (by decide) rfl (fun ls hl => ?_)
            refine lv_goto (tgt := 39) hx hb dX1_prune_80 (by decide) ?_
            exact ih (k1 + 1) _ _ _ _ _ _ (by omega) (by rw [← g2, pm_pr_1 h4, hpt]) H locs ls hw (lv_sub hl [2, 3, 1, 0] rfl)
  have L1 : ∀ (n k1 b1 : Nat) (ra1 tp1 bt1 : Nat → Int64), k1 + n = 8 → b1 < 2 ^ k1 → pm_bd (fun k => pm_gd (ps_bb R S) (k / 2) (k % 2) 16 0) n k1 b1 = (pm_bd (fun k => pm_gd (ps_bb R S) (k / 2) (k % 2) 16 0) 8 0 0) → ∀ (H : Heap) (locs : List Loc) (ls : Array Slot), ww D (mF h q d) A s.heap H locs (R, S, ra1, tp1, bt1) → lv_has ls 4 [(0, .ref h), (1, .int (nI b1)), (2, .int (nI 0)), (3, .int (nI k1))] → W p l e (rmK 5 150) s m [.ref h].toArray below meth c H locs 0 0 Q (F0 m 6 ls []) := by
    intro n
    induction n with
    | zero =>
      intro k1 b1 ra1 tp1 bt1 g1 g2 g3 H locs ls hw hl
      refine lv_iload_n hx hb dX1_prune_6 rfl (lv_at hl 3 rfl) ?_
      refine lv_bipush (v := nI 8) hx hb dX1_prune_7 (by decide) ?_
      refine n_icmp_ge (tgt := 37) hx hb (by omega) (by omega) dX1_prune_9 (by decide) (fun h3 => ?_) (fun h3 => ?_)
      · refine lv_iconst (v := nI 0) hx hb dX1_prune_37 (by decide) ?_
        refine lv_istore_n (lv' := [(3, .int (nI 0)), (0, .ref h), (1, .int (nI b1)), (2, .int (nI 0))]) hx hb dX1_prune_38 rfl hl (by decide) rfl (fun ls hl => ?_)
        have g3 : b1 = (pm_bd (fun k => pm_gd (ps_bb R S) (k / 2) (k % 2) 16 0) 8 0 0) := g3
        rw [g3] at hl
        exact L2 8 0 R S 0 _ _ _ rfl rfl H locs _ hw (lv_sub hl [1, 2, 3, 0] rfl)
      · exact absurd h3 (by omega)
    | succ n ih =>
      intro k1 b1 ra1 tp1 bt1 g1 g2 g3 H locs ls hw hl
      have hpw : 2 ^ (k1 + 1) = 2 * 2 ^ k1 := by rw [Nat.pow_succ]; omega
      refine lv_iload_n hx hb dX1_prune_6 rfl (lv_at hl 3 rfl) ?_
      refine lv_bipush (v := nI 8) hx hb dX1_prune_7 (by decide) ?_
      refine n_icmp_ge (tgt := 37) hx hb (by omega) (by omega) dX1_prune_9 (by decide) (fun h3 => ?_) (fun h3 => ?_)
      · exact absurd h3 (by omega)
      · refine lv_aload_n hx hb dX1_prune_12 rfl (lv_at hl 0 rfl) ?_
        refine lv_iload_n hx hb dX1_prune_13 rfl (lv_at hl 3 rfl) ?_
        refine lv_iconst (v := nI 2) hx hb dX1_prune_14 (by decide) ?_
        refine n_idiv hx hb (by omega) (by omega) (by omega) dX1_prune_15 ?_
        refine lv_iload_n hx hb dX1_prune_16 rfl (lv_at hl 3 rfl) ?_
        refine lv_iconst (v := nI 2) hx hb dX1_prune_17 (by decide) ?_
        refine n_irem hx hb (by omega) (by omega) (by omega) dX1_prune_18 ?_
        refine CI.call (As := [.int (nI (k1 / 2)), .int (nI (k1 % 2))]) (rest := []) (ci := 1) (n := 2) (pm_good l D h q d R S ra1 tp1 bt1 (nI (k1 / 2)) (nI (k1 % 2)) hok) hc hw rfl rfl (cwV 2 hts (lw_V q289 q282 q283 q28 q284) rfl rfl rfl (by decide +kernel) ⟨Nat.le_of_ble_eq_true rfl, Nat.le_of_ble_eq_true rfl⟩) rfl hl.1 rfl (Nat.le_of_ble_eq_true rfl) ⟨Nat.le_of_ble_eq_true rfl, Nat.le_of_ble_eq_true rfl⟩ dX1_prune_19 (fun r u H locs hu hwc => ?_)
        obtain ⟨⟨ra2, tp2, bt2, rfl⟩, hr⟩ := hu
        have hw : ww D (mF h q d) A s.heap H locs (R, S, ra2, tp2, bt2) := hwc
        have hr := ps_in2 (f := fun a b => if pm_gd (ps_bb R S) a b 16 0 = true then 1 else 0) (show k1 / 2 < 4 by omega) (show k1 % 2 < 2 by omega) (by decide) (by decide) hr
        by_cases hg : pm_gd (ps_bb R S) (k1 / 2) (k1 % 2) 16 0 = true
        · rw [if_pos hg] at hr
          subst hr
          refine lv_if_ne (tgt := 31) hx hb dX1_prune_22 (by decide) (fun h4 => ?_) (fun h4 => ?_)
          · refine lv_iinc (v := nI (k1 + 1)) (lv' := [(3, .int (nI (k1 + 1))), (0, .ref h), (1, .int (nI b1)), (2, .int (nI 0))]) hx hb dX1_prune_31 hl (k := 3) rfl (n_inc _) (by decide) rfl (fun ls hl => ?_)
            refine lv_goto (tgt := 6) hx hb dX1_prune_34 (by decide) ?_
            exact ih (k1 + 1) b1 _ _ _ (by omega) (by omega) (by rw [← g3, pm_bd, if_pos hg]) H locs ls hw (lv_sub hl [1, 2, 3, 0] rfl)
          · exact absurd h4 (by decide)
        · rw [if_neg hg] at hr
          subst hr
          refine lv_if_ne (tgt := 31) hx hb dX1_prune_22 (by decide) (fun h4 => ?_) (fun h4 => ?_)
          · exact absurd h4 (by decide)
          · refine lv_iload_n hx hb dX1_prune_25 rfl (lv_at hl 1 rfl) ?_
            refine lv_iconst (v := nI 1) hx hb dX1_prune_26 (by decide) ?_
            refine lv_iload_n hx hb dX1_prune_27 rfl (lv_at hl 3 rfl) ?_
            refine lv_ishl hx hb dX1_prune_28 ?_
            refine lv_ior hx hb dX1_prune_29 ?_
            refine n_top (y := nI (b1 + 2 ^ k1)) (ps_orb_8 h3 g2) ?_
            refine lv_istore_n (lv' := [(1, .int (nI (b1 + 2 ^ k1))), (0, .ref h), (2, .int (nI 0)), (3, .int (nI k1))]) hx hb dX1_prune_30 rfl hl (by decide) rfl (fun ls hl => ?_)
            refine lv_iinc (v := nI (k1 + 1)) (lv' := [(3, .int (nI (k1 + 1))), (1, .int (nI (b1 + 2 ^ k1))), (0, .ref h), (2, .int (nI 0))]) hx hb dX1_prune_31 hl (k := 3) rfl (n_inc _) (by decide) rfl (fun ls hl => ?_)
            refine lv_goto (tgt := 6) hx hb dX1_prune_34 (by decide) ?_
            exact ih (k1 + 1) (b1 + 2 ^ k1) _ _ _ (by omega) (by omega) (by rw [← g3, pm_bd, if_neg hg]) H locs ls hw (lv_sub hl [2, 1, 3, 0] rfl)
  refine lv_iconst (v := nI 0) hx hb dX1_prune_0 (by decide) ?_
  refine lv_istore_n (lv' := [(1, .int (nI 0)), (0, .ref h)]) hx hb dX1_prune_1 rfl hl (by decide) rfl (fun ls hl => ?_)
  refine lv_iconst (v := nI 0) hx hb dX1_prune_2 (by decide) ?_
  refine lv_istore_n (lv' := [(2, .int (nI 0)), (1, .int (nI 0)), (0, .ref h)]) hx hb dX1_prune_3 rfl hl (by decide) rfl (fun ls hl => ?_)
  refine lv_iconst (v := nI 0) hx hb dX1_prune_4 (by decide) ?_
  refine lv_istore_n (lv' := [(3, .int (nI 0)), (2, .int (nI 0)), (1, .int (nI 0)), (0, .ref h)]) hx hb dX1_prune_5 rfl hl (by decide) rfl (fun ls hl => ?_)
  exact L1 8 0 0 ra tp bt rfl (by decide) rfl _ _ _ hw (lv_sub hl [3, 2, 1, 0] rfl)
set_option maxHeartbeats 4000000 in
set_option maxRecDepth 100000 in
theorem pm_compare (l : Launch) (D : va_G) (h : Nat) (q : Nat → Nat) (d : Nat → ClassId) (R S : Nat → Int32) (ra tp bt : Nat → Int64) (x1 x2 x3 : Int32) (hok : ps_Ok R S) : CI l D (mF h q d) (mT d) yX1_compare cX1_compare 4 .int (rmK 4 120) [.ref h, .int x1, .int x2, .int x3] (R, S, ra, tp, bt) (fun r u => (∃ ra1 tp1 bt1, u = (R, S, ra1, tp1, bt1)) ∧ ((∃ p1 p2 s1, p1 < 16 ∧ p2 < 16 ∧ s1 < 4 ∧ x1 = nI p1 ∧ x2 = nI p2 ∧ x3 = nI s1 ∧ r = ps_cmp (ps_tp R S p1 s1 * ps_bo R S p2) (ps_tp R S p2 s1 * ps_bo R S p1)) ∨ (¬ (ps_in x1 16 ∧ ps_in x2 16 ∧ ps_in x3 4) ∧ r = -2))) := by
  refine CI.of (by decide) (Nat.le_of_ble_eq_true rfl) ?_
  intro p e s m below meth c A Q ls hc hret hw hl
  obtain ⟨hx, hb, hml, hown, hts, hK, hA⟩ := id hc
  have hl : lv_has ls 4 [(0, .ref h), (1, .int x1), (2, .int x2), (3, .int x3)] := hl
  refine lv_aload_n hx hb dX1_compare_0 rfl (lv_at hl 0 rfl) ?_
  refine lv_iload_n hx hb dX1_compare_1 rfl (lv_at hl 1 rfl) ?_
  refine CI.call (As := [.int x1]) (rest := []) (ci := 1) (n := 1) (pm_isPolicy l D h q d (R, S, ra, tp, bt) x1) hc hw rfl rfl (cwV 1 hts (lw_V q213 q215 qs14 q28 q216) rfl rfl rfl (by decide +kernel) ⟨Nat.le_of_ble_eq_true rfl, Nat.le_of_ble_eq_true rfl⟩) rfl hl.1 rfl (Nat.le_of_ble_eq_true rfl) ⟨Nat.le_of_ble_eq_true rfl, Nat.le_of_ble_eq_true rfl⟩ dX1_compare_2 (fun r u H locs hu hwc => ?_)
  have hw : ww D (mF h q d) A s.heap H locs (R, S, ra, tp, bt) := by rw [hu.1] at hwc; exact hwc
  obtain ⟨-, hu⟩ := hu
  rcases hu with ⟨rfl, h1⟩ | ⟨rfl, h1⟩
  · refine lv_if_eq (tgt := 24) hx hb dX1_compare_5 (by decide) (fun hN => ?_) (fun hN => ?_)
    · exact absurd hN (by decide)
    · refine lv_aload_n hx hb dX1_compare_8 rfl (lv_at hl 0 rfl) ?_
      refine lv_iload_n hx hb dX1_compare_9 rfl (lv_at hl 2 rfl) ?_
      refine CI.call (As := [.int x2]) (rest := []) (ci := 1) (n := 1) (pm_isPolicy l D h q d (R, S, ra, tp, bt) x2) hc hw rfl rfl (cwV 1 hts (lw_V q213 q215 qs14 q28 q216) rfl rfl rfl (by decide +kernel) ⟨Nat.le_of_ble_eq_true rfl, Nat.le_of_ble_eq_true rfl⟩) rfl hl.1 rfl (Nat.le_of_ble_eq_true rfl) ⟨Nat.le_of_ble_eq_true rfl, Nat.le_of_ble_eq_true rfl⟩ dX1_compare_10 (fun r u H locs hu hwc => ?_)
      have hw : ww D (mF h q d) A s.heap H locs (R, S, ra, tp, bt) := by rw [hu.1] at hwc; exact hwc
      obtain ⟨-, hu⟩ := hu
      rcases hu with ⟨rfl, h2⟩ | ⟨rfl, h2⟩
      · refine lv_if_eq (tgt := 24) hx hb dX1_compare_13 (by decide) (fun hN => ?_) (fun hN => ?_)
        · exact absurd hN (by decide)
        · refine lv_aload_n hx hb dX1_compare_16 rfl (lv_at hl 0 rfl) ?_
          refine lv_iload_n hx hb dX1_compare_17 rfl (lv_at hl 3 rfl) ?_
          refine CI.call (As := [.int x3]) (rest := []) (ci := 1) (n := 1) (pm_isState l D h q d (R, S, ra, tp, bt) x3) hc hw rfl rfl (cwV 1 hts (lw_V q217 q219 qs15 q28 q220) rfl rfl rfl (by decide +kernel) ⟨Nat.le_of_ble_eq_true rfl, Nat.le_of_ble_eq_true rfl⟩) rfl hl.1 rfl (Nat.le_of_ble_eq_true rfl) ⟨Nat.le_of_ble_eq_true rfl, Nat.le_of_ble_eq_true rfl⟩ dX1_compare_18 (fun r u H locs hu hwc => ?_)
          have hw : ww D (mF h q d) A s.heap H locs (R, S, ra, tp, bt) := by rw [hu.1] at hwc; exact hwc
          obtain ⟨-, hu⟩ := hu
          rcases hu with ⟨rfl, h3⟩ | ⟨rfl, h3⟩
          · refine lv_if_ne (tgt := 27) hx hb dX1_compare_21 (by decide) (fun hN => ?_) (fun hN => ?_)
            · obtain ⟨p1, hp1, rfl⟩ := h1
              obtain ⟨p2, hp2, rfl⟩ := h2
              obtain ⟨s1, hs1, rfl⟩ := h3
              refine lv_aload_n hx hb dX1_compare_27 rfl (lv_at hl 0 rfl) ?_
              refine CV.call (As := []) (rest := []) (ci := 1) (n := 0) (pm_solve l D h q d R S ra tp bt hok) hc hw rfl rfl (cwV 0 hts (lw_V q222 q224 qs16 q28 q225) rfl rfl rfl (by decide +kernel) ⟨Nat.le_of_ble_eq_true rfl, Nat.le_of_ble_eq_true rfl⟩) rfl hl.1 rfl (Nat.le_of_ble_eq_true rfl) ⟨Nat.le_of_ble_eq_true rfl, Nat.le_of_ble_eq_true rfl⟩ dX1_compare_28 (fun u H locs hu hwc => ?_)
              obtain ⟨ra1, tp1, bt1, rfl, hall⟩ := hu
              have hw : ww D (mF h q d) A s.heap H locs (R, S, ra1, tp1, bt1) := hwc
              refine lv_aload_n hx hb dX1_compare_31 rfl (lv_at hl 0 rfl) ?_
              refine lv_iload_n hx hb dX1_compare_32 rfl (lv_at hl 1 rfl) ?_
              refine lv_iload_n hx hb dX1_compare_33 rfl (lv_at hl 2 rfl) ?_
              refine lv_iload_n hx hb dX1_compare_34 rfl (lv_at hl 3 rfl) ?_
              refine CI.call (As := [.int (nI p1), .int (nI p2), .int (nI s1)]) (rest := []) (ci := 1) (n := 3) (pm_order l D h q d R S ra1 tp1 bt1 p1 p2 s1 hp1 hp2 hs1 hok hall) hc hw rfl rfl (cwV 3 hts (lw_V q263 q265 qs24 q28 q266) rfl rfl rfl (by decide +kernel) ⟨Nat.le_of_ble_eq_true rfl, Nat.le_of_ble_eq_true rfl⟩) rfl hl.1 rfl (Nat.le_of_ble_eq_true rfl) ⟨Nat.le_of_ble_eq_true rfl, Nat.le_of_ble_eq_true rfl⟩ dX1_compare_35 (fun r u H locs hu hwc => ?_)
              have hw : ww D (mF h q d) A s.heap H locs (R, S, ra1, tp1, bt1) := by rw [hu.1] at hwc; exact hwc
              obtain ⟨-, rfl⟩ := hu
              exact hret _ _ _ _ _ _ dX1_compare_38 (vp_nar_int _) (⟨⟨_, _, _, rfl⟩, Or.inl ⟨p1, p2, s1, hp1, hp2, hs1, rfl, rfl, rfl, rfl⟩⟩) hw
            · exact absurd hN (by decide)
          · refine lv_if_ne (tgt := 27) hx hb dX1_compare_21 (by decide) (fun hN => ?_) (fun hN => ?_)
            · exact absurd hN (by decide)
            · refine lv_bipush (v := (-2)) hx hb dX1_compare_24 (by decide) ?_
              exact hret _ _ _ _ _ _ dX1_compare_26 (rfl) (⟨⟨_, _, _, rfl⟩, Or.inr ⟨fun z => h3 z.2.2, rfl⟩⟩) hw
      · refine lv_if_eq (tgt := 24) hx hb dX1_compare_13 (by decide) (fun hN => ?_) (fun hN => ?_)
        · refine lv_bipush (v := (-2)) hx hb dX1_compare_24 (by decide) ?_
          exact hret _ _ _ _ _ _ dX1_compare_26 (rfl) (⟨⟨_, _, _, rfl⟩, Or.inr ⟨fun z => h2 z.2.1, rfl⟩⟩) hw
        · exact absurd hN (by decide)
  · refine lv_if_eq (tgt := 24) hx hb dX1_compare_5 (by decide) (fun hN => ?_) (fun hN => ?_)
    · refine lv_bipush (v := (-2)) hx hb dX1_compare_24 (by decide) ?_
      exact hret _ _ _ _ _ _ dX1_compare_26 (rfl) (⟨⟨_, _, _, rfl⟩, Or.inr ⟨fun z => h1 z.1, rfl⟩⟩) hw
    · exact absurd hN (by decide)
set_option maxHeartbeats 4000000 in
set_option maxRecDepth 100000 in
theorem pm_reward (l : Launch) (D : va_G) (h : Nat) (q : Nat → Nat) (d : Nat → ClassId) (R S : Nat → Int32) (ra tp bt : Nat → Int64) (x1 x2 x3 : Int32) : CI l D (mF h q d) (mT d) yX1_reward cX1_reward 4 .boolean (rmK 1 30) [.ref h, .int x1, .int x2, .int x3] (R, S, ra, tp, bt) (fun r u => (∃ s1 a1, s1 < 4 ∧ a1 < 2 ∧ x1 = nI s1 ∧ x2 = nI a1 ∧ (-20 ≤ x3.toInt ∧ x3.toInt ≤ 20) ∧ u = (upd R (2 * s1 + a1) x3, S, ra, tp, bt) ∧ r = 1) ∨ (¬ ps_okR x1 x2 x3 ∧ u = (R, S, ra, tp, bt) ∧ r = 0)) := by
  refine CI.of (by decide) (Nat.le_of_ble_eq_true rfl) ?_
  intro p e s m below meth c A Q ls hc hret hw hl
  obtain ⟨hx, hb, hml, hown, hts, hK, hA⟩ := id hc
  have hl : lv_has ls 4 [(0, .ref h), (1, .int x1), (2, .int x2), (3, .int x3)] := hl
  refine lv_aload_n hx hb dX1_reward_0 rfl (lv_at hl 0 rfl) ?_
  refine lv_iload_n hx hb dX1_reward_1 rfl (lv_at hl 1 rfl) ?_
  refine lv_iload_n hx hb dX1_reward_2 rfl (lv_at hl 2 rfl) ?_
  refine CI.call (As := [.int x1, .int x2]) (rest := []) (ci := 1) (n := 2) (pm_isAction l D h q d (R, S, ra, tp, bt) x1 x2) hc hw rfl rfl (cwV 2 hts (lw_V q201 q203 qs13 q28 q204) rfl rfl rfl (by decide +kernel) ⟨Nat.le_of_ble_eq_true rfl, Nat.le_of_ble_eq_true rfl⟩) rfl hl.1 rfl (Nat.le_of_ble_eq_true rfl) ⟨Nat.le_of_ble_eq_true rfl, Nat.le_of_ble_eq_true rfl⟩ dX1_reward_3 (fun r u H locs hu hwc => ?_)
  have hw : ww D (mF h q d) A s.heap H locs (R, S, ra, tp, bt) := by rw [hu.1] at hwc; exact hwc
  obtain ⟨-, hu⟩ := hu
  rcases hu with ⟨rfl, h1⟩ | ⟨rfl, h1⟩
  · refine lv_if_eq (tgt := 21) hx hb dX1_reward_6 (by decide) (fun hN => ?_) (fun hN => ?_)
    · exact absurd hN (by decide)
    · refine lv_iload_n hx hb dX1_reward_9 rfl (lv_at hl 3 rfl) ?_
      refine lv_bipush (v := (-20)) hx hb dX1_reward_10 (by decide) ?_
      refine lv_icmp_lt (tgt := 21) hx hb dX1_reward_12 (by decide) (fun h4 => ?_) (fun h4 => ?_)
      · refine lv_iconst (v := 0) hx hb dX1_reward_21 (by decide) ?_
        exact hret _ _ _ _ _ _ dX1_reward_22 (rfl) (Or.inr ⟨fun z => z.2.2.1 h4, rfl, rfl⟩) hw
      · refine lv_iload_n hx hb dX1_reward_15 rfl (lv_at hl 3 rfl) ?_
        refine lv_bipush (v := nI 20) hx hb dX1_reward_16 (by decide) ?_
        refine lv_icmp_le (tgt := 23) hx hb dX1_reward_18 (by decide) (fun h5 => ?_) (fun h5 => ?_)
        · have h6 := ps_r20 h4 h5
          obtain ⟨⟨s1, hs1, rfl⟩, ⟨a1, ha1, rfl⟩⟩ := h1
          refine lv_aload_n hx hb dX1_reward_23 rfl (lv_at hl 0 rfl) ?_
          refine m_get0 hc hw dX1_reward_24 ?_
          refine lv_iconst (v := nI 2) hx hb dX1_reward_27 (by decide) ?_
          refine lv_iload_n hx hb dX1_reward_28 rfl (lv_at hl 1 rfl) ?_
          refine n_imul hx hb dX1_reward_29 ?_
          refine lv_iload_n hx hb dX1_reward_30 rfl (lv_at hl 2 rfl) ?_
          refine n_iadd hx hb dX1_reward_31 ?_
          refine lv_iload_n hx hb dX1_reward_32 rfl (lv_at hl 3 rfl) ?_
          refine m_st0 hc hw (by omega) dX1_reward_33 (fun H locs hw => ?_)
          refine lv_iconst (v := 1) hx hb dX1_reward_34 (by decide) ?_
          exact hret _ _ _ _ _ _ dX1_reward_35 (rfl) (Or.inl ⟨s1, a1, hs1, ha1, rfl, rfl, h6, rfl, rfl⟩) hw
        · refine lv_iconst (v := 0) hx hb dX1_reward_21 (by decide) ?_
          exact hret _ _ _ _ _ _ dX1_reward_22 (rfl) (Or.inr ⟨fun z => h5 z.2.2.2, rfl, rfl⟩) hw
  · refine lv_if_eq (tgt := 21) hx hb dX1_reward_6 (by decide) (fun hN => ?_) (fun hN => ?_)
    · refine lv_iconst (v := 0) hx hb dX1_reward_21 (by decide) ?_
      exact hret _ _ _ _ _ _ dX1_reward_22 (rfl) (Or.inr ⟨fun z => h1 ⟨z.1, z.2.1⟩, rfl, rfl⟩) hw
    · exact absurd hN (by decide)
set_option maxHeartbeats 4000000 in
set_option maxRecDepth 100000 in
theorem pm_shares (l : Launch) (D : va_G) (h : Nat) (q : Nat → Nat) (d : Nat → ClassId) (R S : Nat → Int32) (ra tp bt : Nat → Int64) (x1 x2 x3 : Int32) : CI l D (mF h q d) (mT d) yX1_shares cX1_shares 6 .boolean (rmK 1 30) [.ref h, .int x1, .int x2, .int x3] (R, S, ra, tp, bt) (fun r u => (∃ s1 a1 n, s1 < 4 ∧ a1 < 2 ∧ n < 625 ∧ x1 = nI s1 ∧ x2 = nI a1 ∧ x3 = nI n ∧ ps_dig n = 4 ∧ u = (R, pm_sh S (2 * s1 + a1) n, ra, tp, bt) ∧ r = 1) ∨ (¬ ps_okS x1 x2 x3 ∧ u = (R, S, ra, tp, bt) ∧ r = 0)) := by
  refine CI.of (by decide) (Nat.le_of_ble_eq_true rfl) ?_
  intro p e s m below meth c A Q ls hc hret hw hl
  obtain ⟨hx, hb, hml, hown, hts, hK, hA⟩ := id hc
  have hl : lv_has ls 6 [(0, .ref h), (1, .int x1), (2, .int x2), (3, .int x3)] := hl
  refine lv_aload_n hx hb dX1_shares_0 rfl (lv_at hl 0 rfl) ?_
  refine lv_iload_n hx hb dX1_shares_1 rfl (lv_at hl 1 rfl) ?_
  refine lv_iload_n hx hb dX1_shares_2 rfl (lv_at hl 2 rfl) ?_
  refine CI.call (As := [.int x1, .int x2]) (rest := []) (ci := 1) (n := 2) (pm_isAction l D h q d (R, S, ra, tp, bt) x1 x2) hc hw rfl rfl (cwV 2 hts (lw_V q201 q203 qs13 q28 q204) rfl rfl rfl (by decide +kernel) ⟨Nat.le_of_ble_eq_true rfl, Nat.le_of_ble_eq_true rfl⟩) rfl hl.1 rfl (Nat.le_of_ble_eq_true rfl) ⟨Nat.le_of_ble_eq_true rfl, Nat.le_of_ble_eq_true rfl⟩ dX1_shares_3 (fun r u H locs hu hwc => ?_)
  have hw : ww D (mF h q d) A s.heap H locs (R, S, ra, tp, bt) := by rw [hu.1] at hwc; exact hwc
  obtain ⟨-, hu⟩ := hu
  rcases hu with ⟨rfl, h1⟩ | ⟨rfl, h1⟩
  · refine lv_if_eq (tgt := 20) hx hb dX1_shares_6 (by decide) (fun hN => ?_) (fun hN => ?_)
    · exact absurd hN (by decide)
    · refine lv_iload_n hx hb dX1_shares_9 rfl (lv_at hl 3 rfl) ?_
      refine lv_if_lt (tgt := 20) hx hb dX1_shares_10 (by decide) (fun h4 => ?_) (fun h4 => ?_)
      · refine lv_iconst (v := 0) hx hb dX1_shares_20 (by decide) ?_
        exact hret _ _ _ _ _ _ dX1_shares_21 (rfl) (Or.inr ⟨ps_okS_i (ps_nin_neg (by decide) h4), rfl, rfl⟩) hw
      · refine lv_iload_n hx hb dX1_shares_13 rfl (lv_at hl 3 rfl) ?_
        refine lv_sipush (v := nI 624) hx hb dX1_shares_14 (by decide) ?_
        refine lv_icmp_le (tgt := 22) hx hb dX1_shares_17 (by decide) (fun h5 => ?_) (fun h5 => ?_)
        · obtain ⟨n, hn, rfl⟩ : ps_in x3 625 := ps_in_le2 (by decide) h4 h5
          refine lv_iload_n hx hb dX1_shares_22 rfl (lv_at hl 3 rfl) ?_
          refine lv_bipush (v := nI 125) hx hb dX1_shares_23 (by decide) ?_
          refine n_idiv hx hb (by omega) (by omega) (by omega) dX1_shares_25 ?_
          refine lv_iload_n hx hb dX1_shares_26 rfl (lv_at hl 3 rfl) ?_
          refine lv_bipush (v := nI 25) hx hb dX1_shares_27 (by decide) ?_
          refine n_idiv hx hb (by omega) (by omega) (by omega) dX1_shares_29 ?_
          refine lv_iconst (v := nI 5) hx hb dX1_shares_30 (by decide) ?_
          refine n_irem hx hb (by omega) (by omega) (by omega) dX1_shares_31 ?_
          refine n_iadd hx hb dX1_shares_32 ?_
          refine lv_iload_n hx hb dX1_shares_33 rfl (lv_at hl 3 rfl) ?_
          refine lv_iconst (v := nI 5) hx hb dX1_shares_34 (by decide) ?_
          refine n_idiv hx hb (by omega) (by omega) (by omega) dX1_shares_35 ?_
          refine lv_iconst (v := nI 5) hx hb dX1_shares_36 (by decide) ?_
          refine n_irem hx hb (by omega) (by omega) (by omega) dX1_shares_37 ?_
          refine n_iadd hx hb dX1_shares_38 ?_
          refine lv_iload_n hx hb dX1_shares_39 rfl (lv_at hl 3 rfl) ?_
          refine lv_iconst (v := nI 5) hx hb dX1_shares_40 (by decide) ?_
          refine n_irem hx hb (by omega) (by omega) (by omega) dX1_shares_41 ?_
          refine n_iadd hx hb dX1_shares_42 ?_
          refine lv_istore (lv' := [(4, .int (nI ((((n / 125) + ((n / 25) % 5)) + ((n / 5) % 5)) + (n % 5)))), (0, .ref h), (1, .int x1), (2, .int x2), (3, .int (nI n))]) hx hb dX1_shares_43 hl (by decide) rfl (fun ls hl => ?_)
          refine lv_iload hx hb dX1_shares_45 (lv_at hl 0 rfl) ?_
          refine lv_iconst (v := nI 4) hx hb dX1_shares_47 (by decide) ?_
          refine n_icmp_eq (tgt := 53) hx hb (by omega) (by omega) dX1_shares_48 (by decide) (fun h6 => ?_) (fun h6 => ?_)
          · obtain ⟨⟨s1, hs1, rfl⟩, ⟨a1, ha1, rfl⟩⟩ := h1
            refine lv_iconst (v := nI 4) hx hb dX1_shares_53 (by decide) ?_
            refine lv_iconst (v := nI 2) hx hb dX1_shares_54 (by decide) ?_
            refine lv_iload_n hx hb dX1_shares_55 rfl (lv_at hl 2 rfl) ?_
            refine n_imul hx hb dX1_shares_56 ?_
            refine lv_iload_n hx hb dX1_shares_57 rfl (lv_at hl 3 rfl) ?_
            refine n_iadd hx hb dX1_shares_58 ?_
            refine n_imul hx hb dX1_shares_59 ?_
            refine lv_istore (lv' := [(5, .int (nI (4 * ((2 * s1) + a1)))), (4, .int (nI ((((n / 125) + ((n / 25) % 5)) + ((n / 5) % 5)) + (n % 5)))), (0, .ref h), (1, .int (nI s1)), (2, .int (nI a1)), (3, .int (nI n))]) hx hb dX1_shares_60 hl (by decide) rfl (fun ls hl => ?_)
            refine lv_aload_n hx hb dX1_shares_62 rfl (lv_at hl 2 rfl) ?_
            refine m_get1 hc hw dX1_shares_63 ?_
            refine lv_iload hx hb dX1_shares_66 (lv_at hl 0 rfl) ?_
            refine lv_iload_n hx hb dX1_shares_68 rfl (lv_at hl 5 rfl) ?_
            refine lv_bipush (v := nI 125) hx hb dX1_shares_69 (by decide) ?_
            refine n_idiv hx hb (by omega) (by omega) (by omega) dX1_shares_71 ?_
            refine m_st1 hc hw (by omega) dX1_shares_72 (fun H locs hw => ?_)
            refine lv_aload_n hx hb dX1_shares_73 rfl (lv_at hl 2 rfl) ?_
            refine m_get1 hc hw dX1_shares_74 ?_
            refine lv_iload hx hb dX1_shares_77 (lv_at hl 0 rfl) ?_
            refine lv_iconst (v := nI 1) hx hb dX1_shares_79 (by decide) ?_
            refine n_iadd hx hb dX1_shares_80 ?_
            refine lv_iload_n hx hb dX1_shares_81 rfl (lv_at hl 5 rfl) ?_
            refine lv_bipush (v := nI 25) hx hb dX1_shares_82 (by decide) ?_
            refine n_idiv hx hb (by omega) (by omega) (by omega) dX1_shares_84 ?_
            refine lv_iconst (v := nI 5) hx hb dX1_shares_85 (by decide) ?_
            refine n_irem hx hb (by omega) (by omega) (by omega) dX1_shares_86 ?_
            refine m_st1 hc hw (by omega) dX1_shares_87 (fun H locs hw => ?_)
            refine lv_aload_n hx hb dX1_shares_88 rfl (lv_at hl 2 rfl) ?_
            refine m_get1 hc hw dX1_shares_89 ?_
            refine lv_iload hx hb dX1_shares_92 (lv_at hl 0 rfl) ?_
            refine lv_iconst (v := nI 2) hx hb dX1_shares_94 (by decide) ?_
            refine n_iadd hx hb dX1_shares_95 ?_
            refine lv_iload_n hx hb dX1_shares_96 rfl (lv_at hl 5 rfl) ?_
            refine lv_iconst (v := nI 5) hx hb dX1_shares_97 (by decide) ?_
            refine n_idiv hx hb (by omega) (by omega) (by omega) dX1_shares_98 ?_
            refine lv_iconst (v := nI 5) hx hb dX1_shares_99 (by decide) ?_
            refine n_irem hx hb (by omega) (by omega) (by omega) dX1_shares_100 ?_
            refine m_st1 hc hw (by omega) dX1_shares_101 (fun H locs hw => ?_)
            refine lv_aload_n hx hb dX1_shares_102 rfl (lv_at hl 2 rfl) ?_
            refine m_get1 hc hw dX1_shares_103 ?_
            refine lv_iload hx hb dX1_shares_106 (lv_at hl 0 rfl) ?_
            refine lv_iconst (v := nI 3) hx hb dX1_shares_108 (by decide) ?_
            refine n_iadd hx hb dX1_shares_109 ?_
            refine lv_iload_n hx hb dX1_shares_110 rfl (lv_at hl 5 rfl) ?_
            refine lv_iconst (v := nI 5) hx hb dX1_shares_111 (by decide) ?_
            refine n_irem hx hb (by omega) (by omega) (by omega) dX1_shares_112 ?_
            refine m_st1 hc hw (by omega) dX1_shares_113 (fun H locs hw => ?_)
            refine lv_iconst (v := 1) hx hb dX1_shares_114 (by decide) ?_
            exact hret _ _ _ _ _ _ dX1_shares_115 (rfl) (Or.inl ⟨s1, a1, n, hs1, ha1, hn, rfl, rfl, rfl, h6, rfl, rfl⟩) hw
          · refine lv_iconst (v := 0) hx hb dX1_shares_51 (by decide) ?_
            exact hret _ _ _ _ _ _ dX1_shares_52 (rfl) (Or.inr ⟨ps_okS_n hn h6, rfl, rfl⟩) hw
        · refine lv_iconst (v := 0) hx hb dX1_shares_20 (by decide) ?_
          exact hret _ _ _ _ _ _ dX1_shares_21 (rfl) (Or.inr ⟨ps_okS_i (ps_nin_nle (by decide) h5), rfl, rfl⟩) hw
  · refine lv_if_eq (tgt := 20) hx hb dX1_shares_6 (by decide) (fun hN => ?_) (fun hN => ?_)
    · refine lv_iconst (v := 0) hx hb dX1_shares_20 (by decide) ?_
      exact hret _ _ _ _ _ _ dX1_shares_21 (rfl) (Or.inr ⟨fun z => h1 ⟨z.1, z.2.1⟩, rfl, rfl⟩) hw
    · exact absurd hN (by decide)
end
section
/-! the law's world: two objects side by side; contracts called on one of them; constructors -/
set_option maxRecDepth 100000
theorem pl_Dapp {A : Nat → Prop} {w1 w2 : va_W} (h : va_D A (w1 ++ w2)) : va_D A w1 ∧ va_D A w2 ∧ ∀ (i j : Nat) (p q : Nat × va_E), w1[i]? = some p → w2[j]? = some q → p.1 ≠ q.1 := by
  have L : ∀ (k : Nat) (q : Nat × va_E), w1[k]? = some q → k < w1.length ∧ (w1 ++ w2)[k]? = some q := fun k q hk => by
    have hl := (List.getElem?_eq_some_iff.mp hk).1
    exact ⟨hl, by rw [List.getElem?_append_left hl]; exact hk⟩
  have R : ∀ (k : Nat) (q : Nat × va_E), w2[k]? = some q → (w1 ++ w2)[w1.length + k]? = some q := fun k q hk => by
    rw [List.getElem?_append_right (by omega), Nat.add_sub_cancel_left]
    exact hk
  refine ⟨⟨fun i j p q hi hj e => h.1 i j p q (L i p hi).2 (L j q hj).2 e, fun k q hk => h.2 k q (L k q hk).2⟩, ⟨fun i j p q hi hj e => ?_, fun k q hk => h.2 _ q (R k q hk)⟩, fun i j p q hi hj e => ?_⟩
  · have h2 := h.1 _ _ p q (R i p hi) (R j q hj) e
    omega
  · have h2 := h.1 _ _ p q (L i p hi).2 (R j q hj) e
    have h3 := (L i p hi).1
    omega
theorem pl_Papp {D : va_G} {cl : List vw_C} {w1 w2 : va_W} {H : Heap} (h : va_P D cl (w1 ++ w2) H) : va_P D cl w1 H ∧ va_P D cl w2 H := by
  refine ⟨fun k q hk => ?_, fun k q hk => ?_⟩
  · have hl := (List.getElem?_eq_some_iff.mp hk).1
    exact h k q (by rw [List.getElem?_append_left hl]; exact hk)
  · exact h (w1.length + k) q (by rw [List.getElem?_append_right (by omega), Nat.add_sub_cancel_left]; exact hk)
/-- two worlds side by side -/
def pl_W (D : va_G) (w1 w2 : va_W) (A : Nat → Prop) (H0 H : Heap) (locs : List Loc) : Prop := va_P D vwCl w1 H ∧ va_P D vwCl w2 H ∧ va_D A w1 ∧ va_D A w2 ∧ (∀ (i j : Nat) (p q : Nat × va_E), w1[i]? = some p → w2[j]? = some q → p.1 ≠ q.1) ∧ va_S A H0 H locs
theorem pl_W.sw {D : va_G} {w1 w2 : va_W} {A : Nat → Prop} {H0 H : Heap} {locs : List Loc} (h : pl_W D w1 w2 A H0 H locs) : pl_W D w2 w1 A H0 H locs := ⟨h.2.1, h.1, h.2.2.2.1, h.2.2.1, fun i j p q hi hj e => h.2.2.2.2.1 j i q p hj hi e.symm, h.2.2.2.2.2⟩
theorem pl_W.app {D : va_G} {w1 w2 : va_W} {A : Nat → Prop} {H0 H : Heap} {locs : List Loc} (hP : va_P D vwCl (w1 ++ w2) H) (hD : va_D A (w1 ++ w2)) (hS : va_S A H0 H locs) : pl_W D w1 w2 A H0 H locs := ⟨(pl_Papp hP).1, (pl_Papp hP).2, (pl_Dapp hD).1, (pl_Dapp hD).2.1, (pl_Dapp hD).2.2, hS⟩
theorem pl_W.after {D : va_G} {w0 w1 w2 : va_W} {A : Nat → Prop} {H0 H H1 : Heap} {locs locs1 : List Loc} (h : pl_W D w0 w2 A H0 H locs) (hP1 : va_P D vwCl w1 H1) (hD1 : va_D (va_A w0 H.size) w1) (hk : ∀ q : Nat, q < H.size → ¬ va_A w0 H.size q → H1[q]? = H[q]?) (hF : ∀ q, va_A w0 H.size q → A q) (hS1 : va_S A H0 H1 locs1) : pl_W D w1 w2 A H0 H1 locs1 := by
  obtain ⟨hP, hP2, hD, hD2, hap, hS⟩ := h
  have apart : ∀ (k : Nat) (q : Nat × va_E), w2[k]? = some q → q.1 < H.size ∧ ¬ va_A w0 H.size q.1 := by
    intro k q hq
    have hl := (hP2 k q hq).lt
    refine ⟨hl, fun z => ?_⟩
    rcases z with ⟨k2, e, z⟩ | z
    · exact hap k2 k (q.1, e) q z hq rfl
    · omega
  refine ⟨hP1, hP2.kept (fun k q hq => hk q.1 (apart k q hq).1 (apart k q hq).2), hD1.weaken (fun _ q _ z => hF q.1 z), hD2, fun i j p q hi hj e => ?_, hS1⟩
  exact (apart j q hj).2 (by rw [← e]; exact hD1.2 i p hi)
theorem pl_W.free {D : va_G} {w0 w2 : va_W} {A : Nat → Prop} {H0 H : Heap} {locs : List Loc} (h : pl_W D w0 w2 A H0 H locs) (hA : ∀ q, H0.size ≤ q → A q) : ∀ q, va_A w0 H.size q → A q := by
  obtain ⟨hP, hP2, hD, hD2, hap, hS⟩ := h
  intro q hq
  rcases hq with ⟨k, e1, h1⟩ | h1
  · exact hD.2 k (q, e1) h1
  · exact hA q (Nat.le_trans hS.1 h1)
section CALLW
variable {p : Program} {l : Launch} {e : Env} {Rm : Room} {s : State} {m : MethodId} {args : Array Value} {below : List Frame} {meth : Method} {c : Code} {H : Heap} {locs : List Loc} {cells slots : Nat} {Q : State → Prop}
variable {cc : ByteArray} {pc : Nat} {ls : Array Slot} {rest : List Value}
variable {S : Type} {D : va_G} {A : Nat → Prop} {F : S → va_W} {T : List (ClassId × FieldType)} {y : MethodName} {cc1 : ByteArray} {nL nL1 n index ci : Nat} {ty : FieldType} {rm : Room} {h : Nat} {As st0 : List Value} {u0 : S} {own : String} {cq : vw_C} {fs : List Value} {G : va_W}
/-- a call on one object, another beside it -/
theorem CI.callW {post : Int32 → S → Prop} (hM : CI l D F T y cc1 nL1 ty rm (.ref h :: As) u0 post) (hc : CallFix p m c cc nL s args lw_all own) (hK : va_K D vwCl T s) (hA : ∀ q, s.heap.size ≤ q → A q) (hw : pl_W D (F u0) G A s.heap H locs) (hcl : vwCl[ci]? = some cq) (he : (F u0)[0]? = some (h, .inr (ci, fs))) (cw : CallW Rm s args own cq.1 index y cc1 nL1 (some ty) (ws_ y cc1 nL1 (some ty)) rm 0 0 n) (hn : As.length = n) (hsz : ls.size = nL) (hst : st0 = As.reverse ++ .ref h :: rest) (hroom : (rest.map fun v => v.category).sum ≤ 8) (hcs : cells ≤ Rm.cells ∧ slots ≤ Rm.slots) (hdg : decode cc pc = .ok (.invokevirtual index, 3))
    (k : ∀ (r : Int32) (u : S) (H1 : Heap) (locs1 : List Loc), post r u → pl_W D (F u) G A s.heap H1 locs1 → W p l e Rm s m args below meth c H1 locs1 cells slots Q (F0 m (pc + 3) ls (.int r :: rest))) : W p l e Rm s m args below meth c H locs cells slots Q (F0 m pc ls st0) := by
  have hFc := hw.free hA
  obtain ⟨hP, hP2, hD, hD2, hap, hS⟩ := id hw
  refine va_calli (va_runV (As := As) (rest := rest) (n := n) (C := cq.1) hc (hM H.size) cw ⟨fun a U g mk q => by obtain ⟨q0, q1, qP, qK, qD⟩ := q; exact ⟨q0, q1, qP, va_K.moved (u := U) (U := U.calling g mk a) (Vm.Alike.refl U.vm) qK, qD⟩, va_recv hK hP hcl he, fun U hU hW => ⟨rfl, by rw [hU], by rw [hU]; exact hP, va_K.moved hW.alike hK, hD.weaken (fun _ _ _ _ => trivial)⟩⟩ rfl hn hsz hst (lv_room hroom) hdg ⟨hcs.1, hcs.2⟩) hS (fun q _ h => hFc q h) hFc (fun r u t H1 locs1 ht hvm hpost hB hz1 hk1 hS1 => ?_)
  obtain ⟨hP1, hK1, hD1⟩ := hB
  rw [ht] at hP1
  exact k r u H1 locs1 hpost (hw.after hP1 hD1 hk1 hFc hS1)
end CALLW
/-- a constructor's contract: the bare object before, the whole one behind; mc cells of ms slots made -/
def CN {S : Type} (l : Launch) (D : va_G) (w0 : va_W) (F : S → va_W) (T : S → List (ClassId × FieldType)) (y : MethodName) (cc : ByteArray) (nL : Nat) (rm : Room) (As : List Value) (mc ms : Nat) (post : S → Prop) : Prop := ∀ sz : Nat, Met l y (ws_ y cc nL none) rm (va_Pc As (fun U => U.heap.size = sz ∧ va_P D vwCl w0 U.heap ∧ va_K D vwCl [] U ∧ va_D (fun _ => True) w0)) (va_Qv post (fun u t => va_P D vwCl (F u) t.heap ∧ va_K D vwCl (T u) t ∧ va_D (va_A w0 sz) (F u)) (va_A w0 sz)) mc ms (va_A w0 sz)
theorem CN.of {S : Type} {l : Launch} {D : va_G} {w0 : va_W} {F : S → va_W} {T : S → List (ClassId × FieldType)} {y : MethodName} {cc : ByteArray} {nL : Nat} {rm : Room} {As : List Value} {mc ms : Nat} {post : S → Prop} (hy : plainName y.cls = true) (hlen : (lg_sl As).length ≤ nL)
    (body : ∀ (p : Program) (e : Env) (s : State) (m : MethodId) (below : List Frame) (meth : Method) (c : Code) (A : Nat → Prop) (Q : State → Prop) (ls : Array Slot), p.tables.exec = Jvm.exec → c.code = cc → c.maxLocals = nL → s.vm.findClass y.cls = some m.cls → (∀ w ∈ lw_all, w.before As.toArray s = true) → meth.name = y.name → va_K D vwCl [] s → (∀ q, s.heap.size ≤ q → A q) → (∀ (u : S) (H : Heap) (locs : List Loc) (ls : Array Slot) (pc : Nat), decode cc pc = .ok (.return_, 1) → post u → va_K D vwCl (T u) s → va_P D vwCl (F u) H → va_D A (F u) → va_S A s.heap H locs → W p l e rm s m As.toArray below meth c H locs mc ms Q (F0 m pc ls [])) → va_P D vwCl w0 s.heap → va_D A w0 → va_S A s.heap s.heap [] → lv_has ls nL (lv_args 0 As) → W p l e rm s m As.toArray below meth c s.heap [] 0 0 Q (F0 m 0 ls [])) : CN l D w0 F T y cc nL rm As mc ms post := by
  intro sz
  refine Met.ofW (cc := cc) (maxL := nL) (ret := none) hy rfl ?_
  intro p e s m args below meth c s₁ B hml hv
  obtain ⟨rfl, hsz, hP, hK, hD0⟩ := hv
  have hts0 := atoms_spec (ws := ws_ y cc nL none) B.pre
  have hts : ∀ w ∈ lw_all, w.before _ s = true := fun w h => hts0 w (List.mem_cons_of_mem _ h)
  have hown : s.vm.findClass y.cls = some m.cls := findClass_of_methodNamed B.named
  have hx := B.exec
  have hb := B.bytes
  have hr := B.returns
  have hlocks := B.notSynchronized
  subst hsz
  have hD := hD0.self (sz := s.heap.size)
  rw [lg_entry_eq]
  refine body p e s m below meth c (va_A w0 s.heap.size) _ _ hx hb hml hown hts (name_of_methodNamed B.named B.method).1 hK (fun q h => Or.inr h) ?_ hP hD va_S.rf (lv_entry As hlen)
  intro u H locs ls pc hdg hp hK2 hP2 hD2 hS2
  exact W.vret hx hb hr (fun t ht hW => ⟨⟨u, rfl, hp, by rw [ht]; exact hP2, va_K.moved hW.alike hK2, hD2⟩, hS2.F ht⟩) hS2.2.2 hdg hlocks
section CALLN
variable {p : Program} {l : Launch} {e : Env} {Rm : Room} {s : State} {m : MethodId} {args : Array Value} {below : List Frame} {meth : Method} {c : Code} {H : Heap} {locs : List Loc} {cells slots : Nat} {Q : State → Prop}
variable {cc : ByteArray} {pc : Nat} {ls : Array Slot} {rest : List Value}
variable {S : Type} {D : va_G} {A : Nat → Prop} {w0 : va_W} {F : S → va_W} {T : S → List (ClassId × FieldType)} {y : MethodName} {cc1 : ByteArray} {nL nL1 n index mc ms : Nat} {rm : Room} {h : Nat} {As st0 : List Value} {own : String} {G : va_W}
theorem CN.call {post : S → Prop} (hM : CN l D w0 F T y cc1 nL1 rm (.ref h :: As) mc ms post) (hc : CallFix p m c cc nL s args lw_all own) (hK : va_K D vwCl [] s) (hA : ∀ q, s.heap.size ≤ q → A q) (hw : pl_W D w0 G A s.heap H locs) (cw : CallB Rm s args own index y cc1 nL1 none (ws_ y cc1 nL1 none) rm mc ms n ∧ y.name = "<init>" ∧ (Cond.instanceMethod y).before args s = true) (hn : As.length = n) (hsz : ls.size = nL) (hst : st0 = As.reverse ++ .ref h :: rest) (hroom : (rest.map fun v => v.category).sum ≤ 8) (hcs : cells + mc ≤ Rm.cells ∧ slots + ms ≤ Rm.slots) (hdg : decode cc pc = .ok (.invokespecial index, 3))
    (k : ∀ (u : S) (H1 : Heap) (locs1 : List Loc), post u → va_K D vwCl (T u) s → pl_W D (F u) G A s.heap H1 locs1 → W p l e Rm s m args below meth c H1 locs1 (cells + mc) (slots + ms) Q (F0 m (pc + 3) ls rest)) : W p l e Rm s m args below meth c H locs cells slots Q (F0 m pc ls st0) := by
  have hFc := hw.free hA
  obtain ⟨hP, hP2, hD, hD2, hap, hS⟩ := id hw
  refine va_callv (va_runI (As := As) (rest := rest) (n := n) hc (hM H.size) cw ⟨fun a U g mk q => by obtain ⟨q0, q1, qP, qK, qD⟩ := q; exact ⟨q0, q1, qP, va_K.moved (u := U) (U := U.calling g mk a) (Vm.Alike.refl U.vm) qK, qD⟩, fun U hU hW => ⟨rfl, by rw [hU], by rw [hU]; exact hP, va_K.moved hW.alike hK, hD.weaken (fun _ _ _ _ => trivial)⟩⟩ rfl hn hsz hst (lv_room hroom) hdg hcs) hS (fun q _ h => hFc q h) hFc (fun u t H1 locs1 ht hvm hpost hB hz1 hk1 hS1 => ?_)
  obtain ⟨hP1, hK1, hD1⟩ := hB
  rw [ht] at hP1
  exact k u H1 locs1 hpost (va_K.moved hvm.symm hK1) (hw.after hP1 hD1 hk1 hFc hS1)
/-- an int of the script -/
theorem pl_sld (hx : p.tables.exec = Jvm.exec) (hb : c.code = cc) {H0 : Heap} {b L : Nat} {xs : Nat → Int32} (hX : va_X b L xs s H0) (hbl : b < H0.size) (hbA : ¬ A b) (hS : va_S A H0 H locs) {i : Nat} (hi : i < L) (hL : L ≤ 256) (hdg : decode cc pc = .ok (.iaload, 1)) (kk : W p l e Rm s m args below meth c H locs cells slots Q (F0 m (pc + 1) ls (.int (xs i) :: rest))) : W p l e Rm s m args below meth c H locs cells slots Q (F0 m pc ls (.int (nI i) :: .ref b :: rest)) := by
  refine va_sld hx hb hX hbl hbA hS (vp_in_nI hi (by omega)) hdg ?_
  rw [nI_clamp (by omega)]
  exact kk
end CALLN
end
section
/-! PURE: an answer of the component beside one of the reference: the same number, and the two go on alike -/
def pl_I (u : XS) (v : MS) : Prop := u.1 = v.1 ∧ u.2.1 = v.2.1 ∧ ps_Ok u.1 u.2.1 ∧ ps_sv u.1 u.2.1 u.2.2.2.2.2.2.2.1 u.2.2.2.2.2.2.2.2.2.1 u.2.2.2.2.2.2.2.2.2.2.1 u.2.2.2.2.2.2.2.2.2.2.2
theorem pl_inj {a b n : Nat} {x : Int32} (ha : a < n) (hb : b < n) (hn : n < 2 ^ 31) (e1 : x = nI a) (e2 : x = nI b) : a = b := (nI_eq (show a < 2 ^ 31 by omega) (show b < 2 ^ 31 by omega)).mp (e1.symm.trans e2)
theorem pl_okR {x1 x2 x3 : Int32} {s1 a1 : Nat} (h1 : s1 < 4) (h2 : a1 < 2) (e1 : x1 = nI s1) (e2 : x2 = nI a1) (h3 : -20 ≤ x3.toInt ∧ x3.toInt ≤ 20) : ps_okR x1 x2 x3 := by
  refine ⟨⟨s1, h1, e1⟩, ⟨a1, h2, e2⟩, fun q => ?_, ?_⟩
  · have h4 := Int32.lt_iff_toInt_lt.mp q
    rw [show (-20 : Int32).toInt = -20 from rfl] at h4
    omega
  · refine Int32.le_iff_toInt_le.mpr ?_
    rw [nI_toInt (by decide)]
    omega
section PL
variable {R S g : Nat → Int32} {ra tp kt bt ra' tp' bt' : Nat → Int64} {bo kb bd : Int64} {so bp x1 x2 x3 r r' : Int32} {u : XS} {v : MS}
theorem pl_reward (hok : ps_Ok R S) (hsv : ps_sv R S so bt bd g)
    (hu : (∃ s1 a1, s1 < 4 ∧ a1 < 2 ∧ x1 = nI s1 ∧ x2 = nI a1 ∧ (-20 ≤ x3.toInt ∧ x3.toInt ≤ 20) ∧ u = (upd R (2 * s1 + a1) x3, S, ra, tp, bo, kt, kb, 0, bp, bt, bd, g) ∧ r = 1) ∨ (¬ ps_okR x1 x2 x3 ∧ u = (R, S, ra, tp, bo, kt, kb, so, bp, bt, bd, g) ∧ r = 0))
    (hv : (∃ s1 a1, s1 < 4 ∧ a1 < 2 ∧ x1 = nI s1 ∧ x2 = nI a1 ∧ (-20 ≤ x3.toInt ∧ x3.toInt ≤ 20) ∧ v = (upd R (2 * s1 + a1) x3, S, ra', tp', bt') ∧ r' = 1) ∨ (¬ ps_okR x1 x2 x3 ∧ v = (R, S, ra', tp', bt') ∧ r' = 0)) : r = r' ∧ pl_I u v := by
  rcases hu with ⟨s1, a1, h1, h2, e1, e2, h3, rfl, rfl⟩ | ⟨h1, rfl, rfl⟩
  · rcases hv with ⟨s2, a2, k1, k2, f1, f2, k3, rfl, rfl⟩ | ⟨k1, rfl, rfl⟩
    · have z1 := pl_inj h1 k1 (by decide) e1 f1
      have z2 := pl_inj h2 k2 (by decide) e2 f2
      subst z1 z2
      exact ⟨rfl, rfl, rfl, ps_Ok_R hok h3.1 h3.2, Or.inl rfl⟩
    · exact absurd (pl_okR h1 h2 e1 e2 h3) k1
  · rcases hv with ⟨s2, a2, k1, k2, f1, f2, k3, rfl, rfl⟩ | ⟨k1, rfl, rfl⟩
    · exact absurd (pl_okR k1 k2 f1 f2 k3) h1
    · exact ⟨rfl, rfl, rfl, hok, hsv⟩
theorem pl_shares (hok : ps_Ok R S) (hsv : ps_sv R S so bt bd g)
    (hu : (∃ s1 a1 n, s1 < 4 ∧ a1 < 2 ∧ n < 625 ∧ x1 = nI s1 ∧ x2 = nI a1 ∧ x3 = nI n ∧ ps_dig n = 4 ∧ u = (R, px_sh S (2 * s1 + a1) n, ra, tp, bo, kt, kb, 0, bp, bt, bd, g) ∧ r = 1) ∨ (¬ ps_okS x1 x2 x3 ∧ u = (R, S, ra, tp, bo, kt, kb, so, bp, bt, bd, g) ∧ r = 0))
    (hv : (∃ s1 a1 n, s1 < 4 ∧ a1 < 2 ∧ n < 625 ∧ x1 = nI s1 ∧ x2 = nI a1 ∧ x3 = nI n ∧ ps_dig n = 4 ∧ v = (R, pm_sh S (2 * s1 + a1) n, ra', tp', bt') ∧ r' = 1) ∨ (¬ ps_okS x1 x2 x3 ∧ v = (R, S, ra', tp', bt') ∧ r' = 0)) : r = r' ∧ pl_I u v := by
  rcases hu with ⟨s1, a1, n, h1, h2, h3, e1, e2, e3, h4, rfl, rfl⟩ | ⟨h1, rfl, rfl⟩
  · rcases hv with ⟨s2, a2, n2, k1, k2, k3, f1, f2, f3, k4, rfl, rfl⟩ | ⟨k1, rfl, rfl⟩
    · have z1 := pl_inj h1 k1 (by decide) e1 f1
      have z2 := pl_inj h2 k2 (by decide) e2 f2
      have z3 := pl_inj h3 k3 (by decide) e3 f3
      subst z1 z2 z3
      exact ⟨rfl, rfl, (pm_sh_px S _ h3).symm, ps_Ok_S hok h3 h4, Or.inl rfl⟩
    · exact absurd ⟨⟨s1, h1, e1⟩, ⟨a1, h2, e2⟩, n, h3, e3, h4⟩ k1
  · rcases hv with ⟨s2, a2, n2, k1, k2, k3, f1, f2, f3, k4, rfl, rfl⟩ | ⟨k1, rfl, rfl⟩
    · exact absurd ⟨⟨s2, k1, f1⟩, ⟨a2, k2, f2⟩, n2, k3, f3, k4⟩ h1
    · exact ⟨rfl, rfl, rfl, hok, hsv⟩
theorem pl_value (f : Nat → Nat → Int32) (hok : ps_Ok R S) (hsv : ps_sv R S so bt bd g)
    (hu : ∃ ra1 tp1 bo1, u = (R, S, ra1, tp1, bo1, kt, kb, so, bp, bt, bd, g) ∧ ((∃ p1 s1, p1 < 16 ∧ s1 < 4 ∧ x1 = nI p1 ∧ x2 = nI s1 ∧ r = f p1 s1) ∨ (¬ (ps_in x1 16 ∧ ps_in x2 4) ∧ r = -1000000)))
    (hv : (∃ ra1 tp1 bt1, v = (R, S, ra1, tp1, bt1)) ∧ ((∃ p1 s1, p1 < 16 ∧ s1 < 4 ∧ x1 = nI p1 ∧ x2 = nI s1 ∧ r' = f p1 s1) ∨ (¬ (ps_in x1 16 ∧ ps_in x2 4) ∧ r' = -1000000))) : r = r' ∧ pl_I u v := by
  obtain ⟨ra1, tp1, bo1, rfl, hu⟩ := hu
  obtain ⟨⟨ra2, tp2, bt2, rfl⟩, hv⟩ := hv
  refine ⟨?_, rfl, rfl, hok, hsv⟩
  rcases hu with ⟨p1, s1, h1, h2, e1, e2, rfl⟩ | ⟨h1, rfl⟩
  · rcases hv with ⟨p2, s2, k1, k2, f1, f2, rfl⟩ | ⟨k1, rfl⟩
    · rw [pl_inj h1 k1 (by decide) e1 f1, pl_inj h2 k2 (by decide) e2 f2]
    · exact absurd ⟨⟨p1, h1, e1⟩, ⟨s1, h2, e2⟩⟩ k1
  · rcases hv with ⟨p2, s2, k1, k2, f1, f2, rfl⟩ | ⟨k1, rfl⟩
    · exact absurd ⟨⟨p2, k1, f1⟩, ⟨s2, k2, f2⟩⟩ h1
    · rfl
theorem pl_best (f : Int → Int → Int32) (hf : ∀ p s, p < 16 → ps_LO R S p → s < 4 → f (ps_tp R S p s) (ps_bo R S p) = f (ps_tp R S (pm_fb (ps_bb R S) 16 0) s) (ps_bo R S (pm_fb (ps_bb R S) 16 0))) (hok : ps_Ok R S) (hsv : ps_sv R S so bt bd g)
    (hu : (∃ s1 ra1 tp1 bo1 bp1 bt1 bd1 g1 p1, s1 < 4 ∧ x1 = nI s1 ∧ u = (R, S, ra1, tp1, bo1, kt, kb, 1, bp1, bt1, bd1, g1) ∧ ps_sol R S p1 bt1 bd1 g1 ∧ r = f (ps_tp R S p1 s1) (ps_bo R S p1)) ∨ (¬ ps_in x1 4 ∧ u = (R, S, ra, tp, bo, kt, kb, so, bp, bt, bd, g) ∧ r = -1000000))
    (hv : (∃ ra1 tp1 bt1, v = (R, S, ra1, tp1, bt1)) ∧ ((∃ s1, s1 < 4 ∧ x1 = nI s1 ∧ r' = f (ps_tp R S (pm_fb (ps_bb R S) 16 0) s1) (ps_bo R S (pm_fb (ps_bb R S) 16 0))) ∨ (¬ ps_in x1 4 ∧ r' = -1000000))) : r = r' ∧ pl_I u v := by
  obtain ⟨⟨ra2, tp2, bt2, rfl⟩, hv⟩ := hv
  rcases hu with ⟨s1, ra1, tp1, bo1, bp1, bt1, bd1, g1, p1, h1, e1, rfl, hsol, rfl⟩ | ⟨h1, rfl, rfl⟩
  · refine ⟨?_, rfl, rfl, hok, Or.inr ⟨rfl, p1, hsol⟩⟩
    rcases hv with ⟨s2, k1, f1, rfl⟩ | ⟨k1, rfl⟩
    · rw [← pl_inj h1 k1 (by decide) e1 f1]
      exact hf p1 s1 hsol.1 hsol.2.1 h1
    · exact absurd ⟨s1, h1, e1⟩ k1
  · refine ⟨?_, rfl, rfl, hok, hsv⟩
    rcases hv with ⟨s2, k1, f1, rfl⟩ | ⟨k1, rfl⟩
    · exact absurd ⟨s2, k1, f1⟩ h1
    · rfl
theorem pl_policy (hok : ps_Ok R S)
    (hu : ∃ ra1 tp1 bo1 bp1 bt1 bd1 g1 p1, u = (R, S, ra1, tp1, bo1, kt, kb, 1, bp1, bt1, bd1, g1) ∧ ps_sol R S p1 bt1 bd1 g1 ∧ r = nI (px_po (ps_mk R S p1) 4 0 0))
    (hv : (∃ ra1 tp1 bt1, v = (R, S, ra1, tp1, bt1)) ∧ r' = nI (pm_fb (ps_bb R S) 16 0)) : r = r' ∧ pl_I u v := by
  obtain ⟨ra1, tp1, bo1, bp1, bt1, bd1, g1, p1, rfl, hsol, rfl⟩ := hu
  obtain ⟨⟨ra2, tp2, bt2, rfl⟩, rfl⟩ := hv
  exact ⟨by rw [ps_policy hok hsol.1 hsol.2.1], rfl, rfl, hok, Or.inr ⟨rfl, p1, hsol⟩⟩
theorem pl_policies (hok : ps_Ok R S)
    (hu : ∃ ra1 tp1 bo1 bp1 bt1 bd1 g1 p1, u = (R, S, ra1, tp1, bo1, kt, kb, 1, bp1, bt1, bd1, g1) ∧ ps_sol R S p1 bt1 bd1 g1 ∧ r = nI (px_pc (ps_mk R S p1) 4 0 1))
    (hv : (∃ ra1 tp1 bt1, v = (R, S, ra1, tp1, bt1)) ∧ r' = nI (pm_ct (ps_bb R S) 16 0 0)) : r = r' ∧ pl_I u v := by
  obtain ⟨ra1, tp1, bo1, bp1, bt1, bd1, g1, p1, rfl, hsol, rfl⟩ := hu
  obtain ⟨⟨ra2, tp2, bt2, rfl⟩, rfl⟩ := hv
  exact ⟨by rw [ps_policies hok hsol.1 hsol.2.1], rfl, rfl, hok, Or.inr ⟨rfl, p1, hsol⟩⟩
theorem pl_good (hok : ps_Ok R S) (hsv : ps_sv R S so bt bd g)
    (hu : (∃ s1 a1 ra1 tp1 bo1 bp1 bt1 bd1 g1 p1, s1 < 4 ∧ a1 < 2 ∧ x1 = nI s1 ∧ x2 = nI a1 ∧ u = (R, S, ra1, tp1, bo1, kt, kb, 1, bp1, bt1, bd1, g1) ∧ ps_sol R S p1 bt1 bd1 g1 ∧ r = (if ps_mk R S p1 s1 / 2 ^ a1 % 2 = 0 then 0 else 1)) ∨ (¬ (ps_in x1 4 ∧ ps_in x2 2) ∧ u = (R, S, ra, tp, bo, kt, kb, so, bp, bt, bd, g) ∧ r = 0))
    (hv : (∃ ra1 tp1 bt1, v = (R, S, ra1, tp1, bt1)) ∧ ((∃ s1 a1, s1 < 4 ∧ a1 < 2 ∧ x1 = nI s1 ∧ x2 = nI a1 ∧ r' = (if pm_gd (ps_bb R S) s1 a1 16 0 = true then 1 else 0)) ∨ (¬ (ps_in x1 4 ∧ ps_in x2 2) ∧ r' = 0))) : r = r' ∧ pl_I u v := by
  obtain ⟨⟨ra2, tp2, bt2, rfl⟩, hv⟩ := hv
  rcases hu with ⟨s1, a1, ra1, tp1, bo1, bp1, bt1, bd1, g1, p1, h1, h2, e1, e2, rfl, hsol, rfl⟩ | ⟨h1, rfl, rfl⟩
  · refine ⟨?_, rfl, rfl, hok, Or.inr ⟨rfl, p1, hsol⟩⟩
    rcases hv with ⟨s2, a2, k1, k2, f1, f2, rfl⟩ | ⟨k1, rfl⟩
    · rw [← pl_inj h1 k1 (by decide) e1 f1, ← pl_inj h2 k2 (by decide) e2 f2]
      exact ps_good hok hsol.1 hsol.2.1 h1 h2
    · exact absurd ⟨⟨s1, h1, e1⟩, ⟨a1, h2, e2⟩⟩ k1
  · refine ⟨?_, rfl, rfl, hok, hsv⟩
    rcases hv with ⟨s2, a2, k1, k2, f1, f2, rfl⟩ | ⟨k1, rfl⟩
    · exact absurd ⟨⟨s2, k1, f1⟩, ⟨a2, k2, f2⟩⟩ h1
    · rfl
theorem pl_prune (hok : ps_Ok R S)
    (hu : ∃ ra1 tp1 bo1 bp1 bt1 bd1 g1 p1, u = ((px_ps (ps_mk R S p1) 4 0 (R, S, 0)).1, (px_ps (ps_mk R S p1) 4 0 (R, S, 0)).2.1, ra1, tp1, bo1, kt, kb, 0, bp1, bt1, bd1, g1) ∧ ps_sol R S p1 bt1 bd1 g1 ∧ r = nI (px_ps (ps_mk R S p1) 4 0 (R, S, 0)).2.2)
    (hv : ∃ ra1 tp1 bt1, v = ((pm_pr (pm_bd (fun k => pm_gd (ps_bb R S) (k / 2) (k % 2) 16 0) 8 0 0) 8 0 (R, S, 0)).1, (pm_pr (pm_bd (fun k => pm_gd (ps_bb R S) (k / 2) (k % 2) 16 0) 8 0 0) 8 0 (R, S, 0)).2.1, ra1, tp1, bt1) ∧ r' = nI (pm_pr (pm_bd (fun k => pm_gd (ps_bb R S) (k / 2) (k % 2) 16 0) 8 0 0) 8 0 (R, S, 0)).2.2) : r = r' ∧ pl_I u v := by
  obtain ⟨ra1, tp1, bo1, bp1, bt1, bd1, g1, p1, hu, hsol, hr⟩ := hu
  obtain ⟨ra2, tp2, bt2, hv, hr'⟩ := hv
  obtain ⟨R2, S2, c2, e1, e2, ok⟩ := ps_prune hok hsol.1 hsol.2.1
  rw [e1] at hu hr
  rw [e2] at hv hr'
  subst hu hr hv hr'
  exact ⟨rfl, rfl, rfl, ok, Or.inl rfl⟩
theorem pl_compare (f : Nat → Nat → Nat → Int32) (hok : ps_Ok R S) (hsv : ps_sv R S so bt bd g)
    (hu : ∃ ra1 tp1 bo1 kt1 kb1, u = (R, S, ra1, tp1, bo1, kt1, kb1, so, bp, bt, bd, g) ∧ ((∃ p1 p2 s1, p1 < 16 ∧ p2 < 16 ∧ s1 < 4 ∧ x1 = nI p1 ∧ x2 = nI p2 ∧ x3 = nI s1 ∧ r = f p1 p2 s1) ∨ (¬ (ps_in x1 16 ∧ ps_in x2 16 ∧ ps_in x3 4) ∧ r = -2)))
    (hv : (∃ ra1 tp1 bt1, v = (R, S, ra1, tp1, bt1)) ∧ ((∃ p1 p2 s1, p1 < 16 ∧ p2 < 16 ∧ s1 < 4 ∧ x1 = nI p1 ∧ x2 = nI p2 ∧ x3 = nI s1 ∧ r' = f p1 p2 s1) ∨ (¬ (ps_in x1 16 ∧ ps_in x2 16 ∧ ps_in x3 4) ∧ r' = -2))) : r = r' ∧ pl_I u v := by
  obtain ⟨ra1, tp1, bo1, kt1, kb1, rfl, hu⟩ := hu
  obtain ⟨⟨ra2, tp2, bt2, rfl⟩, hv⟩ := hv
  refine ⟨?_, rfl, rfl, hok, hsv⟩
  rcases hu with ⟨p1, p2, s1, h1, h2, h3, e1, e2, e3, rfl⟩ | ⟨h1, rfl⟩
  · rcases hv with ⟨p3, p4, s2, k1, k2, k3, f1, f2, f3, rfl⟩ | ⟨k1, rfl⟩
    · rw [pl_inj h1 k1 (by decide) e1 f1, pl_inj h2 k2 (by decide) e2 f2, pl_inj h3 k3 (by decide) e3 f3]
    · exact absurd ⟨⟨p1, h1, e1⟩, ⟨p2, h2, e2⟩, ⟨s1, h3, e3⟩⟩ k1
  · rcases hv with ⟨p3, p4, s2, k1, k2, k3, f1, f2, f3, rfl⟩ | ⟨k1, rfl⟩
    · exact absurd ⟨⟨p3, k1, f1⟩, ⟨p4, k2, f2⟩, ⟨s2, k3, f3⟩⟩ h1
    · rfl
end PL
/-! the start -/
def px_c2 (i : Nat) : Nat → Nat → (Nat → Int32) → Nat → Int32
  | 0, _, S => S
  | n + 1, j, S => px_c2 i n (j + 1) (upd S (4 * (2 * i + j) + i) (vp_nar .byte (nI 4)))
def px_c1 : Nat → Nat → (Nat → Int32) → Nat → Int32
  | 0, _, S => S
  | n + 1, i, S => px_c1 n (i + 1) (px_c2 i 2 0 S)
def px_S0 : Nat → Int32 := px_c1 4 0 (fun _ => 0)
def pm_c1 : Nat → Nat → (Nat → Int32) → Nat → Int32
  | 0, _, S => S
  | n + 1, k, S => pm_c1 n (k + 1) (upd S (4 * k + k / 2) (nI 4))
def pm_S0 : Nat → Int32 := pm_c1 8 0 (fun _ => 0)
theorem pl_S0 : px_S0 = pm_S0 := by
  have e : vp_nar .byte (nI 4) = nI 4 := by decide +kernel
  simp only [px_S0, pm_S0, px_c1, px_c2, pm_c1, e]
theorem pl_Ok0' : ∀ k : Fin 8, 0 ≤ (px_S0 (4 * k.val + 0)).toInt ∧ 0 ≤ (px_S0 (4 * k.val + 1)).toInt ∧ 0 ≤ (px_S0 (4 * k.val + 2)).toInt ∧ 0 ≤ (px_S0 (4 * k.val + 3)).toInt ∧ (px_S0 (4 * k.val + 0)).toInt + (px_S0 (4 * k.val + 1)).toInt + (px_S0 (4 * k.val + 2)).toInt + (px_S0 (4 * k.val + 3)).toInt = 4 := by decide +kernel
theorem pl_Ok0 : ps_Ok (fun _ => 0) px_S0 := fun k hk => ⟨show -20 ≤ (0 : Int32).toInt ∧ (0 : Int32).toInt ≤ 20 by decide, pl_Ok0' ⟨k, hk⟩⟩
theorem pl_I0 {u : XS} {v : MS} (h1 : u.1 = fun _ => 0) (h2 : u.2.1 = px_S0) (h3 : u.2.2.2.2.2.2.2.1 = 0) (k1 : v.1 = fun _ => 0) (k2 : v.2.1 = pm_S0) : pl_I u v := ⟨h1.trans k1.symm, by rw [h2, k2]; exact pl_S0, by rw [h1, h2]; exact pl_Ok0, Or.inl h3⟩
end
section
/-! the constructors -/
set_option maxHeartbeats 4000000 in
set_option maxRecDepth 100000 in
theorem px_init (l : Launch) (D : va_G) (h : Nat) : CN l D [(h, .inr (0, [.null, .null, .null, .null, .long 0, .null, .long 0, .int 0, .int 0, .null, .long 0, .null]))] (fun u : (Nat → Nat) × (Nat → ClassId) × XS => xF h u.1 u.2.1 u.2.2) (fun u => xT u.2.1) yX0_init cX0_init 3 ({ frames := 1, cells := 7, slots := 76, locals := 12 }) [.ref h] 7 76 (fun u => u.2.2.1 = (fun _ => 0) ∧ u.2.2.2.1 = px_S0 ∧ u.2.2.2.2.2.2.2.2.2.1 = 0) := by
  refine CN.of (by decide) (Nat.le_of_ble_eq_true rfl) ?_
  intro p e s m below meth c A Q ls hx hb hml hown hts hin hK hA hret hP hD hS hl
  have hl : lv_has ls 3 [(0, .ref h)] := hl
  have hown : s.vm.findClass RX0 = some m.cls := hown
  have hin : meth.name = "<init>" := hin
  refine lv_aload_n hx hb dX0_init_0 rfl (lv_at hl 0 rfl) ?_
  refine W.objInit hx hb hown (hts _ q34) (hts _ q35) (hts _ q36) rfl (by rw [hml]; exact hl.1) rfl dX0_init_1 (Nat.le_of_ble_eq_true rfl) (Nat.le_of_ble_eq_true rfl) ?_
  refine W.eq (g2 := F0 m 4 ls []) rfl ?_
  refine lv_aload_n hx hb dX0_init_4 rfl (lv_at hl 0 rfl) ?_
  refine lv_bipush (v := 8) hx hb dX0_init_5 (by decide) ?_
  refine va_newa (D := D) (atype := .byte) (ty := .byte) (a0 := (8, .inl (fun _ => 0))) hx hb (hts _ q74) rfl hK hP hD hS hA (fun cA => rfl) (by decide) (by decide) (by decide) (Nat.le_of_ble_eq_true rfl) (Nat.le_of_ble_eq_true rfl) dX0_init_7 (fun q0 d0 H hK hP hD hS => ?_)
  have hP : va_P D vwCl [(h, .inr (0, [.null, .null, .null, .null, .long 0, .null, .long 0, .int 0, .int 0, .null, .long 0, .null])), (q0, .inl (d0, (8, .inl (fun _ => 0))))] H := hP
  have hD : va_D A [(h, .inr (0, [.null, .null, .null, .null, .long 0, .null, .long 0, .int 0, .int 0, .null, .long 0, .null])), (q0, .inl (d0, (8, .inl (fun _ => 0))))] := hD
  have hK : va_K D vwCl [(d0, .byte)] s := hK
  refine W.widen (k := 1) (n := 8) (by omega) (by omega) ?_
  refine va_putF (D := D) (ci := 0) (v := .ref q0) (ty := .array .byte) (C := RX0) (T := TX0) (N := 12) hx hb hts in_X0 tyX0 tyX0_ok nmX0 hown hK hP hD hS 0 rfl rfl 0 (by decide) (hts _ q37) (fun _ h9 => h9) rfl hin rfl (by decide +kernel) rfl rfl (Nat.le_of_ble_eq_true rfl) dX0_init_9 (fun H locs hP hD hS => ?_)
  have hP : va_P D vwCl [(h, .inr (0, [.ref q0, .null, .null, .null, .long 0, .null, .long 0, .int 0, .int 0, .null, .long 0, .null])), (q0, .inl (d0, (8, .inl (fun _ => 0))))] H := hP
  have hD : va_D A [(h, .inr (0, [.ref q0, .null, .null, .null, .long 0, .null, .long 0, .int 0, .int 0, .null, .long 0, .null])), (q0, .inl (d0, (8, .inl (fun _ => 0))))] := hD
  refine lv_aload_n hx hb dX0_init_12 rfl (lv_at hl 0 rfl) ?_
  refine lv_bipush (v := 32) hx hb dX0_init_13 (by decide) ?_
  refine va_newa (D := D) (atype := .byte) (ty := .byte) (a0 := (32, .inl (fun _ => 0))) hx hb (hts _ q74) rfl hK hP hD hS hA (fun cA => rfl) (by decide) (by decide) (by decide) (Nat.le_of_ble_eq_true rfl) (Nat.le_of_ble_eq_true rfl) dX0_init_15 (fun q1 d1 H hK hP hD hS => ?_)
  have hP : va_P D vwCl [(h, .inr (0, [.ref q0, .null, .null, .null, .long 0, .null, .long 0, .int 0, .int 0, .null, .long 0, .null])), (q0, .inl (d0, (8, .inl (fun _ => 0)))), (q1, .inl (d1, (32, .inl (fun _ => 0))))] H := hP
  have hD : va_D A [(h, .inr (0, [.ref q0, .null, .null, .null, .long 0, .null, .long 0, .int 0, .int 0, .null, .long 0, .null])), (q0, .inl (d0, (8, .inl (fun _ => 0)))), (q1, .inl (d1, (32, .inl (fun _ => 0))))] := hD
  have hK : va_K D vwCl [(d0, .byte), (d1, .byte)] s := hK
  refine W.widen (k := 2) (n := 40) (by omega) (by omega) ?_
  refine va_putF (D := D) (ci := 0) (v := .ref q1) (ty := .array .byte) (C := RX0) (T := TX0) (N := 12) hx hb hts in_X0 tyX0 tyX0_ok nmX0 hown hK hP hD hS 0 rfl rfl 1 (by decide) (hts _ q38) (fun _ h9 => h9) rfl hin rfl (by decide +kernel) rfl rfl (Nat.le_of_ble_eq_true rfl) dX0_init_17 (fun H locs hP hD hS => ?_)
  have hP : va_P D vwCl [(h, .inr (0, [.ref q0, .ref q1, .null, .null, .long 0, .null, .long 0, .int 0, .int 0, .null, .long 0, .null])), (q0, .inl (d0, (8, .inl (fun _ => 0)))), (q1, .inl (d1, (32, .inl (fun _ => 0))))] H := hP
  have hD : va_D A [(h, .inr (0, [.ref q0, .ref q1, .null, .null, .long 0, .null, .long 0, .int 0, .int 0, .null, .long 0, .null])), (q0, .inl (d0, (8, .inl (fun _ => 0)))), (q1, .inl (d1, (32, .inl (fun _ => 0))))] := hD
  refine lv_aload_n hx hb dX0_init_20 rfl (lv_at hl 0 rfl) ?_
  refine lv_bipush (v := 20) hx hb dX0_init_21 (by decide) ?_
  refine va_newa (D := D) (atype := .long) (ty := .long) (a0 := (20, .inr (.inl (fun _ => 0)))) hx hb (hts _ q75) rfl hK hP hD hS hA (fun cA => rfl) (by decide) (by decide) (by decide) (Nat.le_of_ble_eq_true rfl) (Nat.le_of_ble_eq_true rfl) dX0_init_23 (fun q2 d2 H hK hP hD hS => ?_)
  have hP : va_P D vwCl [(h, .inr (0, [.ref q0, .ref q1, .null, .null, .long 0, .null, .long 0, .int 0, .int 0, .null, .long 0, .null])), (q0, .inl (d0, (8, .inl (fun _ => 0)))), (q1, .inl (d1, (32, .inl (fun _ => 0)))), (q2, .inl (d2, (20, .inr (.inl (fun _ => 0)))))] H := hP
  have hD : va_D A [(h, .inr (0, [.ref q0, .ref q1, .null, .null, .long 0, .null, .long 0, .int 0, .int 0, .null, .long 0, .null])), (q0, .inl (d0, (8, .inl (fun _ => 0)))), (q1, .inl (d1, (32, .inl (fun _ => 0)))), (q2, .inl (d2, (20, .inr (.inl (fun _ => 0)))))] := hD
  have hK : va_K D vwCl [(d0, .byte), (d1, .byte), (d2, .long)] s := hK
  refine W.widen (k := 3) (n := 60) (by omega) (by omega) ?_
  refine va_putF (D := D) (ci := 0) (v := .ref q2) (ty := .array .long) (C := RX0) (T := TX0) (N := 12) hx hb hts in_X0 tyX0 tyX0_ok nmX0 hown hK hP hD hS 0 rfl rfl 2 (by decide) (hts _ q39) (fun _ h9 => h9) rfl hin rfl (by decide +kernel) rfl rfl (Nat.le_of_ble_eq_true rfl) dX0_init_25 (fun H locs hP hD hS => ?_)
  have hP : va_P D vwCl [(h, .inr (0, [.ref q0, .ref q1, .ref q2, .null, .long 0, .null, .long 0, .int 0, .int 0, .null, .long 0, .null])), (q0, .inl (d0, (8, .inl (fun _ => 0)))), (q1, .inl (d1, (32, .inl (fun _ => 0)))), (q2, .inl (d2, (20, .inr (.inl (fun _ => 0)))))] H := hP
  have hD : va_D A [(h, .inr (0, [.ref q0, .ref q1, .ref q2, .null, .long 0, .null, .long 0, .int 0, .int 0, .null, .long 0, .null])), (q0, .inl (d0, (8, .inl (fun _ => 0)))), (q1, .inl (d1, (32, .inl (fun _ => 0)))), (q2, .inl (d2, (20, .inr (.inl (fun _ => 0)))))] := hD
  refine lv_aload_n hx hb dX0_init_28 rfl (lv_at hl 0 rfl) ?_
  refine lv_iconst (v := 4) hx hb dX0_init_29 (by decide) ?_
  refine va_newa (D := D) (atype := .long) (ty := .long) (a0 := (4, .inr (.inl (fun _ => 0)))) hx hb (hts _ q75) rfl hK hP hD hS hA (fun cA => rfl) (by decide) (by decide) (by decide) (Nat.le_of_ble_eq_true rfl) (Nat.le_of_ble_eq_true rfl) dX0_init_30 (fun q3 d3 H hK hP hD hS => ?_)
  have hP : va_P D vwCl [(h, .inr (0, [.ref q0, .ref q1, .ref q2, .null, .long 0, .null, .long 0, .int 0, .int 0, .null, .long 0, .null])), (q0, .inl (d0, (8, .inl (fun _ => 0)))), (q1, .inl (d1, (32, .inl (fun _ => 0)))), (q2, .inl (d2, (20, .inr (.inl (fun _ => 0))))), (q3, .inl (d3, (4, .inr (.inl (fun _ => 0)))))] H := hP
  have hD : va_D A [(h, .inr (0, [.ref q0, .ref q1, .ref q2, .null, .long 0, .null, .long 0, .int 0, .int 0, .null, .long 0, .null])), (q0, .inl (d0, (8, .inl (fun _ => 0)))), (q1, .inl (d1, (32, .inl (fun _ => 0)))), (q2, .inl (d2, (20, .inr (.inl (fun _ => 0))))), (q3, .inl (d3, (4, .inr (.inl (fun _ => 0)))))] := hD
  have hK : va_K D vwCl [(d0, .byte), (d1, .byte), (d2, .long), (d3, .long)] s := hK
  refine W.widen (k := 4) (n := 64) (by omega) (by omega) ?_
  refine va_putF (D := D) (ci := 0) (v := .ref q3) (ty := .array .long) (C := RX0) (T := TX0) (N := 12) hx hb hts in_X0 tyX0 tyX0_ok nmX0 hown hK hP hD hS 0 rfl rfl 3 (by decide) (hts _ q40) (fun _ h9 => h9) rfl hin rfl (by decide +kernel) rfl rfl (Nat.le_of_ble_eq_true rfl) dX0_init_32 (fun H locs hP hD hS => ?_)
  have hP : va_P D vwCl [(h, .inr (0, [.ref q0, .ref q1, .ref q2, .ref q3, .long 0, .null, .long 0, .int 0, .int 0, .null, .long 0, .null])), (q0, .inl (d0, (8, .inl (fun _ => 0)))), (q1, .inl (d1, (32, .inl (fun _ => 0)))), (q2, .inl (d2, (20, .inr (.inl (fun _ => 0))))), (q3, .inl (d3, (4, .inr (.inl (fun _ => 0)))))] H := hP
  have hD : va_D A [(h, .inr (0, [.ref q0, .ref q1, .ref q2, .ref q3, .long 0, .null, .long 0, .int 0, .int 0, .null, .long 0, .null])), (q0, .inl (d0, (8, .inl (fun _ => 0)))), (q1, .inl (d1, (32, .inl (fun _ => 0)))), (q2, .inl (d2, (20, .inr (.inl (fun _ => 0))))), (q3, .inl (d3, (4, .inr (.inl (fun _ => 0)))))] := hD
  refine lv_aload_n hx hb dX0_init_35 rfl (lv_at hl 0 rfl) ?_
  refine lv_iconst (v := 4) hx hb dX0_init_36 (by decide) ?_
  refine va_newa (D := D) (atype := .long) (ty := .long) (a0 := (4, .inr (.inl (fun _ => 0)))) hx hb (hts _ q75) rfl hK hP hD hS hA (fun cA => rfl) (by decide) (by decide) (by decide) (Nat.le_of_ble_eq_true rfl) (Nat.le_of_ble_eq_true rfl) dX0_init_37 (fun q5 d5 H hK hP hD hS => ?_)
  have hP : va_P D vwCl [(h, .inr (0, [.ref q0, .ref q1, .ref q2, .ref q3, .long 0, .null, .long 0, .int 0, .int 0, .null, .long 0, .null])), (q0, .inl (d0, (8, .inl (fun _ => 0)))), (q1, .inl (d1, (32, .inl (fun _ => 0)))), (q2, .inl (d2, (20, .inr (.inl (fun _ => 0))))), (q3, .inl (d3, (4, .inr (.inl (fun _ => 0))))), (q5, .inl (d5, (4, .inr (.inl (fun _ => 0)))))] H := hP
  have hD : va_D A [(h, .inr (0, [.ref q0, .ref q1, .ref q2, .ref q3, .long 0, .null, .long 0, .int 0, .int 0, .null, .long 0, .null])), (q0, .inl (d0, (8, .inl (fun _ => 0)))), (q1, .inl (d1, (32, .inl (fun _ => 0)))), (q2, .inl (d2, (20, .inr (.inl (fun _ => 0))))), (q3, .inl (d3, (4, .inr (.inl (fun _ => 0))))), (q5, .inl (d5, (4, .inr (.inl (fun _ => 0)))))] := hD
  have hK : va_K D vwCl [(d0, .byte), (d1, .byte), (d2, .long), (d3, .long), (d5, .long)] s := hK
  refine W.widen (k := 5) (n := 68) (by omega) (by omega) ?_
  refine va_putF (D := D) (ci := 0) (v := .ref q5) (ty := .array .long) (C := RX0) (T := TX0) (N := 12) hx hb hts in_X0 tyX0 tyX0_ok nmX0 hown hK hP hD hS 0 rfl rfl 5 (by decide) (hts _ q42) (fun _ h9 => h9) rfl hin rfl (by decide +kernel) rfl rfl (Nat.le_of_ble_eq_true rfl) dX0_init_39 (fun H locs hP hD hS => ?_)
  have hP : va_P D vwCl [(h, .inr (0, [.ref q0, .ref q1, .ref q2, .ref q3, .long 0, .ref q5, .long 0, .int 0, .int 0, .null, .long 0, .null])), (q0, .inl (d0, (8, .inl (fun _ => 0)))), (q1, .inl (d1, (32, .inl (fun _ => 0)))), (q2, .inl (d2, (20, .inr (.inl (fun _ => 0))))), (q3, .inl (d3, (4, .inr (.inl (fun _ => 0))))), (q5, .inl (d5, (4, .inr (.inl (fun _ => 0)))))] H := hP
  have hD : va_D A [(h, .inr (0, [.ref q0, .ref q1, .ref q2, .ref q3, .long 0, .ref q5, .long 0, .int 0, .int 0, .null, .long 0, .null])), (q0, .inl (d0, (8, .inl (fun _ => 0)))), (q1, .inl (d1, (32, .inl (fun _ => 0)))), (q2, .inl (d2, (20, .inr (.inl (fun _ => 0))))), (q3, .inl (d3, (4, .inr (.inl (fun _ => 0))))), (q5, .inl (d5, (4, .inr (.inl (fun _ => 0)))))] := hD
  refine lv_aload_n hx hb dX0_init_42 rfl (lv_at hl 0 rfl) ?_
  refine lv_iconst (v := 4) hx hb dX0_init_43 (by decide) ?_
  refine va_newa (D := D) (atype := .long) (ty := .long) (a0 := (4, .inr (.inl (fun _ => 0)))) hx hb (hts _ q75) rfl hK hP hD hS hA (fun cA => rfl) (by decide) (by decide) (by decide) (Nat.le_of_ble_eq_true rfl) (Nat.le_of_ble_eq_true rfl) dX0_init_44 (fun q9 d9 H hK hP hD hS => ?_)
  have hP : va_P D vwCl [(h, .inr (0, [.ref q0, .ref q1, .ref q2, .ref q3, .long 0, .ref q5, .long 0, .int 0, .int 0, .null, .long 0, .null])), (q0, .inl (d0, (8, .inl (fun _ => 0)))), (q1, .inl (d1, (32, .inl (fun _ => 0)))), (q2, .inl (d2, (20, .inr (.inl (fun _ => 0))))), (q3, .inl (d3, (4, .inr (.inl (fun _ => 0))))), (q5, .inl (d5, (4, .inr (.inl (fun _ => 0))))), (q9, .inl (d9, (4, .inr (.inl (fun _ => 0)))))] H := hP
  have hD : va_D A [(h, .inr (0, [.ref q0, .ref q1, .ref q2, .ref q3, .long 0, .ref q5, .long 0, .int 0, .int 0, .null, .long 0, .null])), (q0, .inl (d0, (8, .inl (fun _ => 0)))), (q1, .inl (d1, (32, .inl (fun _ => 0)))), (q2, .inl (d2, (20, .inr (.inl (fun _ => 0))))), (q3, .inl (d3, (4, .inr (.inl (fun _ => 0))))), (q5, .inl (d5, (4, .inr (.inl (fun _ => 0))))), (q9, .inl (d9, (4, .inr (.inl (fun _ => 0)))))] := hD
  have hK : va_K D vwCl [(d0, .byte), (d1, .byte), (d2, .long), (d3, .long), (d5, .long), (d9, .long)] s := hK
  refine W.widen (k := 6) (n := 72) (by omega) (by omega) ?_
  refine va_putF (D := D) (ci := 0) (v := .ref q9) (ty := .array .long) (C := RX0) (T := TX0) (N := 12) hx hb hts in_X0 tyX0 tyX0_ok nmX0 hown hK hP hD hS 0 rfl rfl 9 (by decide) (hts _ q46) (fun _ h9 => h9) rfl hin rfl (by decide +kernel) rfl rfl (Nat.le_of_ble_eq_true rfl) dX0_init_46 (fun H locs hP hD hS => ?_)
  have hP : va_P D vwCl [(h, .inr (0, [.ref q0, .ref q1, .ref q2, .ref q3, .long 0, .ref q5, .long 0, .int 0, .int 0, .ref q9, .long 0, .null])), (q0, .inl (d0, (8, .inl (fun _ => 0)))), (q1, .inl (d1, (32, .inl (fun _ => 0)))), (q2, .inl (d2, (20, .inr (.inl (fun _ => 0))))), (q3, .inl (d3, (4, .inr (.inl (fun _ => 0))))), (q5, .inl (d5, (4, .inr (.inl (fun _ => 0))))), (q9, .inl (d9, (4, .inr (.inl (fun _ => 0)))))] H := hP
  have hD : va_D A [(h, .inr (0, [.ref q0, .ref q1, .ref q2, .ref q3, .long 0, .ref q5, .long 0, .int 0, .int 0, .ref q9, .long 0, .null])), (q0, .inl (d0, (8, .inl (fun _ => 0)))), (q1, .inl (d1, (32, .inl (fun _ => 0)))), (q2, .inl (d2, (20, .inr (.inl (fun _ => 0))))), (q3, .inl (d3, (4, .inr (.inl (fun _ => 0))))), (q5, .inl (d5, (4, .inr (.inl (fun _ => 0))))), (q9, .inl (d9, (4, .inr (.inl (fun _ => 0)))))] := hD
  refine lv_aload_n hx hb dX0_init_49 rfl (lv_at hl 0 rfl) ?_
  refine lv_iconst (v := 4) hx hb dX0_init_50 (by decide) ?_
  refine va_newa (D := D) (atype := .byte) (ty := .byte) (a0 := (4, .inl (fun _ => 0))) hx hb (hts _ q74) rfl hK hP hD hS hA (fun cA => rfl) (by decide) (by decide) (by decide) (Nat.le_of_ble_eq_true rfl) (Nat.le_of_ble_eq_true rfl) dX0_init_51 (fun q11 d11 H hK hP hD hS => ?_)
  have hP : va_P D vwCl [(h, .inr (0, [.ref q0, .ref q1, .ref q2, .ref q3, .long 0, .ref q5, .long 0, .int 0, .int 0, .ref q9, .long 0, .null])), (q0, .inl (d0, (8, .inl (fun _ => 0)))), (q1, .inl (d1, (32, .inl (fun _ => 0)))), (q2, .inl (d2, (20, .inr (.inl (fun _ => 0))))), (q3, .inl (d3, (4, .inr (.inl (fun _ => 0))))), (q5, .inl (d5, (4, .inr (.inl (fun _ => 0))))), (q9, .inl (d9, (4, .inr (.inl (fun _ => 0))))), (q11, .inl (d11, (4, .inl (fun _ => 0))))] H := hP
  have hD : va_D A [(h, .inr (0, [.ref q0, .ref q1, .ref q2, .ref q3, .long 0, .ref q5, .long 0, .int 0, .int 0, .ref q9, .long 0, .null])), (q0, .inl (d0, (8, .inl (fun _ => 0)))), (q1, .inl (d1, (32, .inl (fun _ => 0)))), (q2, .inl (d2, (20, .inr (.inl (fun _ => 0))))), (q3, .inl (d3, (4, .inr (.inl (fun _ => 0))))), (q5, .inl (d5, (4, .inr (.inl (fun _ => 0))))), (q9, .inl (d9, (4, .inr (.inl (fun _ => 0))))), (q11, .inl (d11, (4, .inl (fun _ => 0))))] := hD
  have hK : va_K D vwCl [(d0, .byte), (d1, .byte), (d2, .long), (d3, .long), (d5, .long), (d9, .long), (d11, .byte)] s := hK
  refine W.widen (k := 7) (n := 76) (by omega) (by omega) ?_
  refine va_putF (D := D) (ci := 0) (v := .ref q11) (ty := .array .byte) (C := RX0) (T := TX0) (N := 12) hx hb hts in_X0 tyX0 tyX0_ok nmX0 hown hK hP hD hS 0 rfl rfl 11 (by decide) (hts _ q48) (fun _ h9 => h9) rfl hin rfl (by decide +kernel) rfl rfl (Nat.le_of_ble_eq_true rfl) dX0_init_53 (fun H locs hP hD hS => ?_)
  have hP : va_P D vwCl [(h, .inr (0, [.ref q0, .ref q1, .ref q2, .ref q3, .long 0, .ref q5, .long 0, .int 0, .int 0, .ref q9, .long 0, .ref q11])), (q0, .inl (d0, (8, .inl (fun _ => 0)))), (q1, .inl (d1, (32, .inl (fun _ => 0)))), (q2, .inl (d2, (20, .inr (.inl (fun _ => 0))))), (q3, .inl (d3, (4, .inr (.inl (fun _ => 0))))), (q5, .inl (d5, (4, .inr (.inl (fun _ => 0))))), (q9, .inl (d9, (4, .inr (.inl (fun _ => 0))))), (q11, .inl (d11, (4, .inl (fun _ => 0))))] H := hP
  have hD : va_D A [(h, .inr (0, [.ref q0, .ref q1, .ref q2, .ref q3, .long 0, .ref q5, .long 0, .int 0, .int 0, .ref q9, .long 0, .ref q11])), (q0, .inl (d0, (8, .inl (fun _ => 0)))), (q1, .inl (d1, (32, .inl (fun _ => 0)))), (q2, .inl (d2, (20, .inr (.inl (fun _ => 0))))), (q3, .inl (d3, (4, .inr (.inl (fun _ => 0))))), (q5, .inl (d5, (4, .inr (.inl (fun _ => 0))))), (q9, .inl (d9, (4, .inr (.inl (fun _ => 0))))), (q11, .inl (d11, (4, .inl (fun _ => 0))))] := hD
  obtain ⟨q, rfl, rfl, rfl, rfl, rfl, rfl, rfl⟩ : ∃ q : Nat → Nat, q0 = q 0 ∧ q1 = q 1 ∧ q2 = q 2 ∧ q3 = q 3 ∧ q5 = q 5 ∧ q9 = q 9 ∧ q11 = q 11 := ⟨fun k => match k with | 0 => q0 | 1 => q1 | 2 => q2 | 3 => q3 | 5 => q5 | 9 => q9 | _ => q11, rfl, rfl, rfl, rfl, rfl, rfl, rfl⟩
  obtain ⟨d, rfl, rfl, rfl, rfl, rfl, rfl, rfl⟩ : ∃ d : Nat → ClassId, d0 = d 0 ∧ d1 = d 1 ∧ d2 = d 2 ∧ d3 = d 3 ∧ d5 = d 5 ∧ d9 = d 9 ∧ d11 = d 11 := ⟨fun k => match k with | 0 => d0 | 1 => d1 | 2 => d2 | 3 => d3 | 5 => d5 | 9 => d9 | _ => d11, rfl, rfl, rfl, rfl, rfl, rfl, rfl⟩
  have hc : xc p s m [.ref h].toArray c cX0_init 3 RX0 D (xT d) A := ⟨hx, hb, hml, hown, hts, hK, hA⟩
  have hw : ww D (xF h q d) A s.heap H locs ((fun _ => 0), (fun _ => 0), (fun _ => 0), (fun _ => 0), 0, (fun _ => 0), 0, 0, 0, (fun _ => 0), 0, (fun _ => 0)) := ⟨hP, hD, hS⟩
  have L1 : ∀ (n i : Nat) (S1 : Nat → Int32), i + n = 4 → px_c1 n i S1 = px_S0 → ∀ (H : Heap) (locs : List Loc) (ls : Array Slot), ww D (xF h q d) A s.heap H locs ((fun _ => 0), S1, (fun _ => 0), (fun _ => 0), 0, (fun _ => 0), 0, 0, 0, (fun _ => 0), 0, (fun _ => 0)) → lv_has ls 3 [(0, .ref h), (1, .int (nI i))] → W p l e ({ frames := 1, cells := 7, slots := 76, locals := 12 }) s m [.ref h].toArray below meth c H locs 7 76 Q (F0 m 58 ls []) := by
    intro n
    induction n with
    | zero =>
      intro i S1 k1 k2 H locs ls hw hl
      refine lv_iload_n hx hb dX0_init_58 rfl (lv_at hl 1 rfl) ?_
      refine lv_iconst (v := nI 4) hx hb dX0_init_59 (by decide) ?_
      refine n_icmp_ge (tgt := 97) hx hb (by omega) (by omega) dX0_init_60 (by decide) (fun h2 => ?_) (fun h2 => ?_)
      · exact hret (q, d, ((fun _ => 0), S1, (fun _ => 0), (fun _ => 0), 0, (fun _ => 0), 0, 0, 0, (fun _ => 0), 0, (fun _ => 0))) _ _ _ _ dX0_init_97 ⟨rfl, k2, rfl⟩ hK hw.1 hw.2.1 hw.2.2
      · exact absurd h2 (by omega)
    | succ n ih =>
      intro i S1 k1 k2 H locs ls hw hl
      refine lv_iload_n hx hb dX0_init_58 rfl (lv_at hl 1 rfl) ?_
      refine lv_iconst (v := nI 4) hx hb dX0_init_59 (by decide) ?_
      refine n_icmp_ge (tgt := 97) hx hb (by omega) (by omega) dX0_init_60 (by decide) (fun h2 => ?_) (fun h2 => ?_)
      · exact absurd h2 (by omega)
      · refine lv_iconst (v := nI 0) hx hb dX0_init_63 (by decide) ?_
        refine lv_istore_n (lv' := [(2, .int (nI 0)), (0, .ref h), (1, .int (nI i))]) hx hb dX0_init_64 rfl hl (by decide) rfl (fun ls hl => ?_)
        have L2 : ∀ (n2 j : Nat) (S2 : Nat → Int32), j + n2 = 2 → px_c2 i n2 j S2 = px_c2 i 2 0 S1 → ∀ (H : Heap) (locs : List Loc) (ls : Array Slot), ww D (xF h q d) A s.heap H locs ((fun _ => 0), S2, (fun _ => 0), (fun _ => 0), 0, (fun _ => 0), 0, 0, 0, (fun _ => 0), 0, (fun _ => 0)) → lv_has ls 3 [(0, .ref h), (1, .int (nI i)), (2, .int (nI j))] → W p l e ({ frames := 1, cells := 7, slots := 76, locals := 12 }) s m [.ref h].toArray below meth c H locs 7 76 Q (F0 m 65 ls []) := by
          intro n2
          induction n2 with
          | zero =>
            intro j S2 k3 k4 H locs ls hw hl
            refine lv_iload_n hx hb dX0_init_65 rfl (lv_at hl 2 rfl) ?_
            refine lv_iconst (v := nI 2) hx hb dX0_init_66 (by decide) ?_
            refine n_icmp_ge (tgt := 91) hx hb (by omega) (by omega) dX0_init_67 (by decide) (fun h3 => ?_) (fun h3 => ?_)
            · refine lv_iinc (v := nI (i + 1)) (lv' := [(1, .int (nI (i + 1))), (0, .ref h), (2, .int (nI j))]) hx hb dX0_init_91 hl (k := 1) rfl (n_inc _) (by decide) rfl (fun ls hl => ?_)
              refine lv_goto (tgt := 58) hx hb dX0_init_94 (by decide) ?_
              exact ih (i + 1) S2 (by omega) (by rw [show S2 = _ from k4]; exact k2) H locs ls hw (lv_sub hl [1, 0] rfl)
            · exact absurd h3 (by omega)
          | succ n2 ih2 =>
            intro j S2 k3 k4 H locs ls hw hl
            refine lv_iload_n hx hb dX0_init_65 rfl (lv_at hl 2 rfl) ?_
            refine lv_iconst (v := nI 2) hx hb dX0_init_66 (by decide) ?_
            refine n_icmp_ge (tgt := 91) hx hb (by omega) (by omega) dX0_init_67 (by decide) (fun h3 => ?_) (fun h3 => ?_)
            · exact absurd h3 (by omega)
            · refine lv_aload_n hx hb dX0_init_70 rfl (lv_at hl 0 rfl) ?_
              refine x_get1 hc hw dX0_init_71 ?_
              refine lv_iconst (v := nI 4) hx hb dX0_init_74 (by decide) ?_
              refine lv_iconst (v := nI 2) hx hb dX0_init_75 (by decide) ?_
              refine lv_iload_n hx hb dX0_init_76 rfl (lv_at hl 1 rfl) ?_
              refine n_imul hx hb dX0_init_77 ?_
              refine lv_iload_n hx hb dX0_init_78 rfl (lv_at hl 2 rfl) ?_
              refine n_iadd hx hb dX0_init_79 ?_
              refine n_imul hx hb dX0_init_80 ?_
              refine lv_iload_n hx hb dX0_init_81 rfl (lv_at hl 1 rfl) ?_
              refine n_iadd hx hb dX0_init_82 ?_
              refine lv_iconst (v := nI 4) hx hb dX0_init_83 (by decide) ?_
              refine x_st1 hc hw (by omega) dX0_init_84 (fun H locs hw => ?_)
              refine lv_iinc (v := nI (j + 1)) (lv' := [(2, .int (nI (j + 1))), (0, .ref h), (1, .int (nI i))]) hx hb dX0_init_85 hl (k := 2) rfl (n_inc _) (by decide) rfl (fun ls hl => ?_)
              refine lv_goto (tgt := 65) hx hb dX0_init_88 (by decide) ?_
              exact ih2 (j + 1) _ (by omega) k4 H locs ls hw (lv_sub hl [1, 2, 0] rfl)
        exact L2 2 0 S1 rfl rfl _ _ _ hw (lv_sub hl [1, 2, 0] rfl)
  refine lv_iconst (v := nI 0) hx hb dX0_init_56 (by decide) ?_
  refine lv_istore_n (lv' := [(1, .int (nI 0)), (0, .ref h)]) hx hb dX0_init_57 rfl hl (by decide) rfl (fun ls hl => ?_)
  exact L1 4 0 _ rfl rfl _ _ _ hw (lv_sub hl [1, 0] rfl)
set_option maxHeartbeats 4000000 in
set_option maxRecDepth 100000 in
theorem pm_init (l : Launch) (D : va_G) (h : Nat) : CN l D [(h, .inr (1, [.null, .null, .null, .null, .null]))] (fun u : (Nat → Nat) × (Nat → ClassId) × MS => mF h u.1 u.2.1 u.2.2) (fun u => mT u.2.1) yX1_init cX1_init 2 ({ frames := 1, cells := 5, slots := 188, locals := 12 }) [.ref h] 5 188 (fun u => u.2.2.1 = (fun _ => 0) ∧ u.2.2.2.1 = pm_S0) := by
  refine CN.of (by decide) (Nat.le_of_ble_eq_true rfl) ?_
  intro p e s m below meth c A Q ls hx hb hml hown hts hin hK hA hret hP hD hS hl
  have hl : lv_has ls 2 [(0, .ref h)] := hl
  have hown : s.vm.findClass RX1 = some m.cls := hown
  have hin : meth.name = "<init>" := hin
  refine lv_aload_n hx hb dX1_init_0 rfl (lv_at hl 0 rfl) ?_
  refine W.objInit hx hb hown (hts _ q179) (hts _ q35) (hts _ q36) rfl (by rw [hml]; exact hl.1) rfl dX1_init_1 (Nat.le_of_ble_eq_true rfl) (Nat.le_of_ble_eq_true rfl) ?_
  refine W.eq (g2 := F0 m 4 ls []) rfl ?_
  refine lv_aload_n hx hb dX1_init_4 rfl (lv_at hl 0 rfl) ?_
  refine lv_bipush (v := 8) hx hb dX1_init_5 (by decide) ?_
  refine va_newa (D := D) (atype := .int) (ty := .int) (a0 := (8, .inl (fun _ => 0))) hx hb (hts _ q196) rfl hK hP hD hS hA (fun cA => rfl) (by decide) (by decide) (by decide) (Nat.le_of_ble_eq_true rfl) (Nat.le_of_ble_eq_true rfl) dX1_init_7 (fun q0 d0 H hK hP hD hS => ?_)
  have hP : va_P D vwCl [(h, .inr (1, [.null, .null, .null, .null, .null])), (q0, .inl (d0, (8, .inl (fun _ => 0))))] H := hP
  have hD : va_D A [(h, .inr (1, [.null, .null, .null, .null, .null])), (q0, .inl (d0, (8, .inl (fun _ => 0))))] := hD
  have hK : va_K D vwCl [(d0, .int)] s := hK
  refine W.widen (k := 1) (n := 8) (by omega) (by omega) ?_
  refine va_put (D := D) (ci := 1) (v := .ref q0) (ty := .array .int) (C := RX1) (T := TX1) (N := 5) hx hb hts in_X1 tyX1 tyX1_ok nmX1 hown hK hP hD hS 0 rfl rfl 0 (by decide) (hts _ q180) (fun _ h9 => h9) rfl (by decide +kernel) rfl rfl (Nat.le_of_ble_eq_true rfl) dX1_init_9 (fun H locs hP hD hS => ?_)
  have hP : va_P D vwCl [(h, .inr (1, [.ref q0, .null, .null, .null, .null])), (q0, .inl (d0, (8, .inl (fun _ => 0))))] H := hP
  have hD : va_D A [(h, .inr (1, [.ref q0, .null, .null, .null, .null])), (q0, .inl (d0, (8, .inl (fun _ => 0))))] := hD
  refine lv_aload_n hx hb dX1_init_12 rfl (lv_at hl 0 rfl) ?_
  refine lv_bipush (v := 32) hx hb dX1_init_13 (by decide) ?_
  refine va_newa (D := D) (atype := .int) (ty := .int) (a0 := (32, .inl (fun _ => 0))) hx hb (hts _ q196) rfl hK hP hD hS hA (fun cA => rfl) (by decide) (by decide) (by decide) (Nat.le_of_ble_eq_true rfl) (Nat.le_of_ble_eq_true rfl) dX1_init_15 (fun q1 d1 H hK hP hD hS => ?_)
  have hP : va_P D vwCl [(h, .inr (1, [.ref q0, .null, .null, .null, .null])), (q0, .inl (d0, (8, .inl (fun _ => 0)))), (q1, .inl (d1, (32, .inl (fun _ => 0))))] H := hP
  have hD : va_D A [(h, .inr (1, [.ref q0, .null, .null, .null, .null])), (q0, .inl (d0, (8, .inl (fun _ => 0)))), (q1, .inl (d1, (32, .inl (fun _ => 0))))] := hD
  have hK : va_K D vwCl [(d0, .int), (d1, .int)] s := hK
  refine W.widen (k := 2) (n := 40) (by omega) (by omega) ?_
  refine va_put (D := D) (ci := 1) (v := .ref q1) (ty := .array .int) (C := RX1) (T := TX1) (N := 5) hx hb hts in_X1 tyX1 tyX1_ok nmX1 hown hK hP hD hS 0 rfl rfl 1 (by decide) (hts _ q181) (fun _ h9 => h9) rfl (by decide +kernel) rfl rfl (Nat.le_of_ble_eq_true rfl) dX1_init_17 (fun H locs hP hD hS => ?_)
  have hP : va_P D vwCl [(h, .inr (1, [.ref q0, .ref q1, .null, .null, .null])), (q0, .inl (d0, (8, .inl (fun _ => 0)))), (q1, .inl (d1, (32, .inl (fun _ => 0))))] H := hP
  have hD : va_D A [(h, .inr (1, [.ref q0, .ref q1, .null, .null, .null])), (q0, .inl (d0, (8, .inl (fun _ => 0)))), (q1, .inl (d1, (32, .inl (fun _ => 0))))] := hD
  refine lv_aload_n hx hb dX1_init_20 rfl (lv_at hl 0 rfl) ?_
  refine lv_bipush (v := 20) hx hb dX1_init_21 (by decide) ?_
  refine va_newa (D := D) (atype := .long) (ty := .long) (a0 := (20, .inr (.inl (fun _ => 0)))) hx hb (hts _ q75) rfl hK hP hD hS hA (fun cA => rfl) (by decide) (by decide) (by decide) (Nat.le_of_ble_eq_true rfl) (Nat.le_of_ble_eq_true rfl) dX1_init_23 (fun q2 d2 H hK hP hD hS => ?_)
  have hP : va_P D vwCl [(h, .inr (1, [.ref q0, .ref q1, .null, .null, .null])), (q0, .inl (d0, (8, .inl (fun _ => 0)))), (q1, .inl (d1, (32, .inl (fun _ => 0)))), (q2, .inl (d2, (20, .inr (.inl (fun _ => 0)))))] H := hP
  have hD : va_D A [(h, .inr (1, [.ref q0, .ref q1, .null, .null, .null])), (q0, .inl (d0, (8, .inl (fun _ => 0)))), (q1, .inl (d1, (32, .inl (fun _ => 0)))), (q2, .inl (d2, (20, .inr (.inl (fun _ => 0)))))] := hD
  have hK : va_K D vwCl [(d0, .int), (d1, .int), (d2, .long)] s := hK
  refine W.widen (k := 3) (n := 60) (by omega) (by omega) ?_
  refine va_put (D := D) (ci := 1) (v := .ref q2) (ty := .array .long) (C := RX1) (T := TX1) (N := 5) hx hb hts in_X1 tyX1 tyX1_ok nmX1 hown hK hP hD hS 0 rfl rfl 2 (by decide) (hts _ q182) (fun _ h9 => h9) rfl (by decide +kernel) rfl rfl (Nat.le_of_ble_eq_true rfl) dX1_init_25 (fun H locs hP hD hS => ?_)
  have hP : va_P D vwCl [(h, .inr (1, [.ref q0, .ref q1, .ref q2, .null, .null])), (q0, .inl (d0, (8, .inl (fun _ => 0)))), (q1, .inl (d1, (32, .inl (fun _ => 0)))), (q2, .inl (d2, (20, .inr (.inl (fun _ => 0)))))] H := hP
  have hD : va_D A [(h, .inr (1, [.ref q0, .ref q1, .ref q2, .null, .null])), (q0, .inl (d0, (8, .inl (fun _ => 0)))), (q1, .inl (d1, (32, .inl (fun _ => 0)))), (q2, .inl (d2, (20, .inr (.inl (fun _ => 0)))))] := hD
  refine lv_aload_n hx hb dX1_init_28 rfl (lv_at hl 0 rfl) ?_
  refine lv_bipush (v := 64) hx hb dX1_init_29 (by decide) ?_
  refine va_newa (D := D) (atype := .long) (ty := .long) (a0 := (64, .inr (.inl (fun _ => 0)))) hx hb (hts _ q75) rfl hK hP hD hS hA (fun cA => rfl) (by decide) (by decide) (by decide) (Nat.le_of_ble_eq_true rfl) (Nat.le_of_ble_eq_true rfl) dX1_init_31 (fun q3 d3 H hK hP hD hS => ?_)
  have hP : va_P D vwCl [(h, .inr (1, [.ref q0, .ref q1, .ref q2, .null, .null])), (q0, .inl (d0, (8, .inl (fun _ => 0)))), (q1, .inl (d1, (32, .inl (fun _ => 0)))), (q2, .inl (d2, (20, .inr (.inl (fun _ => 0))))), (q3, .inl (d3, (64, .inr (.inl (fun _ => 0)))))] H := hP
  have hD : va_D A [(h, .inr (1, [.ref q0, .ref q1, .ref q2, .null, .null])), (q0, .inl (d0, (8, .inl (fun _ => 0)))), (q1, .inl (d1, (32, .inl (fun _ => 0)))), (q2, .inl (d2, (20, .inr (.inl (fun _ => 0))))), (q3, .inl (d3, (64, .inr (.inl (fun _ => 0)))))] := hD
  have hK : va_K D vwCl [(d0, .int), (d1, .int), (d2, .long), (d3, .long)] s := hK
  refine W.widen (k := 4) (n := 124) (by omega) (by omega) ?_
  refine va_put (D := D) (ci := 1) (v := .ref q3) (ty := .array .long) (C := RX1) (T := TX1) (N := 5) hx hb hts in_X1 tyX1 tyX1_ok nmX1 hown hK hP hD hS 0 rfl rfl 3 (by decide) (hts _ q183) (fun _ h9 => h9) rfl (by decide +kernel) rfl rfl (Nat.le_of_ble_eq_true rfl) dX1_init_33 (fun H locs hP hD hS => ?_)
  have hP : va_P D vwCl [(h, .inr (1, [.ref q0, .ref q1, .ref q2, .ref q3, .null])), (q0, .inl (d0, (8, .inl (fun _ => 0)))), (q1, .inl (d1, (32, .inl (fun _ => 0)))), (q2, .inl (d2, (20, .inr (.inl (fun _ => 0))))), (q3, .inl (d3, (64, .inr (.inl (fun _ => 0)))))] H := hP
  have hD : va_D A [(h, .inr (1, [.ref q0, .ref q1, .ref q2, .ref q3, .null])), (q0, .inl (d0, (8, .inl (fun _ => 0)))), (q1, .inl (d1, (32, .inl (fun _ => 0)))), (q2, .inl (d2, (20, .inr (.inl (fun _ => 0))))), (q3, .inl (d3, (64, .inr (.inl (fun _ => 0)))))] := hD
  refine lv_aload_n hx hb dX1_init_36 rfl (lv_at hl 0 rfl) ?_
  refine lv_bipush (v := 64) hx hb dX1_init_37 (by decide) ?_
  refine va_newa (D := D) (atype := .long) (ty := .long) (a0 := (64, .inr (.inl (fun _ => 0)))) hx hb (hts _ q75) rfl hK hP hD hS hA (fun cA => rfl) (by decide) (by decide) (by decide) (Nat.le_of_ble_eq_true rfl) (Nat.le_of_ble_eq_true rfl) dX1_init_39 (fun q4 d4 H hK hP hD hS => ?_)
  have hP : va_P D vwCl [(h, .inr (1, [.ref q0, .ref q1, .ref q2, .ref q3, .null])), (q0, .inl (d0, (8, .inl (fun _ => 0)))), (q1, .inl (d1, (32, .inl (fun _ => 0)))), (q2, .inl (d2, (20, .inr (.inl (fun _ => 0))))), (q3, .inl (d3, (64, .inr (.inl (fun _ => 0))))), (q4, .inl (d4, (64, .inr (.inl (fun _ => 0)))))] H := hP
  have hD : va_D A [(h, .inr (1, [.ref q0, .ref q1, .ref q2, .ref q3, .null])), (q0, .inl (d0, (8, .inl (fun _ => 0)))), (q1, .inl (d1, (32, .inl (fun _ => 0)))), (q2, .inl (d2, (20, .inr (.inl (fun _ => 0))))), (q3, .inl (d3, (64, .inr (.inl (fun _ => 0))))), (q4, .inl (d4, (64, .inr (.inl (fun _ => 0)))))] := hD
  have hK : va_K D vwCl [(d0, .int), (d1, .int), (d2, .long), (d3, .long), (d4, .long)] s := hK
  refine W.widen (k := 5) (n := 188) (by omega) (by omega) ?_
  refine va_put (D := D) (ci := 1) (v := .ref q4) (ty := .array .long) (C := RX1) (T := TX1) (N := 5) hx hb hts in_X1 tyX1 tyX1_ok nmX1 hown hK hP hD hS 0 rfl rfl 4 (by decide) (hts _ q184) (fun _ h9 => h9) rfl (by decide +kernel) rfl rfl (Nat.le_of_ble_eq_true rfl) dX1_init_41 (fun H locs hP hD hS => ?_)
  have hP : va_P D vwCl [(h, .inr (1, [.ref q0, .ref q1, .ref q2, .ref q3, .ref q4])), (q0, .inl (d0, (8, .inl (fun _ => 0)))), (q1, .inl (d1, (32, .inl (fun _ => 0)))), (q2, .inl (d2, (20, .inr (.inl (fun _ => 0))))), (q3, .inl (d3, (64, .inr (.inl (fun _ => 0))))), (q4, .inl (d4, (64, .inr (.inl (fun _ => 0)))))] H := hP
  have hD : va_D A [(h, .inr (1, [.ref q0, .ref q1, .ref q2, .ref q3, .ref q4])), (q0, .inl (d0, (8, .inl (fun _ => 0)))), (q1, .inl (d1, (32, .inl (fun _ => 0)))), (q2, .inl (d2, (20, .inr (.inl (fun _ => 0))))), (q3, .inl (d3, (64, .inr (.inl (fun _ => 0))))), (q4, .inl (d4, (64, .inr (.inl (fun _ => 0)))))] := hD
  obtain ⟨q, rfl, rfl, rfl, rfl, rfl⟩ : ∃ q : Nat → Nat, q0 = q 0 ∧ q1 = q 1 ∧ q2 = q 2 ∧ q3 = q 3 ∧ q4 = q 4 := ⟨fun k => match k with | 0 => q0 | 1 => q1 | 2 => q2 | 3 => q3 | _ => q4, rfl, rfl, rfl, rfl, rfl⟩
  obtain ⟨d, rfl, rfl, rfl, rfl, rfl⟩ : ∃ d : Nat → ClassId, d0 = d 0 ∧ d1 = d 1 ∧ d2 = d 2 ∧ d3 = d 3 ∧ d4 = d 4 := ⟨fun k => match k with | 0 => d0 | 1 => d1 | 2 => d2 | 3 => d3 | _ => d4, rfl, rfl, rfl, rfl, rfl⟩
  have hc : xc p s m [.ref h].toArray c cX1_init 2 RX1 D (mT d) A := ⟨hx, hb, hml, hown, hts, hK, hA⟩
  have hw : ww D (mF h q d) A s.heap H locs ((fun _ => 0), (fun _ => 0), (fun _ => 0), (fun _ => 0), (fun _ => 0)) := ⟨hP, hD, hS⟩
  have L1 : ∀ (n i : Nat) (S1 : Nat → Int32), i + n = 8 → pm_c1 n i S1 = pm_S0 → ∀ (H : Heap) (locs : List Loc) (ls : Array Slot), ww D (mF h q d) A s.heap H locs ((fun _ => 0), S1, (fun _ => 0), (fun _ => 0), (fun _ => 0)) → lv_has ls 2 [(0, .ref h), (1, .int (nI i))] → W p l e ({ frames := 1, cells := 5, slots := 188, locals := 12 }) s m [.ref h].toArray below meth c H locs 5 188 Q (F0 m 46 ls []) := by
    intro n
    induction n with
    | zero =>
      intro i S1 k1 k2 H locs ls hw hl
      refine lv_iload_n hx hb dX1_init_46 rfl (lv_at hl 1 rfl) ?_
      refine lv_bipush (v := nI 8) hx hb dX1_init_47 (by decide) ?_
      refine n_icmp_ge (tgt := 71) hx hb (by omega) (by omega) dX1_init_49 (by decide) (fun h2 => ?_) (fun h2 => ?_)
      · exact hret (q, d, ((fun _ => 0), S1, (fun _ => 0), (fun _ => 0), (fun _ => 0))) _ _ _ _ dX1_init_71 ⟨rfl, k2⟩ hK hw.1 hw.2.1 hw.2.2
      · exact absurd h2 (by omega)
    | succ n ih =>
      intro i S1 k1 k2 H locs ls hw hl
      refine lv_iload_n hx hb dX1_init_46 rfl (lv_at hl 1 rfl) ?_
      refine lv_bipush (v := nI 8) hx hb dX1_init_47 (by decide) ?_
      refine n_icmp_ge (tgt := 71) hx hb (by omega) (by omega) dX1_init_49 (by decide) (fun h2 => ?_) (fun h2 => ?_)
      · exact absurd h2 (by omega)
      · refine lv_aload_n hx hb dX1_init_52 rfl (lv_at hl 0 rfl) ?_
        refine m_get1 hc hw dX1_init_53 ?_
        refine lv_iconst (v := nI 4) hx hb dX1_init_56 (by decide) ?_
        refine lv_iload_n hx hb dX1_init_57 rfl (lv_at hl 1 rfl) ?_
        refine n_imul hx hb dX1_init_58 ?_
        refine lv_iload_n hx hb dX1_init_59 rfl (lv_at hl 1 rfl) ?_
        refine lv_iconst (v := nI 2) hx hb dX1_init_60 (by decide) ?_
        refine n_idiv hx hb (by omega) (by omega) (by omega) dX1_init_61 ?_
        refine n_iadd hx hb dX1_init_62 ?_
        refine lv_iconst (v := nI 4) hx hb dX1_init_63 (by decide) ?_
        refine m_st1 hc hw (by omega) dX1_init_64 (fun H locs hw => ?_)
        refine lv_iinc (v := nI (i + 1)) (lv' := [(1, .int (nI (i + 1))), (0, .ref h)]) hx hb dX1_init_65 hl (k := 1) rfl (n_inc _) (by decide) rfl (fun ls hl => ?_)
        refine lv_goto (tgt := 46) hx hb dX1_init_68 (by decide) ?_
        exact ih (i + 1) _ (by omega) k2 H locs ls hw (lv_sub hl [1, 0] rfl)
  refine lv_iconst (v := nI 0) hx hb dX1_init_44 (by decide) ?_
  refine lv_istore_n (lv' := [(1, .int (nI 0)), (0, .ref h)]) hx hb dX1_init_45 rfl hl (by decide) rfl (fun ls hl => ?_)
  exact L1 8 0 _ rfl rfl _ _ _ hw (lv_sub hl [1, 0] rfl)
end
section
/-! the cases of the law, one call of the component beside one of the reference (printed by mkL.py) -/
/-- what stays all through the law's run -/
def pl_C (p : Program) (s : State) (m : MethodId) (c : Code) (D : va_G) (A : Nat → Prop) (dX dM : Nat → ClassId) (b L : Nat) (xs : Nat → Int32) : Prop := CallFix p m c code 4 s #[Value.ref b] lw_all "PolicySolverLaw" ∧ va_K D vwCl (xT dX) s ∧ va_K D vwCl (mT dM) s ∧ (∀ q, s.heap.size ≤ q → A q) ∧ va_X b L xs s s.heap ∧ b < s.heap.size ∧ ¬ A b ∧ L ≤ 256
section LAWOPS
variable {p : Program} {l : Launch} {e : Env} {s : State} {m : MethodId} {below : List Frame} {meth : Method} {c : Code} {H : Heap} {locs : List Loc} {Q : State → Prop}
variable {D : va_G} {A : Nat → Prop} {hX hM b L i : Nat} {qX qM : Nat → Nat} {dX dM : Nat → ClassId} {xs : Nat → Int32} {ls : Array Slot} {u : XS} {v : MS}
set_option maxHeartbeats 4000000 in
set_option maxRecDepth 100000 in
theorem pl_op_reward (hc : pl_C p s m c D A dX dM b L xs) (hi : i + 4 ≤ L) (hI : pl_I u v) (hw : pl_W D (xF hX qX dX u) (mF hM qM dM v) A s.heap H locs) (hl : lv_has ls 4 [(0, .ref b), (1, .ref hX), (2, .ref hM), (3, .int (nI i))])
    (K : ∀ (u : XS) (v : MS) (H : Heap) (locs : List Loc), pl_I u v → pl_W D (xF hX qX dX u) (mF hM qM dM v) A s.heap H locs → W p l e room_1 s m #[Value.ref b] below meth c H locs 14 281 Q (F0 m 405 ls [])) : W p l e room_1 s m #[Value.ref b] below meth c H locs 14 281 Q (F0 m 92 ls []) := by
  obtain ⟨hcf, hKx, hKm, hA, hS0, hbl, hbA, hL⟩ := hc
  obtain ⟨hx, hb, hml, hown, hts⟩ := id hcf
  obtain ⟨R, S, ra, tp, bo, kt, kb, so, bp, bt, bd, g⟩ := u
  obtain ⟨R', S', ra', tp', bt'⟩ := v
  obtain ⟨e1, e2, hok, hsv⟩ := hI
  have e1 : R = R' := e1
  have e2 : S = S' := e2
  have hok : ps_Ok R S := hok
  have hsv : ps_sv R S so bt bd g := hsv
  subst e1 e2
  refine lv_aload_n hx hb dL_law_92 rfl (lv_at hl 1 rfl) ?_
  refine lv_aload_n hx hb dL_law_93 rfl (lv_at hl 0 rfl) ?_
  refine lv_iload_n hx hb dL_law_94 rfl (lv_at hl 3 rfl) ?_
  refine lv_iconst (v := nI 1) hx hb dL_law_95 (by decide) ?_
  refine n_iadd hx hb dL_law_96 ?_
  refine pl_sld hx hb hS0 hbl hbA hw.2.2.2.2.2 (show i + 1 < L by omega) hL dL_law_97 ?_
  refine lv_aload_n hx hb dL_law_98 rfl (lv_at hl 0 rfl) ?_
  refine lv_iload_n hx hb dL_law_99 rfl (lv_at hl 3 rfl) ?_
  refine lv_iconst (v := nI 2) hx hb dL_law_100 (by decide) ?_
  refine n_iadd hx hb dL_law_101 ?_
  refine pl_sld hx hb hS0 hbl hbA hw.2.2.2.2.2 (show i + 2 < L by omega) hL dL_law_102 ?_
  refine lv_aload_n hx hb dL_law_103 rfl (lv_at hl 0 rfl) ?_
  refine lv_iload_n hx hb dL_law_104 rfl (lv_at hl 3 rfl) ?_
  refine lv_iconst (v := nI 3) hx hb dL_law_105 (by decide) ?_
  refine n_iadd hx hb dL_law_106 ?_
  refine pl_sld hx hb hS0 hbl hbA hw.2.2.2.2.2 (show i + 3 < L by omega) hL dL_law_107 ?_
  refine CI.callW (As := [.int (xs (i + 1)), .int (xs (i + 2)), .int (xs (i + 3))]) (rest := []) (ci := 0) (n := 3) (px_reward l D hX qX dX R S ra tp bo kt kb so bp bt bd g (xs (i + 1)) (xs (i + 2)) (xs (i + 3))) hcf hKx hA hw rfl rfl (cwV 3 hts (lw_V q76 q77 q78 q27 q79) rfl rfl rfl (by decide +kernel) ⟨Nat.le_of_ble_eq_true rfl, Nat.le_of_ble_eq_true rfl⟩) rfl hl.1 rfl (Nat.le_of_ble_eq_true rfl) ⟨Nat.le_of_ble_eq_true rfl, Nat.le_of_ble_eq_true rfl⟩ dL_law_108 (fun r u H locs hu hw => ?_)
  have hw := hw.sw
  refine lv_aload_n hx hb dL_law_111 rfl (lv_at hl 2 rfl) ?_
  refine lv_aload_n hx hb dL_law_112 rfl (lv_at hl 0 rfl) ?_
  refine lv_iload_n hx hb dL_law_113 rfl (lv_at hl 3 rfl) ?_
  refine lv_iconst (v := nI 1) hx hb dL_law_114 (by decide) ?_
  refine n_iadd hx hb dL_law_115 ?_
  refine pl_sld hx hb hS0 hbl hbA hw.2.2.2.2.2 (show i + 1 < L by omega) hL dL_law_116 ?_
  refine lv_aload_n hx hb dL_law_117 rfl (lv_at hl 0 rfl) ?_
  refine lv_iload_n hx hb dL_law_118 rfl (lv_at hl 3 rfl) ?_
  refine lv_iconst (v := nI 2) hx hb dL_law_119 (by decide) ?_
  refine n_iadd hx hb dL_law_120 ?_
  refine pl_sld hx hb hS0 hbl hbA hw.2.2.2.2.2 (show i + 2 < L by omega) hL dL_law_121 ?_
  refine lv_aload_n hx hb dL_law_122 rfl (lv_at hl 0 rfl) ?_
  refine lv_iload_n hx hb dL_law_123 rfl (lv_at hl 3 rfl) ?_
  refine lv_iconst (v := nI 3) hx hb dL_law_124 (by decide) ?_
  refine n_iadd hx hb dL_law_125 ?_
  refine pl_sld hx hb hS0 hbl hbA hw.2.2.2.2.2 (show i + 3 < L by omega) hL dL_law_126 ?_
  refine CI.callW (As := [.int (xs (i + 1)), .int (xs (i + 2)), .int (xs (i + 3))]) (rest := [.int r]) (ci := 1) (n := 3) (pm_reward l D hM qM dM R S ra' tp' bt' (xs (i + 1)) (xs (i + 2)) (xs (i + 3))) hcf hKm hA hw rfl rfl (cwV 3 hts (lw_V q197 q198 q199 q28 q200) rfl rfl rfl (by decide +kernel) ⟨Nat.le_of_ble_eq_true rfl, Nat.le_of_ble_eq_true rfl⟩) rfl hl.1 rfl (Nat.le_of_ble_eq_true rfl) ⟨Nat.le_of_ble_eq_true rfl, Nat.le_of_ble_eq_true rfl⟩ dL_law_127 (fun r' v H locs hv hw => ?_)
  have hw := hw.sw
  obtain ⟨er, hI⟩ := pl_reward hok hsv hu hv
  exact lv_icmp_eq (tgt := 405) hx hb dL_law_130 (by decide) (fun _ => K u v H locs hI hw) (fun hn => absurd er hn)
set_option maxHeartbeats 4000000 in
set_option maxRecDepth 100000 in
theorem pl_op_shares (hc : pl_C p s m c D A dX dM b L xs) (hi : i + 4 ≤ L) (hI : pl_I u v) (hw : pl_W D (xF hX qX dX u) (mF hM qM dM v) A s.heap H locs) (hl : lv_has ls 4 [(0, .ref b), (1, .ref hX), (2, .ref hM), (3, .int (nI i))])
    (K : ∀ (u : XS) (v : MS) (H : Heap) (locs : List Loc), pl_I u v → pl_W D (xF hX qX dX u) (mF hM qM dM v) A s.heap H locs → W p l e room_1 s m #[Value.ref b] below meth c H locs 14 281 Q (F0 m 405 ls [])) : W p l e room_1 s m #[Value.ref b] below meth c H locs 14 281 Q (F0 m 135 ls []) := by
  obtain ⟨hcf, hKx, hKm, hA, hS0, hbl, hbA, hL⟩ := hc
  obtain ⟨hx, hb, hml, hown, hts⟩ := id hcf
  obtain ⟨R, S, ra, tp, bo, kt, kb, so, bp, bt, bd, g⟩ := u
  obtain ⟨R', S', ra', tp', bt'⟩ := v
  obtain ⟨e1, e2, hok, hsv⟩ := hI
  have e1 : R = R' := e1
  have e2 : S = S' := e2
  have hok : ps_Ok R S := hok
  have hsv : ps_sv R S so bt bd g := hsv
  subst e1 e2
  refine lv_aload_n hx hb dL_law_135 rfl (lv_at hl 1 rfl) ?_
  refine lv_aload_n hx hb dL_law_136 rfl (lv_at hl 0 rfl) ?_
  refine lv_iload_n hx hb dL_law_137 rfl (lv_at hl 3 rfl) ?_
  refine lv_iconst (v := nI 1) hx hb dL_law_138 (by decide) ?_
  refine n_iadd hx hb dL_law_139 ?_
  refine pl_sld hx hb hS0 hbl hbA hw.2.2.2.2.2 (show i + 1 < L by omega) hL dL_law_140 ?_
  refine lv_aload_n hx hb dL_law_141 rfl (lv_at hl 0 rfl) ?_
  refine lv_iload_n hx hb dL_law_142 rfl (lv_at hl 3 rfl) ?_
  refine lv_iconst (v := nI 2) hx hb dL_law_143 (by decide) ?_
  refine n_iadd hx hb dL_law_144 ?_
  refine pl_sld hx hb hS0 hbl hbA hw.2.2.2.2.2 (show i + 2 < L by omega) hL dL_law_145 ?_
  refine lv_aload_n hx hb dL_law_146 rfl (lv_at hl 0 rfl) ?_
  refine lv_iload_n hx hb dL_law_147 rfl (lv_at hl 3 rfl) ?_
  refine lv_iconst (v := nI 3) hx hb dL_law_148 (by decide) ?_
  refine n_iadd hx hb dL_law_149 ?_
  refine pl_sld hx hb hS0 hbl hbA hw.2.2.2.2.2 (show i + 3 < L by omega) hL dL_law_150 ?_
  refine CI.callW (As := [.int (xs (i + 1)), .int (xs (i + 2)), .int (xs (i + 3))]) (rest := []) (ci := 0) (n := 3) (px_shares l D hX qX dX R S ra tp bo kt kb so bp bt bd g (xs (i + 1)) (xs (i + 2)) (xs (i + 3))) hcf hKx hA hw rfl rfl (cwV 3 hts (lw_V q84 q85 q86 q27 q87) rfl rfl rfl (by decide +kernel) ⟨Nat.le_of_ble_eq_true rfl, Nat.le_of_ble_eq_true rfl⟩) rfl hl.1 rfl (Nat.le_of_ble_eq_true rfl) ⟨Nat.le_of_ble_eq_true rfl, Nat.le_of_ble_eq_true rfl⟩ dL_law_151 (fun r u H locs hu hw => ?_)
  have hw := hw.sw
  refine lv_aload_n hx hb dL_law_154 rfl (lv_at hl 2 rfl) ?_
  refine lv_aload_n hx hb dL_law_155 rfl (lv_at hl 0 rfl) ?_
  refine lv_iload_n hx hb dL_law_156 rfl (lv_at hl 3 rfl) ?_
  refine lv_iconst (v := nI 1) hx hb dL_law_157 (by decide) ?_
  refine n_iadd hx hb dL_law_158 ?_
  refine pl_sld hx hb hS0 hbl hbA hw.2.2.2.2.2 (show i + 1 < L by omega) hL dL_law_159 ?_
  refine lv_aload_n hx hb dL_law_160 rfl (lv_at hl 0 rfl) ?_
  refine lv_iload_n hx hb dL_law_161 rfl (lv_at hl 3 rfl) ?_
  refine lv_iconst (v := nI 2) hx hb dL_law_162 (by decide) ?_
  refine n_iadd hx hb dL_law_163 ?_
  refine pl_sld hx hb hS0 hbl hbA hw.2.2.2.2.2 (show i + 2 < L by omega) hL dL_law_164 ?_
  refine lv_aload_n hx hb dL_law_165 rfl (lv_at hl 0 rfl) ?_
  refine lv_iload_n hx hb dL_law_166 rfl (lv_at hl 3 rfl) ?_
  refine lv_iconst (v := nI 3) hx hb dL_law_167 (by decide) ?_
  refine n_iadd hx hb dL_law_168 ?_
  refine pl_sld hx hb hS0 hbl hbA hw.2.2.2.2.2 (show i + 3 < L by omega) hL dL_law_169 ?_
  refine CI.callW (As := [.int (xs (i + 1)), .int (xs (i + 2)), .int (xs (i + 3))]) (rest := [.int r]) (ci := 1) (n := 3) (pm_shares l D hM qM dM R S ra' tp' bt' (xs (i + 1)) (xs (i + 2)) (xs (i + 3))) hcf hKm hA hw rfl rfl (cwV 3 hts (lw_V q205 q206 q207 q28 q208) rfl rfl rfl (by decide +kernel) ⟨Nat.le_of_ble_eq_true rfl, Nat.le_of_ble_eq_true rfl⟩) rfl hl.1 rfl (Nat.le_of_ble_eq_true rfl) ⟨Nat.le_of_ble_eq_true rfl, Nat.le_of_ble_eq_true rfl⟩ dL_law_170 (fun r' v H locs hv hw => ?_)
  have hw := hw.sw
  obtain ⟨er, hI⟩ := pl_shares hok hsv hu hv
  exact lv_icmp_eq (tgt := 405) hx hb dL_law_173 (by decide) (fun _ => K u v H locs hI hw) (fun hn => absurd er hn)
set_option maxHeartbeats 4000000 in
set_option maxRecDepth 100000 in
theorem pl_op_valueTop (hc : pl_C p s m c D A dX dM b L xs) (hi : i + 4 ≤ L) (hI : pl_I u v) (hw : pl_W D (xF hX qX dX u) (mF hM qM dM v) A s.heap H locs) (hl : lv_has ls 4 [(0, .ref b), (1, .ref hX), (2, .ref hM), (3, .int (nI i))])
    (K : ∀ (u : XS) (v : MS) (H : Heap) (locs : List Loc), pl_I u v → pl_W D (xF hX qX dX u) (mF hM qM dM v) A s.heap H locs → W p l e room_1 s m #[Value.ref b] below meth c H locs 14 281 Q (F0 m 405 ls [])) : W p l e room_1 s m #[Value.ref b] below meth c H locs 14 281 Q (F0 m 178 ls []) := by
  obtain ⟨hcf, hKx, hKm, hA, hS0, hbl, hbA, hL⟩ := hc
  obtain ⟨hx, hb, hml, hown, hts⟩ := id hcf
  obtain ⟨R, S, ra, tp, bo, kt, kb, so, bp, bt, bd, g⟩ := u
  obtain ⟨R', S', ra', tp', bt'⟩ := v
  obtain ⟨e1, e2, hok, hsv⟩ := hI
  have e1 : R = R' := e1
  have e2 : S = S' := e2
  have hok : ps_Ok R S := hok
  have hsv : ps_sv R S so bt bd g := hsv
  subst e1 e2
  refine lv_aload_n hx hb dL_law_178 rfl (lv_at hl 1 rfl) ?_
  refine lv_aload_n hx hb dL_law_179 rfl (lv_at hl 0 rfl) ?_
  refine lv_iload_n hx hb dL_law_180 rfl (lv_at hl 3 rfl) ?_
  refine lv_iconst (v := nI 1) hx hb dL_law_181 (by decide) ?_
  refine n_iadd hx hb dL_law_182 ?_
  refine pl_sld hx hb hS0 hbl hbA hw.2.2.2.2.2 (show i + 1 < L by omega) hL dL_law_183 ?_
  refine lv_aload_n hx hb dL_law_184 rfl (lv_at hl 0 rfl) ?_
  refine lv_iload_n hx hb dL_law_185 rfl (lv_at hl 3 rfl) ?_
  refine lv_iconst (v := nI 2) hx hb dL_law_186 (by decide) ?_
  refine n_iadd hx hb dL_law_187 ?_
  refine pl_sld hx hb hS0 hbl hbA hw.2.2.2.2.2 (show i + 2 < L by omega) hL dL_law_188 ?_
  refine CI.callW (As := [.int (xs (i + 1)), .int (xs (i + 2))]) (rest := []) (ci := 0) (n := 2) (px_valueTop l D hX qX dX R S ra tp bo kt kb so bp bt bd g (xs (i + 1)) (xs (i + 2)) hok) hcf hKx hA hw rfl rfl (cwV 2 hts (lw_V q88 q89 q90 q27 q91) rfl rfl rfl (by decide +kernel) ⟨Nat.le_of_ble_eq_true rfl, Nat.le_of_ble_eq_true rfl⟩) rfl hl.1 rfl (Nat.le_of_ble_eq_true rfl) ⟨Nat.le_of_ble_eq_true rfl, Nat.le_of_ble_eq_true rfl⟩ dL_law_189 (fun r u H locs hu hw => ?_)
  have hw := hw.sw
  refine lv_aload_n hx hb dL_law_192 rfl (lv_at hl 2 rfl) ?_
  refine lv_aload_n hx hb dL_law_193 rfl (lv_at hl 0 rfl) ?_
  refine lv_iload_n hx hb dL_law_194 rfl (lv_at hl 3 rfl) ?_
  refine lv_iconst (v := nI 1) hx hb dL_law_195 (by decide) ?_
  refine n_iadd hx hb dL_law_196 ?_
  refine pl_sld hx hb hS0 hbl hbA hw.2.2.2.2.2 (show i + 1 < L by omega) hL dL_law_197 ?_
  refine lv_aload_n hx hb dL_law_198 rfl (lv_at hl 0 rfl) ?_
  refine lv_iload_n hx hb dL_law_199 rfl (lv_at hl 3 rfl) ?_
  refine lv_iconst (v := nI 2) hx hb dL_law_200 (by decide) ?_
  refine n_iadd hx hb dL_law_201 ?_
  refine pl_sld hx hb hS0 hbl hbA hw.2.2.2.2.2 (show i + 2 < L by omega) hL dL_law_202 ?_
  refine CI.callW (As := [.int (xs (i + 1)), .int (xs (i + 2))]) (rest := [.int r]) (ci := 1) (n := 2) (pm_valueTop l D hM qM dM R S ra' tp' bt' (xs (i + 1)) (xs (i + 2)) hok) hcf hKm hA hw rfl rfl (cwV 2 hts (lw_V q209 q210 q211 q28 q212) rfl rfl rfl (by decide +kernel) ⟨Nat.le_of_ble_eq_true rfl, Nat.le_of_ble_eq_true rfl⟩) rfl hl.1 rfl (Nat.le_of_ble_eq_true rfl) ⟨Nat.le_of_ble_eq_true rfl, Nat.le_of_ble_eq_true rfl⟩ dL_law_203 (fun r' v H locs hv hw => ?_)
  have hw := hw.sw
  obtain ⟨er, hI⟩ := pl_value (fun p s => ps_frT (ps_tp R S p s) (ps_bo R S p)) hok hsv hu hv
  exact lv_icmp_eq (tgt := 405) hx hb dL_law_206 (by decide) (fun _ => K u v H locs hI hw) (fun hn => absurd er hn)
set_option maxHeartbeats 4000000 in
set_option maxRecDepth 100000 in
theorem pl_op_valueBottom (hc : pl_C p s m c D A dX dM b L xs) (hi : i + 4 ≤ L) (hI : pl_I u v) (hw : pl_W D (xF hX qX dX u) (mF hM qM dM v) A s.heap H locs) (hl : lv_has ls 4 [(0, .ref b), (1, .ref hX), (2, .ref hM), (3, .int (nI i))])
    (K : ∀ (u : XS) (v : MS) (H : Heap) (locs : List Loc), pl_I u v → pl_W D (xF hX qX dX u) (mF hM qM dM v) A s.heap H locs → W p l e room_1 s m #[Value.ref b] below meth c H locs 14 281 Q (F0 m 405 ls [])) : W p l e room_1 s m #[Value.ref b] below meth c H locs 14 281 Q (F0 m 211 ls []) := by
  obtain ⟨hcf, hKx, hKm, hA, hS0, hbl, hbA, hL⟩ := hc
  obtain ⟨hx, hb, hml, hown, hts⟩ := id hcf
  obtain ⟨R, S, ra, tp, bo, kt, kb, so, bp, bt, bd, g⟩ := u
  obtain ⟨R', S', ra', tp', bt'⟩ := v
  obtain ⟨e1, e2, hok, hsv⟩ := hI
  have e1 : R = R' := e1
  have e2 : S = S' := e2
  have hok : ps_Ok R S := hok
  have hsv : ps_sv R S so bt bd g := hsv
  subst e1 e2
  refine lv_aload_n hx hb dL_law_211 rfl (lv_at hl 1 rfl) ?_
  refine lv_aload_n hx hb dL_law_212 rfl (lv_at hl 0 rfl) ?_
  refine lv_iload_n hx hb dL_law_213 rfl (lv_at hl 3 rfl) ?_
  refine lv_iconst (v := nI 1) hx hb dL_law_214 (by decide) ?_
  refine n_iadd hx hb dL_law_215 ?_
  refine pl_sld hx hb hS0 hbl hbA hw.2.2.2.2.2 (show i + 1 < L by omega) hL dL_law_216 ?_
  refine lv_aload_n hx hb dL_law_217 rfl (lv_at hl 0 rfl) ?_
  refine lv_iload_n hx hb dL_law_218 rfl (lv_at hl 3 rfl) ?_
  refine lv_iconst (v := nI 2) hx hb dL_law_219 (by decide) ?_
  refine n_iadd hx hb dL_law_220 ?_
  refine pl_sld hx hb hS0 hbl hbA hw.2.2.2.2.2 (show i + 2 < L by omega) hL dL_law_221 ?_
  refine CI.callW (As := [.int (xs (i + 1)), .int (xs (i + 2))]) (rest := []) (ci := 0) (n := 2) (px_valueBottom l D hX qX dX R S ra tp bo kt kb so bp bt bd g (xs (i + 1)) (xs (i + 2)) hok) hcf hKx hA hw rfl rfl (cwV 2 hts (lw_V q118 q119 q120 q27 q121) rfl rfl rfl (by decide +kernel) ⟨Nat.le_of_ble_eq_true rfl, Nat.le_of_ble_eq_true rfl⟩) rfl hl.1 rfl (Nat.le_of_ble_eq_true rfl) ⟨Nat.le_of_ble_eq_true rfl, Nat.le_of_ble_eq_true rfl⟩ dL_law_222 (fun r u H locs hu hw => ?_)
  have hw := hw.sw
  refine lv_aload_n hx hb dL_law_225 rfl (lv_at hl 2 rfl) ?_
  refine lv_aload_n hx hb dL_law_226 rfl (lv_at hl 0 rfl) ?_
  refine lv_iload_n hx hb dL_law_227 rfl (lv_at hl 3 rfl) ?_
  refine lv_iconst (v := nI 1) hx hb dL_law_228 (by decide) ?_
  refine n_iadd hx hb dL_law_229 ?_
  refine pl_sld hx hb hS0 hbl hbA hw.2.2.2.2.2 (show i + 1 < L by omega) hL dL_law_230 ?_
  refine lv_aload_n hx hb dL_law_231 rfl (lv_at hl 0 rfl) ?_
  refine lv_iload_n hx hb dL_law_232 rfl (lv_at hl 3 rfl) ?_
  refine lv_iconst (v := nI 2) hx hb dL_law_233 (by decide) ?_
  refine n_iadd hx hb dL_law_234 ?_
  refine pl_sld hx hb hS0 hbl hbA hw.2.2.2.2.2 (show i + 2 < L by omega) hL dL_law_235 ?_
  refine CI.callW (As := [.int (xs (i + 1)), .int (xs (i + 2))]) (rest := [.int r]) (ci := 1) (n := 2) (pm_valueBottom l D hM qM dM R S ra' tp' bt' (xs (i + 1)) (xs (i + 2)) hok) hcf hKm hA hw rfl rfl (cwV 2 hts (lw_V q247 q248 q249 q28 q250) rfl rfl rfl (by decide +kernel) ⟨Nat.le_of_ble_eq_true rfl, Nat.le_of_ble_eq_true rfl⟩) rfl hl.1 rfl (Nat.le_of_ble_eq_true rfl) ⟨Nat.le_of_ble_eq_true rfl, Nat.le_of_ble_eq_true rfl⟩ dL_law_236 (fun r' v H locs hv hw => ?_)
  have hw := hw.sw
  obtain ⟨er, hI⟩ := pl_value (fun p s => ps_frB (ps_tp R S p s) (ps_bo R S p)) hok hsv hu hv
  exact lv_icmp_eq (tgt := 405) hx hb dL_law_239 (by decide) (fun _ => K u v H locs hI hw) (fun hn => absurd er hn)
set_option maxHeartbeats 4000000 in
set_option maxRecDepth 100000 in
theorem pl_op_bestTop (hc : pl_C p s m c D A dX dM b L xs) (hi : i + 4 ≤ L) (hI : pl_I u v) (hw : pl_W D (xF hX qX dX u) (mF hM qM dM v) A s.heap H locs) (hl : lv_has ls 4 [(0, .ref b), (1, .ref hX), (2, .ref hM), (3, .int (nI i))])
    (K : ∀ (u : XS) (v : MS) (H : Heap) (locs : List Loc), pl_I u v → pl_W D (xF hX qX dX u) (mF hM qM dM v) A s.heap H locs → W p l e room_1 s m #[Value.ref b] below meth c H locs 14 281 Q (F0 m 405 ls [])) : W p l e room_1 s m #[Value.ref b] below meth c H locs 14 281 Q (F0 m 244 ls []) := by
  obtain ⟨hcf, hKx, hKm, hA, hS0, hbl, hbA, hL⟩ := hc
  obtain ⟨hx, hb, hml, hown, hts⟩ := id hcf
  obtain ⟨R, S, ra, tp, bo, kt, kb, so, bp, bt, bd, g⟩ := u
  obtain ⟨R', S', ra', tp', bt'⟩ := v
  obtain ⟨e1, e2, hok, hsv⟩ := hI
  have e1 : R = R' := e1
  have e2 : S = S' := e2
  have hok : ps_Ok R S := hok
  have hsv : ps_sv R S so bt bd g := hsv
  subst e1 e2
  refine lv_aload_n hx hb dL_law_244 rfl (lv_at hl 1 rfl) ?_
  refine lv_aload_n hx hb dL_law_245 rfl (lv_at hl 0 rfl) ?_
  refine lv_iload_n hx hb dL_law_246 rfl (lv_at hl 3 rfl) ?_
  refine lv_iconst (v := nI 1) hx hb dL_law_247 (by decide) ?_
  refine n_iadd hx hb dL_law_248 ?_
  refine pl_sld hx hb hS0 hbl hbA hw.2.2.2.2.2 (show i + 1 < L by omega) hL dL_law_249 ?_
  refine CI.callW (As := [.int (xs (i + 1))]) (rest := []) (ci := 0) (n := 1) (px_bestTop l D hX qX dX R S ra tp bo kt kb so bp bt bd g (xs (i + 1)) hok hsv) hcf hKx hA hw rfl rfl (cwV 1 hts (lw_V q126 q127 q128 q27 q129) rfl rfl rfl (by decide +kernel) ⟨Nat.le_of_ble_eq_true rfl, Nat.le_of_ble_eq_true rfl⟩) rfl hl.1 rfl (Nat.le_of_ble_eq_true rfl) ⟨Nat.le_of_ble_eq_true rfl, Nat.le_of_ble_eq_true rfl⟩ dL_law_250 (fun r u H locs hu hw => ?_)
  have hw := hw.sw
  refine lv_aload_n hx hb dL_law_253 rfl (lv_at hl 2 rfl) ?_
  refine lv_aload_n hx hb dL_law_254 rfl (lv_at hl 0 rfl) ?_
  refine lv_iload_n hx hb dL_law_255 rfl (lv_at hl 3 rfl) ?_
  refine lv_iconst (v := nI 1) hx hb dL_law_256 (by decide) ?_
  refine n_iadd hx hb dL_law_257 ?_
  refine pl_sld hx hb hS0 hbl hbA hw.2.2.2.2.2 (show i + 1 < L by omega) hL dL_law_258 ?_
  refine CI.callW (As := [.int (xs (i + 1))]) (rest := [.int r]) (ci := 1) (n := 1) (pm_bestTop l D hM qM dM R S ra' tp' bt' (xs (i + 1)) hok) hcf hKm hA hw rfl rfl (cwV 1 hts (lw_V q251 q252 q253 q28 q254) rfl rfl rfl (by decide +kernel) ⟨Nat.le_of_ble_eq_true rfl, Nat.le_of_ble_eq_true rfl⟩) rfl hl.1 rfl (Nat.le_of_ble_eq_true rfl) ⟨Nat.le_of_ble_eq_true rfl, Nat.le_of_ble_eq_true rfl⟩ dL_law_259 (fun r' v H locs hv hw => ?_)
  have hw := hw.sw
  obtain ⟨er, hI⟩ := pl_best ps_frT (fun p s hp hlo hs => (ps_bestEq hok hp hlo hs).1) hok hsv hu hv
  exact lv_icmp_eq (tgt := 405) hx hb dL_law_262 (by decide) (fun _ => K u v H locs hI hw) (fun hn => absurd er hn)
set_option maxHeartbeats 4000000 in
set_option maxRecDepth 100000 in
theorem pl_op_bestBottom (hc : pl_C p s m c D A dX dM b L xs) (hi : i + 4 ≤ L) (hI : pl_I u v) (hw : pl_W D (xF hX qX dX u) (mF hM qM dM v) A s.heap H locs) (hl : lv_has ls 4 [(0, .ref b), (1, .ref hX), (2, .ref hM), (3, .int (nI i))])
    (K : ∀ (u : XS) (v : MS) (H : Heap) (locs : List Loc), pl_I u v → pl_W D (xF hX qX dX u) (mF hM qM dM v) A s.heap H locs → W p l e room_1 s m #[Value.ref b] below meth c H locs 14 281 Q (F0 m 405 ls [])) : W p l e room_1 s m #[Value.ref b] below meth c H locs 14 281 Q (F0 m 267 ls []) := by
  obtain ⟨hcf, hKx, hKm, hA, hS0, hbl, hbA, hL⟩ := hc
  obtain ⟨hx, hb, hml, hown, hts⟩ := id hcf
  obtain ⟨R, S, ra, tp, bo, kt, kb, so, bp, bt, bd, g⟩ := u
  obtain ⟨R', S', ra', tp', bt'⟩ := v
  obtain ⟨e1, e2, hok, hsv⟩ := hI
  have e1 : R = R' := e1
  have e2 : S = S' := e2
  have hok : ps_Ok R S := hok
  have hsv : ps_sv R S so bt bd g := hsv
  subst e1 e2
  refine lv_aload_n hx hb dL_law_267 rfl (lv_at hl 1 rfl) ?_
  refine lv_aload_n hx hb dL_law_268 rfl (lv_at hl 0 rfl) ?_
  refine lv_iload_n hx hb dL_law_269 rfl (lv_at hl 3 rfl) ?_
  refine lv_iconst (v := nI 1) hx hb dL_law_270 (by decide) ?_
  refine n_iadd hx hb dL_law_271 ?_
  refine pl_sld hx hb hS0 hbl hbA hw.2.2.2.2.2 (show i + 1 < L by omega) hL dL_law_272 ?_
  refine CI.callW (As := [.int (xs (i + 1))]) (rest := []) (ci := 0) (n := 1) (px_bestBottom l D hX qX dX R S ra tp bo kt kb so bp bt bd g (xs (i + 1)) hok hsv) hcf hKx hA hw rfl rfl (cwV 1 hts (lw_V q142 q143 q144 q27 q145) rfl rfl rfl (by decide +kernel) ⟨Nat.le_of_ble_eq_true rfl, Nat.le_of_ble_eq_true rfl⟩) rfl hl.1 rfl (Nat.le_of_ble_eq_true rfl) ⟨Nat.le_of_ble_eq_true rfl, Nat.le_of_ble_eq_true rfl⟩ dL_law_273 (fun r u H locs hu hw => ?_)
  have hw := hw.sw
  refine lv_aload_n hx hb dL_law_276 rfl (lv_at hl 2 rfl) ?_
  refine lv_aload_n hx hb dL_law_277 rfl (lv_at hl 0 rfl) ?_
  refine lv_iload_n hx hb dL_law_278 rfl (lv_at hl 3 rfl) ?_
  refine lv_iconst (v := nI 1) hx hb dL_law_279 (by decide) ?_
  refine n_iadd hx hb dL_law_280 ?_
  refine pl_sld hx hb hS0 hbl hbA hw.2.2.2.2.2 (show i + 1 < L by omega) hL dL_law_281 ?_
  refine CI.callW (As := [.int (xs (i + 1))]) (rest := [.int r]) (ci := 1) (n := 1) (pm_bestBottom l D hM qM dM R S ra' tp' bt' (xs (i + 1)) hok) hcf hKm hA hw rfl rfl (cwV 1 hts (lw_V q268 q269 q270 q28 q271) rfl rfl rfl (by decide +kernel) ⟨Nat.le_of_ble_eq_true rfl, Nat.le_of_ble_eq_true rfl⟩) rfl hl.1 rfl (Nat.le_of_ble_eq_true rfl) ⟨Nat.le_of_ble_eq_true rfl, Nat.le_of_ble_eq_true rfl⟩ dL_law_282 (fun r' v H locs hv hw => ?_)
  have hw := hw.sw
  obtain ⟨er, hI⟩ := pl_best ps_frB (fun p s hp hlo hs => (ps_bestEq hok hp hlo hs).2) hok hsv hu hv
  exact lv_icmp_eq (tgt := 405) hx hb dL_law_285 (by decide) (fun _ => K u v H locs hI hw) (fun hn => absurd er hn)
end LAWOPS
end
section
/-! the cases of the law, one call of the component beside one of the reference (printed by mkL.py) -/
section LAWOPS
variable {p : Program} {l : Launch} {e : Env} {s : State} {m : MethodId} {below : List Frame} {meth : Method} {c : Code} {H : Heap} {locs : List Loc} {Q : State → Prop}
variable {D : va_G} {A : Nat → Prop} {hX hM b L i : Nat} {qX qM : Nat → Nat} {dX dM : Nat → ClassId} {xs : Nat → Int32} {ls : Array Slot} {u : XS} {v : MS}
set_option maxHeartbeats 4000000 in
set_option maxRecDepth 100000 in
theorem pl_op_policy (hc : pl_C p s m c D A dX dM b L xs) (hi : i + 4 ≤ L) (hI : pl_I u v) (hw : pl_W D (xF hX qX dX u) (mF hM qM dM v) A s.heap H locs) (hl : lv_has ls 4 [(0, .ref b), (1, .ref hX), (2, .ref hM), (3, .int (nI i))])
    (K : ∀ (u : XS) (v : MS) (H : Heap) (locs : List Loc), pl_I u v → pl_W D (xF hX qX dX u) (mF hM qM dM v) A s.heap H locs → W p l e room_1 s m #[Value.ref b] below meth c H locs 14 281 Q (F0 m 405 ls [])) : W p l e room_1 s m #[Value.ref b] below meth c H locs 14 281 Q (F0 m 290 ls []) := by
  obtain ⟨hcf, hKx, hKm, hA, hS0, hbl, hbA, hL⟩ := hc
  obtain ⟨hx, hb, hml, hown, hts⟩ := id hcf
  obtain ⟨R, S, ra, tp, bo, kt, kb, so, bp, bt, bd, g⟩ := u
  obtain ⟨R', S', ra', tp', bt'⟩ := v
  obtain ⟨e1, e2, hok, hsv⟩ := hI
  have e1 : R = R' := e1
  have e2 : S = S' := e2
  have hok : ps_Ok R S := hok
  have hsv : ps_sv R S so bt bd g := hsv
  subst e1 e2
  refine lv_aload_n hx hb dL_law_290 rfl (lv_at hl 1 rfl) ?_
  refine CI.callW (As := []) (rest := []) (ci := 0) (n := 0) (px_policy l D hX qX dX R S ra tp bo kt kb so bp bt bd g  hok hsv) hcf hKx hA hw rfl rfl (cwV 0 hts (lw_V q146 q147 q148 q27 q149) rfl rfl rfl (by decide +kernel) ⟨Nat.le_of_ble_eq_true rfl, Nat.le_of_ble_eq_true rfl⟩) rfl hl.1 rfl (Nat.le_of_ble_eq_true rfl) ⟨Nat.le_of_ble_eq_true rfl, Nat.le_of_ble_eq_true rfl⟩ dL_law_291 (fun r u H locs hu hw => ?_)
  have hw := hw.sw
  refine lv_aload_n hx hb dL_law_294 rfl (lv_at hl 2 rfl) ?_
  refine CI.callW (As := []) (rest := [.int r]) (ci := 1) (n := 0) (pm_policy l D hM qM dM R S ra' tp' bt'  hok) hcf hKm hA hw rfl rfl (cwV 0 hts (lw_V q273 q274 q275 q28 q276) rfl rfl rfl (by decide +kernel) ⟨Nat.le_of_ble_eq_true rfl, Nat.le_of_ble_eq_true rfl⟩) rfl hl.1 rfl (Nat.le_of_ble_eq_true rfl) ⟨Nat.le_of_ble_eq_true rfl, Nat.le_of_ble_eq_true rfl⟩ dL_law_295 (fun r' v H locs hv hw => ?_)
  have hw := hw.sw
  obtain ⟨er, hI⟩ := pl_policy hok hu hv
  exact lv_icmp_eq (tgt := 405) hx hb dL_law_298 (by decide) (fun _ => K u v H locs hI hw) (fun hn => absurd er hn)
set_option maxHeartbeats 4000000 in
set_option maxRecDepth 100000 in
theorem pl_op_policies (hc : pl_C p s m c D A dX dM b L xs) (hi : i + 4 ≤ L) (hI : pl_I u v) (hw : pl_W D (xF hX qX dX u) (mF hM qM dM v) A s.heap H locs) (hl : lv_has ls 4 [(0, .ref b), (1, .ref hX), (2, .ref hM), (3, .int (nI i))])
    (K : ∀ (u : XS) (v : MS) (H : Heap) (locs : List Loc), pl_I u v → pl_W D (xF hX qX dX u) (mF hM qM dM v) A s.heap H locs → W p l e room_1 s m #[Value.ref b] below meth c H locs 14 281 Q (F0 m 405 ls [])) : W p l e room_1 s m #[Value.ref b] below meth c H locs 14 281 Q (F0 m 303 ls []) := by
  obtain ⟨hcf, hKx, hKm, hA, hS0, hbl, hbA, hL⟩ := hc
  obtain ⟨hx, hb, hml, hown, hts⟩ := id hcf
  obtain ⟨R, S, ra, tp, bo, kt, kb, so, bp, bt, bd, g⟩ := u
  obtain ⟨R', S', ra', tp', bt'⟩ := v
  obtain ⟨e1, e2, hok, hsv⟩ := hI
  have e1 : R = R' := e1
  have e2 : S = S' := e2
  have hok : ps_Ok R S := hok
  have hsv : ps_sv R S so bt bd g := hsv
  subst e1 e2
  refine lv_aload_n hx hb dL_law_303 rfl (lv_at hl 1 rfl) ?_
  refine CI.callW (As := []) (rest := []) (ci := 0) (n := 0) (px_policies l D hX qX dX R S ra tp bo kt kb so bp bt bd g  hok hsv) hcf hKx hA hw rfl rfl (cwV 0 hts (lw_V q150 q151 q152 q27 q153) rfl rfl rfl (by decide +kernel) ⟨Nat.le_of_ble_eq_true rfl, Nat.le_of_ble_eq_true rfl⟩) rfl hl.1 rfl (Nat.le_of_ble_eq_true rfl) ⟨Nat.le_of_ble_eq_true rfl, Nat.le_of_ble_eq_true rfl⟩ dL_law_304 (fun r u H locs hu hw => ?_)
  have hw := hw.sw
  refine lv_aload_n hx hb dL_law_307 rfl (lv_at hl 2 rfl) ?_
  refine CI.callW (As := []) (rest := [.int r]) (ci := 1) (n := 0) (pm_policies l D hM qM dM R S ra' tp' bt'  hok) hcf hKm hA hw rfl rfl (cwV 0 hts (lw_V q277 q278 q279 q28 q280) rfl rfl rfl (by decide +kernel) ⟨Nat.le_of_ble_eq_true rfl, Nat.le_of_ble_eq_true rfl⟩) rfl hl.1 rfl (Nat.le_of_ble_eq_true rfl) ⟨Nat.le_of_ble_eq_true rfl, Nat.le_of_ble_eq_true rfl⟩ dL_law_308 (fun r' v H locs hv hw => ?_)
  have hw := hw.sw
  obtain ⟨er, hI⟩ := pl_policies hok hu hv
  exact lv_icmp_eq (tgt := 405) hx hb dL_law_311 (by decide) (fun _ => K u v H locs hI hw) (fun hn => absurd er hn)
set_option maxHeartbeats 4000000 in
set_option maxRecDepth 100000 in
theorem pl_op_good (hc : pl_C p s m c D A dX dM b L xs) (hi : i + 4 ≤ L) (hI : pl_I u v) (hw : pl_W D (xF hX qX dX u) (mF hM qM dM v) A s.heap H locs) (hl : lv_has ls 4 [(0, .ref b), (1, .ref hX), (2, .ref hM), (3, .int (nI i))])
    (K : ∀ (u : XS) (v : MS) (H : Heap) (locs : List Loc), pl_I u v → pl_W D (xF hX qX dX u) (mF hM qM dM v) A s.heap H locs → W p l e room_1 s m #[Value.ref b] below meth c H locs 14 281 Q (F0 m 405 ls [])) : W p l e room_1 s m #[Value.ref b] below meth c H locs 14 281 Q (F0 m 316 ls []) := by
  obtain ⟨hcf, hKx, hKm, hA, hS0, hbl, hbA, hL⟩ := hc
  obtain ⟨hx, hb, hml, hown, hts⟩ := id hcf
  obtain ⟨R, S, ra, tp, bo, kt, kb, so, bp, bt, bd, g⟩ := u
  obtain ⟨R', S', ra', tp', bt'⟩ := v
  obtain ⟨e1, e2, hok, hsv⟩ := hI
  have e1 : R = R' := e1
  have e2 : S = S' := e2
  have hok : ps_Ok R S := hok
  have hsv : ps_sv R S so bt bd g := hsv
  subst e1 e2
  refine lv_aload_n hx hb dL_law_316 rfl (lv_at hl 1 rfl) ?_
  refine lv_aload_n hx hb dL_law_317 rfl (lv_at hl 0 rfl) ?_
  refine lv_iload_n hx hb dL_law_318 rfl (lv_at hl 3 rfl) ?_
  refine lv_iconst (v := nI 1) hx hb dL_law_319 (by decide) ?_
  refine n_iadd hx hb dL_law_320 ?_
  refine pl_sld hx hb hS0 hbl hbA hw.2.2.2.2.2 (show i + 1 < L by omega) hL dL_law_321 ?_
  refine lv_aload_n hx hb dL_law_322 rfl (lv_at hl 0 rfl) ?_
  refine lv_iload_n hx hb dL_law_323 rfl (lv_at hl 3 rfl) ?_
  refine lv_iconst (v := nI 2) hx hb dL_law_324 (by decide) ?_
  refine n_iadd hx hb dL_law_325 ?_
  refine pl_sld hx hb hS0 hbl hbA hw.2.2.2.2.2 (show i + 2 < L by omega) hL dL_law_326 ?_
  refine CI.callW (As := [.int (xs (i + 1)), .int (xs (i + 2))]) (rest := []) (ci := 0) (n := 2) (px_good l D hX qX dX R S ra tp bo kt kb so bp bt bd g (xs (i + 1)) (xs (i + 2)) hok hsv) hcf hKx hA hw rfl rfl (cwV 2 hts (lw_V q154 q155 q156 q27 q157) rfl rfl rfl (by decide +kernel) ⟨Nat.le_of_ble_eq_true rfl, Nat.le_of_ble_eq_true rfl⟩) rfl hl.1 rfl (Nat.le_of_ble_eq_true rfl) ⟨Nat.le_of_ble_eq_true rfl, Nat.le_of_ble_eq_true rfl⟩ dL_law_327 (fun r u H locs hu hw => ?_)
  have hw := hw.sw
  refine lv_aload_n hx hb dL_law_330 rfl (lv_at hl 2 rfl) ?_
  refine lv_aload_n hx hb dL_law_331 rfl (lv_at hl 0 rfl) ?_
  refine lv_iload_n hx hb dL_law_332 rfl (lv_at hl 3 rfl) ?_
  refine lv_iconst (v := nI 1) hx hb dL_law_333 (by decide) ?_
  refine n_iadd hx hb dL_law_334 ?_
  refine pl_sld hx hb hS0 hbl hbA hw.2.2.2.2.2 (show i + 1 < L by omega) hL dL_law_335 ?_
  refine lv_aload_n hx hb dL_law_336 rfl (lv_at hl 0 rfl) ?_
  refine lv_iload_n hx hb dL_law_337 rfl (lv_at hl 3 rfl) ?_
  refine lv_iconst (v := nI 2) hx hb dL_law_338 (by decide) ?_
  refine n_iadd hx hb dL_law_339 ?_
  refine pl_sld hx hb hS0 hbl hbA hw.2.2.2.2.2 (show i + 2 < L by omega) hL dL_law_340 ?_
  refine CI.callW (As := [.int (xs (i + 1)), .int (xs (i + 2))]) (rest := [.int r]) (ci := 1) (n := 2) (pm_good l D hM qM dM R S ra' tp' bt' (xs (i + 1)) (xs (i + 2)) hok) hcf hKm hA hw rfl rfl (cwV 2 hts (lw_V q281 q282 q283 q28 q284) rfl rfl rfl (by decide +kernel) ⟨Nat.le_of_ble_eq_true rfl, Nat.le_of_ble_eq_true rfl⟩) rfl hl.1 rfl (Nat.le_of_ble_eq_true rfl) ⟨Nat.le_of_ble_eq_true rfl, Nat.le_of_ble_eq_true rfl⟩ dL_law_341 (fun r' v H locs hv hw => ?_)
  have hw := hw.sw
  obtain ⟨er, hI⟩ := pl_good hok hsv hu hv
  exact lv_icmp_eq (tgt := 405) hx hb dL_law_344 (by decide) (fun _ => K u v H locs hI hw) (fun hn => absurd er hn)
set_option maxHeartbeats 4000000 in
set_option maxRecDepth 100000 in
theorem pl_op_prune (hc : pl_C p s m c D A dX dM b L xs) (hi : i + 4 ≤ L) (hI : pl_I u v) (hw : pl_W D (xF hX qX dX u) (mF hM qM dM v) A s.heap H locs) (hl : lv_has ls 4 [(0, .ref b), (1, .ref hX), (2, .ref hM), (3, .int (nI i))])
    (K : ∀ (u : XS) (v : MS) (H : Heap) (locs : List Loc), pl_I u v → pl_W D (xF hX qX dX u) (mF hM qM dM v) A s.heap H locs → W p l e room_1 s m #[Value.ref b] below meth c H locs 14 281 Q (F0 m 405 ls [])) : W p l e room_1 s m #[Value.ref b] below meth c H locs 14 281 Q (F0 m 349 ls []) := by
  obtain ⟨hcf, hKx, hKm, hA, hS0, hbl, hbA, hL⟩ := hc
  obtain ⟨hx, hb, hml, hown, hts⟩ := id hcf
  obtain ⟨R, S, ra, tp, bo, kt, kb, so, bp, bt, bd, g⟩ := u
  obtain ⟨R', S', ra', tp', bt'⟩ := v
  obtain ⟨e1, e2, hok, hsv⟩ := hI
  have e1 : R = R' := e1
  have e2 : S = S' := e2
  have hok : ps_Ok R S := hok
  have hsv : ps_sv R S so bt bd g := hsv
  subst e1 e2
  refine lv_aload_n hx hb dL_law_349 rfl (lv_at hl 1 rfl) ?_
  refine CI.callW (As := []) (rest := []) (ci := 0) (n := 0) (px_prune l D hX qX dX R S ra tp bo kt kb so bp bt bd g  hok hsv) hcf hKx hA hw rfl rfl (cwV 0 hts (lw_V q158 q159 q160 q27 q161) rfl rfl rfl (by decide +kernel) ⟨Nat.le_of_ble_eq_true rfl, Nat.le_of_ble_eq_true rfl⟩) rfl hl.1 rfl (Nat.le_of_ble_eq_true rfl) ⟨Nat.le_of_ble_eq_true rfl, Nat.le_of_ble_eq_true rfl⟩ dL_law_350 (fun r u H locs hu hw => ?_)
  have hw := hw.sw
  refine lv_aload_n hx hb dL_law_353 rfl (lv_at hl 2 rfl) ?_
  refine CI.callW (As := []) (rest := [.int r]) (ci := 1) (n := 0) (pm_prune l D hM qM dM R S ra' tp' bt'  hok) hcf hKm hA hw rfl rfl (cwV 0 hts (lw_V q285 q286 q287 q28 q288) rfl rfl rfl (by decide +kernel) ⟨Nat.le_of_ble_eq_true rfl, Nat.le_of_ble_eq_true rfl⟩) rfl hl.1 rfl (Nat.le_of_ble_eq_true rfl) ⟨Nat.le_of_ble_eq_true rfl, Nat.le_of_ble_eq_true rfl⟩ dL_law_354 (fun r' v H locs hv hw => ?_)
  have hw := hw.sw
  obtain ⟨er, hI⟩ := pl_prune hok hu hv
  exact lv_icmp_eq (tgt := 405) hx hb dL_law_357 (by decide) (fun _ => K u v H locs hI hw) (fun hn => absurd er hn)
set_option maxHeartbeats 4000000 in
set_option maxRecDepth 100000 in
theorem pl_op_compare (hc : pl_C p s m c D A dX dM b L xs) (hi : i + 4 ≤ L) (hI : pl_I u v) (hw : pl_W D (xF hX qX dX u) (mF hM qM dM v) A s.heap H locs) (hl : lv_has ls 4 [(0, .ref b), (1, .ref hX), (2, .ref hM), (3, .int (nI i))])
    (K : ∀ (u : XS) (v : MS) (H : Heap) (locs : List Loc), pl_I u v → pl_W D (xF hX qX dX u) (mF hM qM dM v) A s.heap H locs → W p l e room_1 s m #[Value.ref b] below meth c H locs 14 281 Q (F0 m 405 ls [])) : W p l e room_1 s m #[Value.ref b] below meth c H locs 14 281 Q (F0 m 362 ls []) := by
  obtain ⟨hcf, hKx, hKm, hA, hS0, hbl, hbA, hL⟩ := hc
  obtain ⟨hx, hb, hml, hown, hts⟩ := id hcf
  obtain ⟨R, S, ra, tp, bo, kt, kb, so, bp, bt, bd, g⟩ := u
  obtain ⟨R', S', ra', tp', bt'⟩ := v
  obtain ⟨e1, e2, hok, hsv⟩ := hI
  have e1 : R = R' := e1
  have e2 : S = S' := e2
  have hok : ps_Ok R S := hok
  have hsv : ps_sv R S so bt bd g := hsv
  subst e1 e2
  refine lv_aload_n hx hb dL_law_362 rfl (lv_at hl 1 rfl) ?_
  refine lv_aload_n hx hb dL_law_363 rfl (lv_at hl 0 rfl) ?_
  refine lv_iload_n hx hb dL_law_364 rfl (lv_at hl 3 rfl) ?_
  refine lv_iconst (v := nI 1) hx hb dL_law_365 (by decide) ?_
  refine n_iadd hx hb dL_law_366 ?_
  refine pl_sld hx hb hS0 hbl hbA hw.2.2.2.2.2 (show i + 1 < L by omega) hL dL_law_367 ?_
  refine lv_aload_n hx hb dL_law_368 rfl (lv_at hl 0 rfl) ?_
  refine lv_iload_n hx hb dL_law_369 rfl (lv_at hl 3 rfl) ?_
  refine lv_iconst (v := nI 2) hx hb dL_law_370 (by decide) ?_
  refine n_iadd hx hb dL_law_371 ?_
  refine pl_sld hx hb hS0 hbl hbA hw.2.2.2.2.2 (show i + 2 < L by omega) hL dL_law_372 ?_
  refine lv_aload_n hx hb dL_law_373 rfl (lv_at hl 0 rfl) ?_
  refine lv_iload_n hx hb dL_law_374 rfl (lv_at hl 3 rfl) ?_
  refine lv_iconst (v := nI 3) hx hb dL_law_375 (by decide) ?_
  refine n_iadd hx hb dL_law_376 ?_
  refine pl_sld hx hb hS0 hbl hbA hw.2.2.2.2.2 (show i + 3 < L by omega) hL dL_law_377 ?_
  refine CI.callW (As := [.int (xs (i + 1)), .int (xs (i + 2)), .int (xs (i + 3))]) (rest := []) (ci := 0) (n := 3) (px_compare l D hX qX dX R S ra tp bo kt kb so bp bt bd g (xs (i + 1)) (xs (i + 2)) (xs (i + 3)) hok) hcf hKx hA hw rfl rfl (cwV 3 hts (lw_V q166 q167 q168 q27 q169) rfl rfl rfl (by decide +kernel) ⟨Nat.le_of_ble_eq_true rfl, Nat.le_of_ble_eq_true rfl⟩) rfl hl.1 rfl (Nat.le_of_ble_eq_true rfl) ⟨Nat.le_of_ble_eq_true rfl, Nat.le_of_ble_eq_true rfl⟩ dL_law_378 (fun r u H locs hu hw => ?_)
  have hw := hw.sw
  refine lv_aload_n hx hb dL_law_381 rfl (lv_at hl 2 rfl) ?_
  refine lv_aload_n hx hb dL_law_382 rfl (lv_at hl 0 rfl) ?_
  refine lv_iload_n hx hb dL_law_383 rfl (lv_at hl 3 rfl) ?_
  refine lv_iconst (v := nI 1) hx hb dL_law_384 (by decide) ?_
  refine n_iadd hx hb dL_law_385 ?_
  refine pl_sld hx hb hS0 hbl hbA hw.2.2.2.2.2 (show i + 1 < L by omega) hL dL_law_386 ?_
  refine lv_aload_n hx hb dL_law_387 rfl (lv_at hl 0 rfl) ?_
  refine lv_iload_n hx hb dL_law_388 rfl (lv_at hl 3 rfl) ?_
  refine lv_iconst (v := nI 2) hx hb dL_law_389 (by decide) ?_
  refine n_iadd hx hb dL_law_390 ?_
  refine pl_sld hx hb hS0 hbl hbA hw.2.2.2.2.2 (show i + 2 < L by omega) hL dL_law_391 ?_
  refine lv_aload_n hx hb dL_law_392 rfl (lv_at hl 0 rfl) ?_
  refine lv_iload_n hx hb dL_law_393 rfl (lv_at hl 3 rfl) ?_
  refine lv_iconst (v := nI 3) hx hb dL_law_394 (by decide) ?_
  refine n_iadd hx hb dL_law_395 ?_
  refine pl_sld hx hb hS0 hbl hbA hw.2.2.2.2.2 (show i + 3 < L by omega) hL dL_law_396 ?_
  refine CI.callW (As := [.int (xs (i + 1)), .int (xs (i + 2)), .int (xs (i + 3))]) (rest := [.int r]) (ci := 1) (n := 3) (pm_compare l D hM qM dM R S ra' tp' bt' (xs (i + 1)) (xs (i + 2)) (xs (i + 3)) hok) hcf hKm hA hw rfl rfl (cwV 3 hts (lw_V q294 q295 q296 q28 q297) rfl rfl rfl (by decide +kernel) ⟨Nat.le_of_ble_eq_true rfl, Nat.le_of_ble_eq_true rfl⟩) rfl hl.1 rfl (Nat.le_of_ble_eq_true rfl) ⟨Nat.le_of_ble_eq_true rfl, Nat.le_of_ble_eq_true rfl⟩ dL_law_397 (fun r' v H locs hv hw => ?_)
  have hw := hw.sw
  obtain ⟨er, hI⟩ := pl_compare (fun p q s => ps_cmp (ps_tp R S p s * ps_bo R S q) (ps_tp R S q s * ps_bo R S p)) hok hsv hu hv
  exact lv_icmp_eq (tgt := 405) hx hb dL_law_400 (by decide) (fun _ => K u v H locs hI hw) (fun hn => absurd er hn)
end LAWOPS
end
section
/-! THE CLAIM OUT OF ONE WALK OF THE LAW'S BODY. Your part is whole_start (and what it stands on); all else here is the same for every law, but numbers. -/
def R_law : String := "PolicySolverLaw"
def lw_P (b : Addr) (xs : List Int32) (args : Array Value) (s : State) : Prop := args = #[.ref b] ∧ s.IntsAt b xs ∧ xs.length ≤ 256 ∧ (Jvm.Cond.and given_1 narrow_1).before args s = true
def lw_Q (_ : Array Value) (s : State) (o : Outcome) (t : State) : Prop := o = .returned (some (.int 1)) ∧ Framed s o t [] 600000 7290000
def lw_Z (below : List Frame) (a : Array Value) (s : State) : State → Prop := fun t => ∃ o, t.status = .running ∧ Ended t below o ∧ lw_Q a s o t
/-- the law's own end, with 1 on the stack, nothing written that was there before, its room as the claim has it -/
theorem lw_ret {p : Program} {l : Launch} {e : Env} {s : State} {m : MethodId} {below : List Frame} {meth : Method} {c : Code} {b : Nat} (hx : p.tables.exec = Jvm.exec) (hb : c.code = code) (hr : meth.sig.returnType = ret) (hlocks : meth.locks = false) {pc : Nat} {H : Heap} {ls : Array Slot} (hdg : decode code pc = .ok (.ireturn, 1)) : W p l e room_1 s m #[Value.ref b] below meth c H [] 600000 7290000 (lw_Z below #[Value.ref b] s) (F0 m pc ls [.int 1]) := by
  intro T hT X
  obtain ⟨fs, hret, hrun, hended, hW, hframe⟩ := X.leave (v := some (.int 1)) (hlocks := hlocks) (fun h => by rw [hr] at h; cases h)
  have hmeth' : T.vm.method? m = some meth := X.method'
  refine ⟨T.setFrames fs, ?_, .returned (some (.int 1)), hrun, hended, rfl, ⟨_, rfl⟩, hW, hframe⟩
  jvm_step X.here [X.here.top, hx, hb, hdg, hmeth', hr, ret, narrow_b1]
  (try refine ⟨rfl, ?_⟩); (try refine ⟨rfl, ?_⟩)
  first | (intro acts; rw [hret _ acts rfl rfl rfl]) | rw [hret _ _ rfl rfl rfl]
  exact Steps.refl _
/-- what holds at the law's entry: the machine, the code, the tables' words (any of lw_tbl by 'hts w (by decide +kernel)'), the script of L ints xs at the cell b, what the Statement gives of the start (any of its parts by flat_of_before) -/
def lw_At (p : Program) (s : State) (m : MethodId) (meth : Method) (c : Code) (b L : Nat) (xs : Nat → Int32) : Prop :=
  p.tables.exec = Jvm.exec ∧ c.code = code ∧ meth.sig.returnType = ret ∧ c.maxLocals = 4 ∧ s.vm.findClass R_law = some m.cls ∧ (∀ w ∈ lw_tbl, w.before #[Value.ref b] s = true) ∧ va_X b L xs s s.heap ∧ b < s.heap.size ∧ meth.locks = false ∧ (Jvm.Cond.and given_1 narrow_1).before #[Value.ref b] s = true
theorem pl_head {L i : Nat} (hL : L ≤ 256) (hi : i ≤ L) (h : ¬ nI L - nI 4 < nI i) : i + 4 ≤ L := by
  have h2 : ¬ (nI L - nI 4).toInt < (nI i).toInt := fun q => h (Int32.lt_iff_toInt_lt.mpr q)
  rw [Int32.toInt_sub, nI_toInt (show L < 2 ^ 31 by omega), nI_toInt (show 4 < 2 ^ 31 by decide), nI_toInt (show i < 2 ^ 31 by omega), Int.bmod_eq_of_le (by omega) (by omega)] at h2
  omega
theorem pl_inc4 (i : Nat) : nI i + Int32.ofInt 4 = nI (i + 4) := by
  rw [show Int32.ofInt 4 = nI 4 from by decide]
  exact nI_add i 4
set_option maxHeartbeats 4000000 in
set_option maxRecDepth 100000 in
/-- the law's loop at its head -/
theorem pl_loop {p : Program} {l : Launch} {e : Env} {s : State} {m : MethodId} {below : List Frame} {meth : Method} {c : Code} {D : va_G} {A : Nat → Prop} {hX hM b L : Nat} {qX qM : Nat → Nat} {dX dM : Nat → ClassId} {xs : Nat → Int32} (hc : pl_C p s m c D A dX dM b L xs) (hr : meth.sig.returnType = ret) (hlocks : meth.locks = false) (hAf : ∀ q, A q → s.heap.size ≤ q) :
    ∀ (n i : Nat), i ≤ L → L + 1 ≤ i + n → ∀ (u : XS) (v : MS) (H : Heap) (locs : List Loc) (ls : Array Slot), pl_I u v → pl_W D (xF hX qX dX u) (mF hM qM dM v) A s.heap H locs → lv_has ls 4 [(0, .ref b), (1, .ref hX), (2, .ref hM), (3, .int (nI i))] → W p l e room_1 s m #[Value.ref b] below meth c H locs 14 281 (lw_Z below #[Value.ref b] s) (F0 m 18 ls []) := by
  intro n
  induction n with
  | zero =>
    intro i h1 h2
    exact absurd h2 (by omega)
  | succ n ih =>
    intro i hi hn u v H locs ls hI hw hl
    obtain ⟨hcf, hKx, hKm, hA, hS0, hbl, hbA, hL⟩ := id hc
    obtain ⟨hx, hb, hml, hown, hts⟩ := id hcf
    have hS := hw.2.2.2.2.2
    refine lv_iload_n hx hb dL_law_18 rfl (lv_at hl 3 rfl) ?_
    refine lv_aload_n hx hb dL_law_19 rfl (lv_at hl 0 rfl) ?_
    refine va_slen hx hb hS0 hbl hbA hS dL_law_20 ?_
    refine lv_iconst (v := nI 4) hx hb dL_law_21 (by decide) ?_
    refine lv_isub hx hb dL_law_22 ?_
    refine lv_icmp_gt (tgt := 411) hx hb dL_law_23 (by decide) (fun h1 => ?_) (fun h1 => ?_)
    · refine lv_iconst (v := 1) hx hb dL_law_411 (by decide) ?_
      refine va_forget (fun q hq => hAf _ (hS.2.2 q hq)) ?_
      refine W.widen (k := 600000) (n := 7290000) (Nat.le_of_ble_eq_true rfl) (Nat.le_of_ble_eq_true rfl) ?_
      exact lw_ret hx hb hr hlocks dL_law_412
    · have h2 : i + 4 ≤ L := pl_head hL hi h1
      have K : ∀ (u : XS) (v : MS) (H : Heap) (locs : List Loc), pl_I u v → pl_W D (xF hX qX dX u) (mF hM qM dM v) A s.heap H locs → W p l e room_1 s m #[Value.ref b] below meth c H locs 14 281 (lw_Z below #[Value.ref b] s) (F0 m 405 ls []) := by
        intro u v H locs hI hw
        refine lv_iinc (v := nI (i + 4)) (lv' := [(3, .int (nI (i + 4))), (0, .ref b), (1, .ref hX), (2, .ref hM)]) hx hb dL_law_405 hl (k := 3) rfl (pl_inc4 _) (by decide) rfl (fun ls hl => ?_)
        refine lv_goto (tgt := 18) hx hb dL_law_408 (by decide) ?_
        exact ih (i + 4) h2 (by omega) u v H locs ls hI hw (lv_sub hl [1, 2, 3, 0] rfl)
      refine lv_aload_n hx hb dL_law_26 rfl (lv_at hl 0 rfl) ?_
      refine lv_iload_n hx hb dL_law_27 rfl (lv_at hl 3 rfl) ?_
      refine pl_sld hx hb hS0 hbl hbA hS (show i < L by omega) hL dL_law_28 ?_
      refine lv_bipush (v := 15) hx hb dL_law_29 (by decide) ?_
      refine lv_iand hx hb dL_law_31 ?_
      generalize xs i &&& 15 = x
      have hx9 : x.toInt = 0 ∨ x.toInt = 1 ∨ x.toInt = 2 ∨ x.toInt = 3 ∨ x.toInt = 4 ∨ x.toInt = 5 ∨ x.toInt = 6 ∨ x.toInt = 7 ∨ x.toInt = 8 ∨ x.toInt = 9 ∨ x.toInt = 10 ∨ (x.toInt < 0 ∨ 10 < x.toInt) := by omega
      rcases hx9 with h9 | h9 | h9 | h9 | h9 | h9 | h9 | h9 | h9 | h9 | h9 | h9
      · refine lv_tableIn (off := 60) (tgt := 92) hx hb dL_law_32 (by rw [h9]; decide) (by rw [h9]; decide) (by rw [h9]; rfl) (by decide) ?_
        exact pl_op_reward hc h2 hI hw hl K
      · refine lv_tableIn (off := 103) (tgt := 135) hx hb dL_law_32 (by rw [h9]; decide) (by rw [h9]; decide) (by rw [h9]; rfl) (by decide) ?_
        exact pl_op_shares hc h2 hI hw hl K
      · refine lv_tableIn (off := 146) (tgt := 178) hx hb dL_law_32 (by rw [h9]; decide) (by rw [h9]; decide) (by rw [h9]; rfl) (by decide) ?_
        exact pl_op_valueTop hc h2 hI hw hl K
      · refine lv_tableIn (off := 179) (tgt := 211) hx hb dL_law_32 (by rw [h9]; decide) (by rw [h9]; decide) (by rw [h9]; rfl) (by decide) ?_
        exact pl_op_valueBottom hc h2 hI hw hl K
      · refine lv_tableIn (off := 212) (tgt := 244) hx hb dL_law_32 (by rw [h9]; decide) (by rw [h9]; decide) (by rw [h9]; rfl) (by decide) ?_
        exact pl_op_bestTop hc h2 hI hw hl K
      · refine lv_tableIn (off := 235) (tgt := 267) hx hb dL_law_32 (by rw [h9]; decide) (by rw [h9]; decide) (by rw [h9]; rfl) (by decide) ?_
        exact pl_op_bestBottom hc h2 hI hw hl K
      · refine lv_tableIn (off := 258) (tgt := 290) hx hb dL_law_32 (by rw [h9]; decide) (by rw [h9]; decide) (by rw [h9]; rfl) (by decide) ?_
        exact pl_op_policy hc h2 hI hw hl K
      · refine lv_tableIn (off := 271) (tgt := 303) hx hb dL_law_32 (by rw [h9]; decide) (by rw [h9]; decide) (by rw [h9]; rfl) (by decide) ?_
        exact pl_op_policies hc h2 hI hw hl K
      · refine lv_tableIn (off := 284) (tgt := 316) hx hb dL_law_32 (by rw [h9]; decide) (by rw [h9]; decide) (by rw [h9]; rfl) (by decide) ?_
        exact pl_op_good hc h2 hI hw hl K
      · refine lv_tableIn (off := 317) (tgt := 349) hx hb dL_law_32 (by rw [h9]; decide) (by rw [h9]; decide) (by rw [h9]; rfl) (by decide) ?_
        exact pl_op_prune hc h2 hI hw hl K
      · refine lv_tableIn (off := 330) (tgt := 362) hx hb dL_law_32 (by rw [h9]; decide) (by rw [h9]; decide) (by rw [h9]; rfl) (by decide) ?_
        exact pl_op_compare hc h2 hI hw hl K
      · refine lv_tableOut (tgt := 405) hx hb dL_law_32 h9 (by decide) ?_
        exact K u v H locs hI hw
set_option maxHeartbeats 4000000 in
set_option maxRecDepth 100000 in
theorem whole_start {p : Program} {e : Env} {s : State} {m : MethodId} {below : List Frame} {meth : Method} {c : Code} (l : Launch) {b L : Nat} {xs : Nat → Int32} (hL : L ≤ 256) (C0 : lw_At p s m meth c b L xs) : W p l e room_1 s m #[Value.ref b] below meth c s.heap [] 0 0 (lw_Z below #[Value.ref b] s) (entryFrame m ([Value.ref b] : List Value).toArray 4) := by
  obtain ⟨hx, hb, hr, hml, hown, hts0, hX0, hbl, hlocks, hgv⟩ := id C0
  have hts : ∀ w ∈ lw_all, w.before #[Value.ref b] s = true := fun w h => hts0 w (lw_all_tbl h)
  have hA : ∀ q : Nat, s.heap.size ≤ q → (fun q : Nat => s.heap.size ≤ q) q := fun _ h => h
  have hbA : ¬ (fun q : Nat => s.heap.size ≤ q) b := Nat.not_le.mpr hbl
  obtain ⟨c0, iS0, hKn0⟩ := u_known (C := RX0) (T := TX0) (N := 12) (n := 12) hts in_X0 (hts _ q30)
  obtain ⟨c1, iS1, hKn1⟩ := u_known (C := RX1) (T := TX1) (N := 5) (n := 5) hts in_X1 (hts _ q175)
  obtain ⟨D, hKc⟩ : ∃ D : va_G, ∀ (k : Nat) (q : vw_C), vwCl[k]? = some q → u_Kn s q.1 q.2.1 q.2.2 (D.1 k) (D.2 k) := by
    refine ⟨(fun k => if k = 0 then c0 else c1, fun k => if k = 0 then iS0 else iS1), ?_⟩
    intro k q hq
    match k, hq with
    | 0, hq => cases hq; exact hKn0
    | 1, hq => cases hq; exact hKn1
    | k + 2, hq => simp [vwCl] at hq
  have hS : va_S (fun q : Nat => s.heap.size ≤ q) s.heap s.heap [] := va_S.rf
  have hK : va_K D vwCl [] s := ⟨hKc, fun k q h => by simp at h⟩
  have hP : va_P D vwCl [] s.heap := fun k q h => by simp at h
  have hD : va_D (fun q : Nat => s.heap.size ≤ q) [] := ⟨fun i j p q h => by simp at h, fun k q h => by simp at h⟩
  have hcf : CallFix p m c code 4 s #[Value.ref b] lw_all "PolicySolverLaw" := ⟨hx, hb, hml, hown, hts⟩
  have hl := lv_entry ([.ref b]) (n := 4) (Nat.le_of_ble_eq_true rfl)
  rw [lg_entry_eq]
  generalize (lg_sl ([.ref b]) ++ List.replicate (4 - (lg_sl ([.ref b])).length) Slot.unset).toArray = ls at hl ⊢
  have hl : lv_has ls 4 [(0, .ref b)] := hl
  refine va_new (ci := 0) (fs := [.null, .null, .null, .null, .long 0, .null, .long 0, .int 0, .int 0, .null, .long 0, .null]) (C := RX0) (T := TX0) (N := 12) hx hb hts in_X0 tyX0 tyX0_ok hown (hts _ q29) (hts _ q30) (hts _ q27) hK hP hD hS hA rfl (fun j hj => by rcases (show j = 0 ∨ j = 1 ∨ j = 2 ∨ j = 3 ∨ j = 4 ∨ j = 5 ∨ j = 6 ∨ j = 7 ∨ j = 8 ∨ j = 9 ∨ j = 10 ∨ j = 11 by omega) with rfl | rfl | rfl | rfl | rfl | rfl | rfl | rfl | rfl | rfl | rfl | rfl <;> rfl) (Nat.le_of_ble_eq_true rfl) (Nat.le_of_ble_eq_true rfl) dL_law_0 (fun hX H hP hD hS => ?_)
  have hw : pl_W D [(hX, .inr (0, [.null, .null, .null, .null, .long 0, .null, .long 0, .int 0, .int 0, .null, .long 0, .null]))] [] (fun q : Nat => s.heap.size ≤ q) s.heap H [] := pl_W.app (by rw [List.append_nil]; exact hP) (by rw [List.append_nil]; exact hD) hS
  refine W.widen (k := 1) (n := 12) (by omega) (by omega) ?_
  refine lv_dup hx hb dL_law_3 rfl ?_
  refine CN.call (As := []) (rest := [.ref hX]) (n := 0) (px_init l D hX) hcf hK hA hw (cwI 0 hts (lw_meth q33) rfl rfl rfl (hts _ q27) (hts _ q31) (hts _ q32) rfl (by decide +kernel) ⟨Nat.le_of_ble_eq_true rfl, Nat.le_of_ble_eq_true rfl⟩) rfl hl.1 rfl (Nat.le_of_ble_eq_true rfl) ⟨Nat.le_of_ble_eq_true rfl, Nat.le_of_ble_eq_true rfl⟩ dL_law_4 (fun u H locs hu hKx hw => ?_)
  obtain ⟨qX, dX, u⟩ := u
  refine W.widen (k := 8) (n := 88) (by omega) (by omega) ?_
  refine lv_astore_n (lv' := [(1, .ref hX), (0, .ref b)]) hx hb dL_law_7 rfl hl (by decide) rfl (fun ls hl => ?_)
  refine va_new (ci := 1) (fs := [.null, .null, .null, .null, .null]) (C := RX1) (T := TX1) (N := 5) hx hb hts in_X1 tyX1 tyX1_ok hown (hts _ q174) (hts _ q175) (hts _ q28) hK hw.1 hw.2.2.1 hw.2.2.2.2.2 hA rfl (fun j hj => by rcases (show j = 0 ∨ j = 1 ∨ j = 2 ∨ j = 3 ∨ j = 4 by omega) with rfl | rfl | rfl | rfl | rfl <;> rfl) (Nat.le_of_ble_eq_true rfl) (Nat.le_of_ble_eq_true rfl) dL_law_8 (fun hM H hP hD hS => ?_)
  have hw := (pl_W.app hP hD hS).sw
  refine W.widen (k := 9) (n := 93) (by omega) (by omega) ?_
  refine lv_dup hx hb dL_law_11 rfl ?_
  refine CN.call (As := []) (rest := [.ref hM]) (n := 0) (pm_init l D hM) hcf hK hA hw (cwI 0 hts (lw_meth q178) rfl rfl rfl (hts _ q28) (hts _ q176) (hts _ q177) rfl (by decide +kernel) ⟨Nat.le_of_ble_eq_true rfl, Nat.le_of_ble_eq_true rfl⟩) rfl hl.1 rfl (Nat.le_of_ble_eq_true rfl) ⟨Nat.le_of_ble_eq_true rfl, Nat.le_of_ble_eq_true rfl⟩ dL_law_12 (fun v H locs hv hKm hw => ?_)
  obtain ⟨qM, dM, v⟩ := v
  have hw := hw.sw
  refine W.widen (k := 14) (n := 281) (by omega) (by omega) ?_
  refine lv_astore_n (lv' := [(2, .ref hM), (1, .ref hX), (0, .ref b)]) hx hb dL_law_15 rfl hl (by decide) rfl (fun ls hl => ?_)
  refine lv_iconst (v := nI 0) hx hb dL_law_16 (by decide) ?_
  refine lv_istore_n (lv' := [(3, .int (nI 0)), (2, .ref hM), (1, .ref hX), (0, .ref b)]) hx hb dL_law_17 rfl hl (by decide) rfl (fun ls hl => ?_)
  exact pl_loop (hX := hX) (hM := hM) (qX := qX) (qM := qM) ⟨hcf, hKx, hKm, hA, hX0, hbl, hbA, hL⟩ hr hlocks (fun _ h => h) (L + 1) 0 (Nat.zero_le L) (by omega) u v H locs ls (pl_I0 hu.1 hu.2.1 hu.2.2 hv.1 hv.2) hw (lv_sub hl [3, 2, 1, 0] rfl)
end
section
set_option maxHeartbeats 4000000 in
theorem lw_walk (l : Launch) (b : Addr) (xs : List Int32) : MetFree l x (headSpec (Jvm.Cond.code x code maxLocals ret :: tables_1) room_1) (lw_P b xs) (fun _ _ _ _ _ => True) lw_Q := by
  refine MetFree.of_bodyS (code := code) (maxLocals := maxLocals) (ret := ret) (by decide) ?_ ?_
  · intro args s m h hn
    obtain ⟨meth, c, h1, h2, h3, h4, h5, h6, -, -⟩ := Cond.code_spec hn (atoms_spec (ws := Jvm.Cond.code x code maxLocals ret :: tables_1) h _ List.mem_cons_self)
    exact ⟨meth, c, h1, h2, h3, h4, h5, h6⟩
  · intro p e s m args below meth c s₁ B hml0 hP _
    obtain ⟨rfl, hx, hbd, hgv⟩ := hP
    obtain ⟨scr, harrAt, hlist, hof, hsmall⟩ := hx
    obtain ⟨hcb, hkn, -, -⟩ := State.arrayAt?_spec harrAt
    have hown : s.vm.findClass R_law = some m.cls := findClass_of_methodNamed B.named
    have hts0 : ∀ c ∈ (Jvm.Cond.code x code maxLocals ret :: tables_1), c.before #[Value.ref b] s = true := atoms_spec (ws := Jvm.Cond.code x code maxLocals ret :: tables_1) B.pre
    have hts : ∀ w ∈ lw_tbl, w.before #[Value.ref b] s = true := k2_hts_sels lw_privs (fun w hw => hts0 w (List.mem_cons_of_mem _ hw)) lw_privs_ok
    have hml : c.maxLocals = 4 := B.maxLocals_eq (hts0 _ List.mem_cons_self)
    have X₀ : Stand p l e room_1 s m #[Value.ref b] below meth c s₁ [] 0 0 := Stand.of_body B
    have hh0 : s₁.heap = s.heap := by rw [B.state]; rfl
    have hsz : scr.slots.size = xs.length := by rw [← Array.length_toList, hlist, List.length_map]
    have hval : ∀ j : Nat, j < xs.length → scr.slots[j]? = some (.int (xs.getD j 0)) := fun j hj => by
      rw [← Array.getElem?_toList, hlist]
      simp [hj]
    have hbl : b < s.heap.size := (Array.getElem?_eq_some_iff.mp hcb).1
    have hX : va_X b xs.length (fun j => xs.getD j 0) s s.heap := ⟨scr, hcb, hof, hkn, hsz, hval⟩
    have K : W p l e room_1 s m #[Value.ref b] below meth c s₁.heap [] 0 0 (lw_Z below #[Value.ref b] s) (entryFrame m ([Value.ref b] : List Value).toArray 4) := by
      rw [hh0]
      exact whole_start l hbd ⟨B.exec, B.bytes, B.returns, hml, hown, hts, hX, hbl, B.notSynchronized, hgv⟩
    obtain ⟨t, a1, o, b1, b2, b3⟩ := K s₁ rfl X₀
    exact ⟨t, o, a1, b1, b2, b3⟩
theorem lw_pre_spec {args : Array Value} {s : State} (h : (Jvm.Cond.and given_1 narrow_1).before args s = true) (hr : rest_1_c.before args s = true) : ∃ (b : Addr) (xs : List Int32), lw_P b xs args s := by
  have hs := flat_of_before _ h
  have hq := flat_of_before _ hr
  have hc : (Cond.count 1).before args s = true := hs _ (by decide +kernel)
  have harr : (Cond.arrayOf (.arg 0) .int).before args s = true := hs _ (by decide +kernel)
  have hle : (Cond.le (.length (.arg 0)) (.int 256)).before args s = true := hs _ (by decide +kernel)
  have hlen : (Cond.isInt (.length (.arg 0))).before args s = true := hq _ (by decide +kernel)
  have hall : (Cond.all (.arg 0) (.isInt (.elem (.arg 0) (.index 0)))).before args s = true := hq _ (by decide +kernel)
  obtain ⟨b, xs, hb, hx⟩ := State.ints_of_pre rfl harr hlen hall
  have hsm : xs.length < 2 ^ 31 := hx.choose_spec.2.2.2
  have hev : (Term.length (.arg 0)).eval args s none [] s = some (.int xs.length.toInt32) := hx.length_eval hb
  have hv := Cond.le_ints hev (show (Term.int 256).eval args s none [] s = some (.int 256) from rfl)
  have hd : xs.length.toInt32 ≤ 256 := by
    simpa [Cond.before, Cond.holds, hv] using hle
  have hN : xs.length ≤ 256 := (Int32.ofNat_le_ofNat hsm (by decide)).mp (show Int32.ofNat xs.length ≤ Int32.ofNat 256 from hd)
  exact ⟨b, xs, Cond.one_arg hc (show args[0]? = some (.ref b) from hb), hx, hN, h⟩
theorem lw_comes (l : Launch) : Comes l x (Jvm.Cond.code x code maxLocals ret :: tables_1) room_1 (fun tb e args s => Calls_1 tb e args s ∧ rest_1 tb e args s ∧ Pre_1 tb e args s)
    (fun _ _ args s o t => lw_Q args s o t) := by
  intro p e ha hc hk s m args below hf hfit hheap happ hpre
  obtain ⟨b, xs, hP⟩ := lw_pre_spec hpre.2.2 hpre.2.1
  obtain ⟨k, o, h1, h2, h3, hQ⟩ := lw_walk l b xs p e ha hc hk s m args below hf ((Spec.applies_iff_loose hf).mp happ).1 hP trivial
  exact ⟨k, o, h1, h2, h3, hQ⟩
theorem lw_frame {s t : State} {o : Outcome} {args : Array Value} (h : Framed s o t [] 600000 7290000) :
    Framed s o t (fieldLocs frame_1_writes args s ++ arrayLocs frame_1_arrays args s ++ staticLocs frame_1_statics s) 600000 7290000 := h
theorem lw_limb (L : Cond) (hL : ∀ (args : Array Value) (s t : State), L.after args s (.returned (some (.int 1))) t = true) :
    ArmFor flags0 classFile x code maxLocals ret World_1 tables_1 room_1 Calls_1 rest_1 Pre_1
      (fun tb e a s o t => postC L tb e a s o t ∧ Framed s o t (fieldLocs frame_1_writes a s ++ arrayLocs frame_1_arrays a s ++ staticLocs frame_1_statics s) 600000 7290000) := by
  intro l _ _ _ p e ha hc hk s m args below hf hfit hheap happ hpre
  obtain ⟨k, o, h1, h2, h3, rfl, hF⟩ := lw_comes l p e ha hc hk s m args below hf hfit hheap happ hpre
  exact ⟨k, _, h1, h2, h3, hL args s _, lw_frame hF⟩
theorem i_vc : Claimed_1_1 ∧ Claimed_1_2 := ⟨lw_limb limb_1_1 (fun args s t => by simp [limb_1_1, Cond.after, Cond.holds, Cond.value]), lw_limb limb_1_2 (fun args s t => Cond.after_iff.mpr (by
  first | (rw [show limb_1_2 = Cond.eq .result (.int 1) from rfl, Cond.eq_ints (x := 1) (y := 1) rfl rfl]; simp; done) | (simp [limb_1_2, Cond.value, Term.eval]; done)))⟩
end
